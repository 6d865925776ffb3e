section
/-! pure rows to paste: stores, nI and lN arithmetic, masks, shifts, narrowing, branches by naturals (pk_le, pk_lt, pk_eq), loops (lp1 .. lp16: the measure of the state; rp1 ..: recursion), negatives. Take what you need -/
theorem pk_us {f : Nat → Int32} {k : Nat} {x : Int32} : upd f k x k = x := if_pos rfl
theorem pk_un {f : Nat → Int32} {k j : Nat} {x : Int32} (h : j ≠ k) : upd f k x j = f j := if_neg h
theorem pk_uLs {f : Nat → Int64} {k : Nat} {x : Int64} : vp_updL f k x k = x := if_pos rfl
theorem pk_uLn {f : Nat → Int64} {k j : Nat} {x : Int64} (h : j ≠ k) : vp_updL f k x j = f j := if_neg h
theorem pk_sub {a b : Nat} (h : b ≤ a) : nI a - nI b = nI (a - b) := by
  obtain ⟨c, rfl⟩ : ∃ c, a = c + b := ⟨a - b, by omega⟩
  rw [← nI_add, Int32.add_sub_cancel, Nat.add_sub_cancel]
theorem pk_m1 (n : Nat) : nI (n + 1) + (-1) = nI n := by
  rw [← nI_1, Int32.add_assoc, show (1 : Int32) + (-1) = 0 from rfl, Int32.add_zero]
theorem pk_mul (a b : Nat) : nI a * nI b = nI (a * b) := (Int32.ofNat_mul a b).symm
theorem pk_div {a d : Nat} (ha : a < 2 ^ 31) (h0 : 0 < d) (hd : d < 2 ^ 31) : nI a / nI d = nI (a / d) := by
  apply Int32.toInt_inj.mp
  rw [lg_idiv_nonneg (by rw [nI_toInt ha]; omega) (by rw [nI_toInt hd]; omega), nI_toInt ha, nI_toInt hd, nI_toInt (Nat.lt_of_le_of_lt (Nat.div_le_self a d) ha)]
  first | rfl | exact (Int.natCast_ediv _ _).symm
theorem pk_rem {a d : Nat} (ha : a < 2 ^ 31) (h0 : 0 < d) (hd : d < 2 ^ 31) : nI a - nI a / nI d * nI d = nI (a % d) := by
  rw [pk_div ha h0 hd, pk_mul, pk_sub (Nat.div_mul_le_self a d)]
  exact congrArg nI (by have := Nat.div_add_mod' a d; omega)
theorem pk_sub_toInt {a b : Nat} (ha : a < 2 ^ 30) (hb : b < 2 ^ 30) : (nI a - nI b).toInt = (a : Int) - b := by
  rw [Int32.toInt_sub, nI_toInt (by omega), nI_toInt (by omega)]
  exact Int.bmod_eq_of_le (by omega) (by omega)
theorem pk_sneg {a b : Nat} (hb : b < 2 ^ 30) (h : a < b) : nI a - nI b < 0 := by
  rw [Int32.lt_iff_toInt_lt, pk_sub_toInt (by omega) hb, show (0 : Int32).toInt = 0 from by decide]
  omega
theorem pk_ix (x : Int32) {n : Nat} (hn : n < 2 ^ 31) : x < 0 ∨ nI n ≤ x ∨ ∃ j : Nat, j < n ∧ x = nI j := by
  by_cases h : x < 0
  · exact Or.inl h
  · obtain ⟨j, hj, rfl⟩ := nI_of h
    by_cases h2 : j < n
    · exact Or.inr (Or.inr ⟨j, h2, rfl⟩)
    · exact Or.inr (Or.inl (nI_le (by omega) hj))
theorem pk_le {x y : Int32} {A B : Prop} (a b : Nat) (f : a ≤ b → A) (g : b < a → B) (hx : x = nI a := by rfl) (hy : y = nI b := by rfl) (ha : a < 2 ^ 31 := by omega) (hb : b < 2 ^ 31 := by omega) : (x ≤ y → A) ∧ (¬ x ≤ y → B) := by
  subst hx hy
  rw [nI_leI ha hb]
  exact ⟨f, fun z => g (by omega)⟩
theorem pk_lt {x y : Int32} {A B : Prop} (a b : Nat) (f : a < b → A) (g : b ≤ a → B) (hx : x = nI a := by rfl) (hy : y = nI b := by rfl) (ha : a < 2 ^ 31 := by omega) (hb : b < 2 ^ 31 := by omega) : (x < y → A) ∧ (¬ x < y → B) := by
  subst hx hy
  rw [nI_ltI ha hb]
  exact ⟨f, fun z => g (by omega)⟩
theorem pk_eq {x y : Int32} {A B : Prop} (a b : Nat) (f : a = b → A) (g : a ≠ b → B) (hx : x = nI a := by rfl) (hy : y = nI b := by rfl) (ha : a < 2 ^ 31 := by omega) (hb : b < 2 ^ 31 := by omega) : (x = y → A) ∧ (¬ x = y → B) := by
  subst hx hy
  rw [nI_eq ha hb]
  exact ⟨f, g⟩
theorem pk_in {x : Int32} (n N : Nat) (h : n < N) (hx : x = nI n := by rfl) (hN : N < 2 ^ 31 := by omega) : vp_in x N := by
  subst hx
  exact vp_in_nI h hN
theorem pk_cl {x : Int32} (n : Nat) (hx : x = nI n := by rfl) (h : n < 2 ^ 31 := by omega) : x.toNatClampNeg = n := by
  subst hx
  exact nI_clamp h
theorem pk_tn {n : Nat} (h : n < 2 ^ 32) : (nI n).toBitVec.toNat = n := Nat.mod_eq_of_lt h
theorem pk_and (x : Int32) {m : Int32} (k : Nat) (hm : m.toBitVec.toNat = 2 ^ k - 1) : x &&& m = nI (x.toBitVec.toNat % 2 ^ k) := by
  apply Int32.toBitVec_inj.mp
  apply BitVec.eq_of_toNat_eq
  rw [Int32.toBitVec_and, BitVec.toNat_and, hm, Nat.and_two_pow_sub_one_eq_mod]
  show _ = (BitVec.ofNat 32 _).toNat
  rw [BitVec.toNat_ofNat]
  exact (Nat.mod_eq_of_lt (Nat.lt_of_le_of_lt (Nat.mod_le _ _) x.toBitVec.isLt)).symm
theorem pk_andN {n : Nat} (h : n < 2 ^ 32) {m : Int32} (k : Nat) (hm : m.toBitVec.toNat = 2 ^ k - 1) : nI n &&& m = nI (n % 2 ^ k) := by
  rw [pk_and _ k hm, pk_tn h]
theorem pk_andE (x : Int32) {m : Int32} (k : Nat) (hm : m.toBitVec.toNat = 2 ^ k - 1) : ∃ j : Nat, j < 2 ^ k ∧ x &&& m = nI j := ⟨_, Nat.mod_lt _ (Nat.two_pow_pos k), pk_and x k hm⟩
theorem pk_andIn (x : Int32) {m : Int32} (k : Nat) (hm : m.toBitVec.toNat = 2 ^ k - 1) (hk : k ≤ 30) : vp_in (x &&& m) (2 ^ k) := by
  obtain ⟨j, hj, e⟩ := pk_andE x k hm
  rw [e]
  exact vp_in_nI hj (Nat.lt_of_le_of_lt (Nat.pow_le_pow_right (by decide) hk) (by decide))
theorem pk_shl (a s : Int32) (k : Nat) (hs : (s.toBitVec.smod 32).toNat = k) : (a <<< s).toBitVec.toNat = a.toBitVec.toNat * 2 ^ k % 2 ^ 32 := by
  show (a.toBitVec <<< (s.toBitVec.smod 32).toNat).toNat = _
  rw [hs, BitVec.toNat_shiftLeft, Nat.shiftLeft_eq]
theorem pk_shlN {n : Nat} (s : Int32) (k : Nat) (hs : (s.toBitVec.smod 32).toNat = k) (h : n * 2 ^ k < 2 ^ 32) : nI n <<< s = nI (n * 2 ^ k) := by
  apply Int32.toBitVec_inj.mp
  apply BitVec.eq_of_toNat_eq
  have hn : n < 2 ^ 32 := Nat.lt_of_le_of_lt (Nat.le_mul_of_pos_right n (Nat.two_pow_pos k)) h
  rw [pk_shl _ _ k hs, pk_tn hn, pk_tn h, Nat.mod_eq_of_lt h]
theorem pk_shr (a s : Int32) (k : Nat) (hs : (s.toBitVec.smod 32).toNat = k) : (a >>> s).toInt = a.toInt >>> k := by
  show (a.toBitVec.sshiftRight (s.toBitVec.smod 32).toNat).toInt = _
  rw [hs, BitVec.toInt_sshiftRight]
  rfl
theorem pk_shrN {n : Nat} (h : n < 2 ^ 31) (s : Int32) (k : Nat) (hs : (s.toBitVec.smod 32).toNat = k) : nI n >>> s = nI (n / 2 ^ k) := by
  apply Int32.toInt_inj.mp
  have h2 : n / 2 ^ k ≤ n := Nat.div_le_self _ _
  rw [pk_shr _ _ k hs, nI_toInt h, nI_toInt (by omega), Int.shiftRight_eq_div_pow]
  rfl
theorem pk_ushr (x s : Int32) (k : Nat) (hs : ((s.toUInt32 &&& Int32.toUInt32 31).toBitVec % 32).toNat = k) : (x.toUInt32 >>> (s.toUInt32 &&& Int32.toUInt32 31)).toInt32.toBitVec.toNat = x.toBitVec.toNat / 2 ^ k := by
  have e : (x.toUInt32 >>> (s.toUInt32 &&& Int32.toUInt32 31)).toInt32.toBitVec = x.toBitVec >>> k := by
    rw [← hs]
    exact UInt32.toBitVec_shiftRight _ _
  rw [e, BitVec.toNat_ushiftRight, Nat.shiftRight_eq_div_pow]
theorem pk_ushrN {n : Nat} (hn : n < 2 ^ 32) (s : Int32) (k : Nat) (hs : ((s.toUInt32 &&& Int32.toUInt32 31).toBitVec % 32).toNat = k) : ((nI n).toUInt32 >>> (s.toUInt32 &&& Int32.toUInt32 31)).toInt32 = nI (n / 2 ^ k) := by
  apply Int32.toBitVec_inj.mp
  apply BitVec.eq_of_toNat_eq
  rw [pk_ushr _ s k hs, pk_tn hn, pk_tn (Nat.lt_of_le_of_lt (Nat.div_le_self _ _) hn)]
theorem pk_nb (z : Int32) : narrow .byte (.int z.toInt8.toInt32) = .int z.toInt8.toInt32 := congrArg Value.int (by simp)
theorem pk_ns (z : Int32) : narrow .short (.int z.toInt16.toInt32) = .int z.toInt16.toInt32 := congrArg Value.int (by simp)
theorem pk_fb (r : Int32) : fits .byte (.int r.toInt8.toInt32) = true := by
  have ⟨a, b⟩ := lg_i2b_range r
  have h1 : (-128 : Int32).toInt = -128 := by decide
  have h2 : (127 : Int32).toInt = 127 := by decide
  simp only [fits, Bool.and_eq_true, decide_eq_true_eq, Int32.le_iff_toInt_le, h1, h2]
  omega
theorem pk_fs (r : Int32) : fits .short (.int r.toInt16.toInt32) = true := by
  have ⟨a, b⟩ := lg_i2s_range r
  have h1 : (-32768 : Int32).toInt = -32768 := by decide
  have h2 : (32767 : Int32).toInt = 32767 := by decide
  simp only [fits, Bool.and_eq_true, decide_eq_true_eq, Int32.le_iff_toInt_le, h1, h2]
  omega
theorem pk_charN {q : Nat} (hq : q < 65536) : narrow .char (.int (nI q)) = .int (nI q) ∧ fits .char (.int (nI q)) = true := by
  constructor
  · have e : (nI q).toUInt32.toUInt16.toUInt32.toInt32 = nI q := by
      apply Int32.toBitVec_inj.mp
      apply BitVec.eq_of_toNat_eq
      show (nI q).toUInt32.toUInt16.toUInt32.toNat = q % 2 ^ 32
      rw [UInt16.toNat_toUInt32, UInt32.toNat_toUInt16, show (nI q).toUInt32.toNat = q % 2 ^ 32 from rfl]
      omega
    exact congrArg Value.int e
  · have a : (0 : Int32) ≤ nI q := nI_pos' (by omega)
    have b : nI q ≤ 65535 := nI_le (b := 65535) (by omega) (by decide)
    show (decide ((0 : Int32) ≤ nI q) && decide (nI q ≤ 65535)) = true
    rw [decide_eq_true a, decide_eq_true b]
    rfl
theorem pk_char (x : Int32) : (x.toUInt32 % 65536).toInt32 = nI (x.toBitVec.toNat % 65536) := by
  apply Int32.toBitVec_inj.mp
  apply BitVec.eq_of_toNat_eq
  rw [pk_tn (by omega)]
  show (x.toUInt32 % 65536).toNat = _
  rw [UInt32.toNat_mod]
  rfl
theorem pk_nc (x : Int32) : narrow .char (.int (x.toUInt32 % 65536).toInt32) = .int (x.toUInt32 % 65536).toInt32 := by
  rw [pk_char]
  exact (pk_charN (Nat.mod_lt _ (by decide))).1
theorem pk_fc (x : Int32) : fits .char (.int (x.toUInt32 % 65536).toInt32) = true := by
  rw [pk_char]
  exact (pk_charN (Nat.mod_lt _ (by decide))).2
theorem pk_vb (z : Int32) : vp_nar .byte z.toInt8.toInt32 = z.toInt8.toInt32 := by rw [vp_nar_byte]; simp
theorem pk_vs (z : Int32) : vp_nar .short z.toInt16.toInt32 = z.toInt16.toInt32 := by rw [vp_nar_short]; simp
theorem pk_vc (z : Int32) : vp_nar .char (z.toUInt32 % 65536).toInt32 = (z.toUInt32 % 65536).toInt32 := Value.int.inj (pk_nc z)
theorem pk_lT {n : Nat} (h : n < 2 ^ 63) : (lN n).toInt = (n : Int) := lg_ofNat_toInt h
theorem pk_lLT {a b : Nat} (ha : a < 2 ^ 63) (hb : b < 2 ^ 63) : lN a < lN b ↔ a < b := by
  rw [Int64.lt_iff_toInt_lt, pk_lT ha, pk_lT hb]; omega
theorem pk_lLE {a b : Nat} (ha : a < 2 ^ 63) (hb : b < 2 ^ 63) : lN a ≤ lN b ↔ a ≤ b := by
  rw [Int64.le_iff_toInt_le, pk_lT ha, pk_lT hb]; omega
theorem pk_lEQ {a b : Nat} (ha : a < 2 ^ 63) (hb : b < 2 ^ 63) : lN a = lN b ↔ a = b := by
  rw [← Int64.toInt_inj, pk_lT ha, pk_lT hb]; omega
theorem pk_lOf {x : Int64} (h : ¬ x < 0) : ∃ k : Nat, k < 2 ^ 63 ∧ x = lN k := by
  rw [Int64.lt_iff_toInt_lt] at h
  have h0 : (0 : Int64).toInt = 0 := by decide
  have hx := Int64.toInt_lt x
  refine ⟨x.toInt.toNat, by omega, Int64.toInt_inj.mp ?_⟩
  rw [pk_lT (by omega)]
  omega
theorem pk_lDiv {a b : Nat} (ha : a < 2 ^ 63) (h0 : 0 < b) (hb : b < 2 ^ 63) : lN a / lN b = lN (a / b) := by
  apply Int64.toInt_inj.mp
  rw [lg_ldiv_nonneg (by rw [pk_lT ha]; omega) (by rw [pk_lT hb]; omega), pk_lT ha, pk_lT hb, pk_lT (Nat.lt_of_le_of_lt (Nat.div_le_self a b) ha)]
  rfl
theorem pk_lRem {a b : Nat} (ha : a < 2 ^ 63) (h0 : 0 < b) (hb : b < 2 ^ 63) : lN a - lN a / lN b * lN b = lN (a % b) := by
  rw [pk_lDiv ha h0 hb, lN_mul, lN_sub (Nat.div_mul_le_self a b)]
  exact congrArg lN (by have := Nat.div_add_mod' a b; omega)
theorem pk_loop {σ : Type} (W : Nat → Nat → σ → Prop) (I : Nat → σ → Prop) (e i0 : Nat) (s : σ) (hi : i0 ≤ e) (h0 : I i0 s) (hx : ∀ n s, I e s → W (n + 1) e s)
    (hs : ∀ n i s, i < e → I i s → (∀ s', I (i + 1) s' → W n (i + 1) s') → W (n + 1) i s) : ∃ n, W n i0 s :=
  ⟨e + 1, loop_i W I e hx hs (e + 1) i0 s hi (by omega) h0⟩
theorem pk_loopD {σ : Type} (W : Nat → Nat → σ → Prop) (I : Nat → σ → Prop) (hx : ∀ n s, I 0 s → W (n + 1) 0 s)
    (hs : ∀ n i s, I (i + 1) s → (∀ s', I i s' → W n i s') → W (n + 1) (i + 1) s) : ∀ (e : Nat) (s : σ), I e s → W (e + 1) e s := by
  intro e
  induction e with
  | zero => exact fun s h => hx 0 s h
  | succ e ih => exact fun s h => hs (e + 1) e s h (fun s' h' => ih s' h')
theorem lp1 {A1 : Type} (W : Nat → A1 → Prop) (I : A1 → Prop) (μ : A1 → Nat) (hs : ∀ (n : Nat) (a1 : A1), I a1 → (∀ (b1 : A1), I b1 → μ b1 < μ a1 → W n b1) → W (n + 1) a1) (a1 : A1) (h : I a1) : ∃ n, W n a1 :=
  loop_m (σ := A1) (fun n s => W n s) (fun s => I s) (fun s => μ s) (fun n s hI hk => hs n s hI (fun b1 h9 hm => hk b1 h9 hm)) a1 h
theorem lp2 {A1 A2 : Type} (W : Nat → A1 → A2 → Prop) (I : A1 → A2 → Prop) (μ : A1 → A2 → Nat) (hs : ∀ (n : Nat) (a1 : A1) (a2 : A2), I a1 a2 → (∀ (b1 : A1) (b2 : A2), I b1 b2 → μ b1 b2 < μ a1 a2 → W n b1 b2) → W (n + 1) a1 a2) (a1 : A1) (a2 : A2) (h : I a1 a2) : ∃ n, W n a1 a2 :=
  loop_m (σ := A1 × A2) (fun n s => W n s.1 s.2) (fun s => I s.1 s.2) (fun s => μ s.1 s.2) (fun n s hI hk => hs n s.1 s.2 hI (fun b1 b2 h9 hm => hk (b1, b2) h9 hm)) (a1, a2) h
theorem lp3 {A1 A2 A3 : Type} (W : Nat → A1 → A2 → A3 → Prop) (I : A1 → A2 → A3 → Prop) (μ : A1 → A2 → A3 → Nat) (hs : ∀ (n : Nat) (a1 : A1) (a2 : A2) (a3 : A3), I a1 a2 a3 → (∀ (b1 : A1) (b2 : A2) (b3 : A3), I b1 b2 b3 → μ b1 b2 b3 < μ a1 a2 a3 → W n b1 b2 b3) → W (n + 1) a1 a2 a3) (a1 : A1) (a2 : A2) (a3 : A3) (h : I a1 a2 a3) : ∃ n, W n a1 a2 a3 :=
  loop_m (σ := A1 × A2 × A3) (fun n s => W n s.1 s.2.1 s.2.2) (fun s => I s.1 s.2.1 s.2.2) (fun s => μ s.1 s.2.1 s.2.2) (fun n s hI hk => hs n s.1 s.2.1 s.2.2 hI (fun b1 b2 b3 h9 hm => hk (b1, b2, b3) h9 hm)) (a1, a2, a3) h
theorem lp4 {A1 A2 A3 A4 : Type} (W : Nat → A1 → A2 → A3 → A4 → Prop) (I : A1 → A2 → A3 → A4 → Prop) (μ : A1 → A2 → A3 → A4 → Nat) (hs : ∀ (n : Nat) (a1 : A1) (a2 : A2) (a3 : A3) (a4 : A4), I a1 a2 a3 a4 → (∀ (b1 : A1) (b2 : A2) (b3 : A3) (b4 : A4), I b1 b2 b3 b4 → μ b1 b2 b3 b4 < μ a1 a2 a3 a4 → W n b1 b2 b3 b4) → W (n + 1) a1 a2 a3 a4) (a1 : A1) (a2 : A2) (a3 : A3) (a4 : A4) (h : I a1 a2 a3 a4) : ∃ n, W n a1 a2 a3 a4 :=
  loop_m (σ := A1 × A2 × A3 × A4) (fun n s => W n s.1 s.2.1 s.2.2.1 s.2.2.2) (fun s => I s.1 s.2.1 s.2.2.1 s.2.2.2) (fun s => μ s.1 s.2.1 s.2.2.1 s.2.2.2) (fun n s hI hk => hs n s.1 s.2.1 s.2.2.1 s.2.2.2 hI (fun b1 b2 b3 b4 h9 hm => hk (b1, b2, b3, b4) h9 hm)) (a1, a2, a3, a4) h
theorem lp5 {A1 A2 A3 A4 A5 : Type} (W : Nat → A1 → A2 → A3 → A4 → A5 → Prop) (I : A1 → A2 → A3 → A4 → A5 → Prop) (μ : A1 → A2 → A3 → A4 → A5 → Nat) (hs : ∀ (n : Nat) (a1 : A1) (a2 : A2) (a3 : A3) (a4 : A4) (a5 : A5), I a1 a2 a3 a4 a5 → (∀ (b1 : A1) (b2 : A2) (b3 : A3) (b4 : A4) (b5 : A5), I b1 b2 b3 b4 b5 → μ b1 b2 b3 b4 b5 < μ a1 a2 a3 a4 a5 → W n b1 b2 b3 b4 b5) → W (n + 1) a1 a2 a3 a4 a5) (a1 : A1) (a2 : A2) (a3 : A3) (a4 : A4) (a5 : A5) (h : I a1 a2 a3 a4 a5) : ∃ n, W n a1 a2 a3 a4 a5 :=
  loop_m (σ := A1 × A2 × A3 × A4 × A5) (fun n s => W n s.1 s.2.1 s.2.2.1 s.2.2.2.1 s.2.2.2.2) (fun s => I s.1 s.2.1 s.2.2.1 s.2.2.2.1 s.2.2.2.2) (fun s => μ s.1 s.2.1 s.2.2.1 s.2.2.2.1 s.2.2.2.2) (fun n s hI hk => hs n s.1 s.2.1 s.2.2.1 s.2.2.2.1 s.2.2.2.2 hI (fun b1 b2 b3 b4 b5 h9 hm => hk (b1, b2, b3, b4, b5) h9 hm)) (a1, a2, a3, a4, a5) h
theorem lp6 {A1 A2 A3 A4 A5 A6 : Type} (W : Nat → A1 → A2 → A3 → A4 → A5 → A6 → Prop) (I : A1 → A2 → A3 → A4 → A5 → A6 → Prop) (μ : A1 → A2 → A3 → A4 → A5 → A6 → Nat) (hs : ∀ (n : Nat) (a1 : A1) (a2 : A2) (a3 : A3) (a4 : A4) (a5 : A5) (a6 : A6), I a1 a2 a3 a4 a5 a6 → (∀ (b1 : A1) (b2 : A2) (b3 : A3) (b4 : A4) (b5 : A5) (b6 : A6), I b1 b2 b3 b4 b5 b6 → μ b1 b2 b3 b4 b5 b6 < μ a1 a2 a3 a4 a5 a6 → W n b1 b2 b3 b4 b5 b6) → W (n + 1) a1 a2 a3 a4 a5 a6) (a1 : A1) (a2 : A2) (a3 : A3) (a4 : A4) (a5 : A5) (a6 : A6) (h : I a1 a2 a3 a4 a5 a6) : ∃ n, W n a1 a2 a3 a4 a5 a6 :=
  loop_m (σ := A1 × A2 × A3 × A4 × A5 × A6) (fun n s => W n s.1 s.2.1 s.2.2.1 s.2.2.2.1 s.2.2.2.2.1 s.2.2.2.2.2) (fun s => I s.1 s.2.1 s.2.2.1 s.2.2.2.1 s.2.2.2.2.1 s.2.2.2.2.2) (fun s => μ s.1 s.2.1 s.2.2.1 s.2.2.2.1 s.2.2.2.2.1 s.2.2.2.2.2) (fun n s hI hk => hs n s.1 s.2.1 s.2.2.1 s.2.2.2.1 s.2.2.2.2.1 s.2.2.2.2.2 hI (fun b1 b2 b3 b4 b5 b6 h9 hm => hk (b1, b2, b3, b4, b5, b6) h9 hm)) (a1, a2, a3, a4, a5, a6) h
theorem lp7 {A1 A2 A3 A4 A5 A6 A7 : Type} (W : Nat → A1 → A2 → A3 → A4 → A5 → A6 → A7 → Prop) (I : A1 → A2 → A3 → A4 → A5 → A6 → A7 → Prop) (μ : A1 → A2 → A3 → A4 → A5 → A6 → A7 → Nat) (hs : ∀ (n : Nat) (a1 : A1) (a2 : A2) (a3 : A3) (a4 : A4) (a5 : A5) (a6 : A6) (a7 : A7), I a1 a2 a3 a4 a5 a6 a7 → (∀ (b1 : A1) (b2 : A2) (b3 : A3) (b4 : A4) (b5 : A5) (b6 : A6) (b7 : A7), I b1 b2 b3 b4 b5 b6 b7 → μ b1 b2 b3 b4 b5 b6 b7 < μ a1 a2 a3 a4 a5 a6 a7 → W n b1 b2 b3 b4 b5 b6 b7) → W (n + 1) a1 a2 a3 a4 a5 a6 a7) (a1 : A1) (a2 : A2) (a3 : A3) (a4 : A4) (a5 : A5) (a6 : A6) (a7 : A7) (h : I a1 a2 a3 a4 a5 a6 a7) : ∃ n, W n a1 a2 a3 a4 a5 a6 a7 :=
  loop_m (σ := A1 × A2 × A3 × A4 × A5 × A6 × A7) (fun n s => W n s.1 s.2.1 s.2.2.1 s.2.2.2.1 s.2.2.2.2.1 s.2.2.2.2.2.1 s.2.2.2.2.2.2) (fun s => I s.1 s.2.1 s.2.2.1 s.2.2.2.1 s.2.2.2.2.1 s.2.2.2.2.2.1 s.2.2.2.2.2.2) (fun s => μ s.1 s.2.1 s.2.2.1 s.2.2.2.1 s.2.2.2.2.1 s.2.2.2.2.2.1 s.2.2.2.2.2.2) (fun n s hI hk => hs n s.1 s.2.1 s.2.2.1 s.2.2.2.1 s.2.2.2.2.1 s.2.2.2.2.2.1 s.2.2.2.2.2.2 hI (fun b1 b2 b3 b4 b5 b6 b7 h9 hm => hk (b1, b2, b3, b4, b5, b6, b7) h9 hm)) (a1, a2, a3, a4, a5, a6, a7) h
theorem lp8 {A1 A2 A3 A4 A5 A6 A7 A8 : Type} (W : Nat → A1 → A2 → A3 → A4 → A5 → A6 → A7 → A8 → Prop) (I : A1 → A2 → A3 → A4 → A5 → A6 → A7 → A8 → Prop) (μ : A1 → A2 → A3 → A4 → A5 → A6 → A7 → A8 → Nat) (hs : ∀ (n : Nat) (a1 : A1) (a2 : A2) (a3 : A3) (a4 : A4) (a5 : A5) (a6 : A6) (a7 : A7) (a8 : A8), I a1 a2 a3 a4 a5 a6 a7 a8 → (∀ (b1 : A1) (b2 : A2) (b3 : A3) (b4 : A4) (b5 : A5) (b6 : A6) (b7 : A7) (b8 : A8), I b1 b2 b3 b4 b5 b6 b7 b8 → μ b1 b2 b3 b4 b5 b6 b7 b8 < μ a1 a2 a3 a4 a5 a6 a7 a8 → W n b1 b2 b3 b4 b5 b6 b7 b8) → W (n + 1) a1 a2 a3 a4 a5 a6 a7 a8) (a1 : A1) (a2 : A2) (a3 : A3) (a4 : A4) (a5 : A5) (a6 : A6) (a7 : A7) (a8 : A8) (h : I a1 a2 a3 a4 a5 a6 a7 a8) : ∃ n, W n a1 a2 a3 a4 a5 a6 a7 a8 :=
  loop_m (σ := A1 × A2 × A3 × A4 × A5 × A6 × A7 × A8) (fun n s => W n s.1 s.2.1 s.2.2.1 s.2.2.2.1 s.2.2.2.2.1 s.2.2.2.2.2.1 s.2.2.2.2.2.2.1 s.2.2.2.2.2.2.2) (fun s => I s.1 s.2.1 s.2.2.1 s.2.2.2.1 s.2.2.2.2.1 s.2.2.2.2.2.1 s.2.2.2.2.2.2.1 s.2.2.2.2.2.2.2) (fun s => μ s.1 s.2.1 s.2.2.1 s.2.2.2.1 s.2.2.2.2.1 s.2.2.2.2.2.1 s.2.2.2.2.2.2.1 s.2.2.2.2.2.2.2) (fun n s hI hk => hs n s.1 s.2.1 s.2.2.1 s.2.2.2.1 s.2.2.2.2.1 s.2.2.2.2.2.1 s.2.2.2.2.2.2.1 s.2.2.2.2.2.2.2 hI (fun b1 b2 b3 b4 b5 b6 b7 b8 h9 hm => hk (b1, b2, b3, b4, b5, b6, b7, b8) h9 hm)) (a1, a2, a3, a4, a5, a6, a7, a8) h
theorem lp9 {A1 A2 A3 A4 A5 A6 A7 A8 A9 : Type} (W : Nat → A1 → A2 → A3 → A4 → A5 → A6 → A7 → A8 → A9 → Prop) (I : A1 → A2 → A3 → A4 → A5 → A6 → A7 → A8 → A9 → Prop) (μ : A1 → A2 → A3 → A4 → A5 → A6 → A7 → A8 → A9 → Nat) (hs : ∀ (n : Nat) (a1 : A1) (a2 : A2) (a3 : A3) (a4 : A4) (a5 : A5) (a6 : A6) (a7 : A7) (a8 : A8) (a9 : A9), I a1 a2 a3 a4 a5 a6 a7 a8 a9 → (∀ (b1 : A1) (b2 : A2) (b3 : A3) (b4 : A4) (b5 : A5) (b6 : A6) (b7 : A7) (b8 : A8) (b9 : A9), I b1 b2 b3 b4 b5 b6 b7 b8 b9 → μ b1 b2 b3 b4 b5 b6 b7 b8 b9 < μ a1 a2 a3 a4 a5 a6 a7 a8 a9 → W n b1 b2 b3 b4 b5 b6 b7 b8 b9) → W (n + 1) a1 a2 a3 a4 a5 a6 a7 a8 a9) (a1 : A1) (a2 : A2) (a3 : A3) (a4 : A4) (a5 : A5) (a6 : A6) (a7 : A7) (a8 : A8) (a9 : A9) (h : I a1 a2 a3 a4 a5 a6 a7 a8 a9) : ∃ n, W n a1 a2 a3 a4 a5 a6 a7 a8 a9 :=
  loop_m (σ := A1 × A2 × A3 × A4 × A5 × A6 × A7 × A8 × A9) (fun n s => W n s.1 s.2.1 s.2.2.1 s.2.2.2.1 s.2.2.2.2.1 s.2.2.2.2.2.1 s.2.2.2.2.2.2.1 s.2.2.2.2.2.2.2.1 s.2.2.2.2.2.2.2.2) (fun s => I s.1 s.2.1 s.2.2.1 s.2.2.2.1 s.2.2.2.2.1 s.2.2.2.2.2.1 s.2.2.2.2.2.2.1 s.2.2.2.2.2.2.2.1 s.2.2.2.2.2.2.2.2) (fun s => μ s.1 s.2.1 s.2.2.1 s.2.2.2.1 s.2.2.2.2.1 s.2.2.2.2.2.1 s.2.2.2.2.2.2.1 s.2.2.2.2.2.2.2.1 s.2.2.2.2.2.2.2.2) (fun n s hI hk => hs n s.1 s.2.1 s.2.2.1 s.2.2.2.1 s.2.2.2.2.1 s.2.2.2.2.2.1 s.2.2.2.2.2.2.1 s.2.2.2.2.2.2.2.1 s.2.2.2.2.2.2.2.2 hI (fun b1 b2 b3 b4 b5 b6 b7 b8 b9 h9 hm => hk (b1, b2, b3, b4, b5, b6, b7, b8, b9) h9 hm)) (a1, a2, a3, a4, a5, a6, a7, a8, a9) h
theorem lp10 {A1 A2 A3 A4 A5 A6 A7 A8 A9 A10 : Type} (W : Nat → A1 → A2 → A3 → A4 → A5 → A6 → A7 → A8 → A9 → A10 → Prop) (I : A1 → A2 → A3 → A4 → A5 → A6 → A7 → A8 → A9 → A10 → Prop) (μ : A1 → A2 → A3 → A4 → A5 → A6 → A7 → A8 → A9 → A10 → Nat) (hs : ∀ (n : Nat) (a1 : A1) (a2 : A2) (a3 : A3) (a4 : A4) (a5 : A5) (a6 : A6) (a7 : A7) (a8 : A8) (a9 : A9) (a10 : A10), I a1 a2 a3 a4 a5 a6 a7 a8 a9 a10 → (∀ (b1 : A1) (b2 : A2) (b3 : A3) (b4 : A4) (b5 : A5) (b6 : A6) (b7 : A7) (b8 : A8) (b9 : A9) (b10 : A10), I b1 b2 b3 b4 b5 b6 b7 b8 b9 b10 → μ b1 b2 b3 b4 b5 b6 b7 b8 b9 b10 < μ a1 a2 a3 a4 a5 a6 a7 a8 a9 a10 → W n b1 b2 b3 b4 b5 b6 b7 b8 b9 b10) → W (n + 1) a1 a2 a3 a4 a5 a6 a7 a8 a9 a10) (a1 : A1) (a2 : A2) (a3 : A3) (a4 : A4) (a5 : A5) (a6 : A6) (a7 : A7) (a8 : A8) (a9 : A9) (a10 : A10) (h : I a1 a2 a3 a4 a5 a6 a7 a8 a9 a10) : ∃ n, W n a1 a2 a3 a4 a5 a6 a7 a8 a9 a10 :=
  loop_m (σ := A1 × A2 × A3 × A4 × A5 × A6 × A7 × A8 × A9 × A10) (fun n s => W n s.1 s.2.1 s.2.2.1 s.2.2.2.1 s.2.2.2.2.1 s.2.2.2.2.2.1 s.2.2.2.2.2.2.1 s.2.2.2.2.2.2.2.1 s.2.2.2.2.2.2.2.2.1 s.2.2.2.2.2.2.2.2.2) (fun s => I s.1 s.2.1 s.2.2.1 s.2.2.2.1 s.2.2.2.2.1 s.2.2.2.2.2.1 s.2.2.2.2.2.2.1 s.2.2.2.2.2.2.2.1 s.2.2.2.2.2.2.2.2.1 s.2.2.2.2.2.2.2.2.2) (fun s => μ s.1 s.2.1 s.2.2.1 s.2.2.2.1 s.2.2.2.2.1 s.2.2.2.2.2.1 s.2.2.2.2.2.2.1 s.2.2.2.2.2.2.2.1 s.2.2.2.2.2.2.2.2.1 s.2.2.2.2.2.2.2.2.2) (fun n s hI hk => hs n s.1 s.2.1 s.2.2.1 s.2.2.2.1 s.2.2.2.2.1 s.2.2.2.2.2.1 s.2.2.2.2.2.2.1 s.2.2.2.2.2.2.2.1 s.2.2.2.2.2.2.2.2.1 s.2.2.2.2.2.2.2.2.2 hI (fun b1 b2 b3 b4 b5 b6 b7 b8 b9 b10 h9 hm => hk (b1, b2, b3, b4, b5, b6, b7, b8, b9, b10) h9 hm)) (a1, a2, a3, a4, a5, a6, a7, a8, a9, a10) h
theorem lp11 {A1 A2 A3 A4 A5 A6 A7 A8 A9 A10 A11 : Type} (W : Nat → A1 → A2 → A3 → A4 → A5 → A6 → A7 → A8 → A9 → A10 → A11 → Prop) (I : A1 → A2 → A3 → A4 → A5 → A6 → A7 → A8 → A9 → A10 → A11 → Prop) (μ : A1 → A2 → A3 → A4 → A5 → A6 → A7 → A8 → A9 → A10 → A11 → Nat) (hs : ∀ (n : Nat) (a1 : A1) (a2 : A2) (a3 : A3) (a4 : A4) (a5 : A5) (a6 : A6) (a7 : A7) (a8 : A8) (a9 : A9) (a10 : A10) (a11 : A11), I a1 a2 a3 a4 a5 a6 a7 a8 a9 a10 a11 → (∀ (b1 : A1) (b2 : A2) (b3 : A3) (b4 : A4) (b5 : A5) (b6 : A6) (b7 : A7) (b8 : A8) (b9 : A9) (b10 : A10) (b11 : A11), I b1 b2 b3 b4 b5 b6 b7 b8 b9 b10 b11 → μ b1 b2 b3 b4 b5 b6 b7 b8 b9 b10 b11 < μ a1 a2 a3 a4 a5 a6 a7 a8 a9 a10 a11 → W n b1 b2 b3 b4 b5 b6 b7 b8 b9 b10 b11) → W (n + 1) a1 a2 a3 a4 a5 a6 a7 a8 a9 a10 a11) (a1 : A1) (a2 : A2) (a3 : A3) (a4 : A4) (a5 : A5) (a6 : A6) (a7 : A7) (a8 : A8) (a9 : A9) (a10 : A10) (a11 : A11) (h : I a1 a2 a3 a4 a5 a6 a7 a8 a9 a10 a11) : ∃ n, W n a1 a2 a3 a4 a5 a6 a7 a8 a9 a10 a11 :=
  loop_m (σ := A1 × A2 × A3 × A4 × A5 × A6 × A7 × A8 × A9 × A10 × A11) (fun n s => W n s.1 s.2.1 s.2.2.1 s.2.2.2.1 s.2.2.2.2.1 s.2.2.2.2.2.1 s.2.2.2.2.2.2.1 s.2.2.2.2.2.2.2.1 s.2.2.2.2.2.2.2.2.1 s.2.2.2.2.2.2.2.2.2.1 s.2.2.2.2.2.2.2.2.2.2) (fun s => I s.1 s.2.1 s.2.2.1 s.2.2.2.1 s.2.2.2.2.1 s.2.2.2.2.2.1 s.2.2.2.2.2.2.1 s.2.2.2.2.2.2.2.1 s.2.2.2.2.2.2.2.2.1 s.2.2.2.2.2.2.2.2.2.1 s.2.2.2.2.2.2.2.2.2.2) (fun s => μ s.1 s.2.1 s.2.2.1 s.2.2.2.1 s.2.2.2.2.1 s.2.2.2.2.2.1 s.2.2.2.2.2.2.1 s.2.2.2.2.2.2.2.1 s.2.2.2.2.2.2.2.2.1 s.2.2.2.2.2.2.2.2.2.1 s.2.2.2.2.2.2.2.2.2.2) (fun n s hI hk => hs n s.1 s.2.1 s.2.2.1 s.2.2.2.1 s.2.2.2.2.1 s.2.2.2.2.2.1 s.2.2.2.2.2.2.1 s.2.2.2.2.2.2.2.1 s.2.2.2.2.2.2.2.2.1 s.2.2.2.2.2.2.2.2.2.1 s.2.2.2.2.2.2.2.2.2.2 hI (fun b1 b2 b3 b4 b5 b6 b7 b8 b9 b10 b11 h9 hm => hk (b1, b2, b3, b4, b5, b6, b7, b8, b9, b10, b11) h9 hm)) (a1, a2, a3, a4, a5, a6, a7, a8, a9, a10, a11) h
theorem lp12 {A1 A2 A3 A4 A5 A6 A7 A8 A9 A10 A11 A12 : Type} (W : Nat → A1 → A2 → A3 → A4 → A5 → A6 → A7 → A8 → A9 → A10 → A11 → A12 → Prop) (I : A1 → A2 → A3 → A4 → A5 → A6 → A7 → A8 → A9 → A10 → A11 → A12 → Prop) (μ : A1 → A2 → A3 → A4 → A5 → A6 → A7 → A8 → A9 → A10 → A11 → A12 → Nat) (hs : ∀ (n : Nat) (a1 : A1) (a2 : A2) (a3 : A3) (a4 : A4) (a5 : A5) (a6 : A6) (a7 : A7) (a8 : A8) (a9 : A9) (a10 : A10) (a11 : A11) (a12 : A12), I a1 a2 a3 a4 a5 a6 a7 a8 a9 a10 a11 a12 → (∀ (b1 : A1) (b2 : A2) (b3 : A3) (b4 : A4) (b5 : A5) (b6 : A6) (b7 : A7) (b8 : A8) (b9 : A9) (b10 : A10) (b11 : A11) (b12 : A12), I b1 b2 b3 b4 b5 b6 b7 b8 b9 b10 b11 b12 → μ b1 b2 b3 b4 b5 b6 b7 b8 b9 b10 b11 b12 < μ a1 a2 a3 a4 a5 a6 a7 a8 a9 a10 a11 a12 → W n b1 b2 b3 b4 b5 b6 b7 b8 b9 b10 b11 b12) → W (n + 1) a1 a2 a3 a4 a5 a6 a7 a8 a9 a10 a11 a12) (a1 : A1) (a2 : A2) (a3 : A3) (a4 : A4) (a5 : A5) (a6 : A6) (a7 : A7) (a8 : A8) (a9 : A9) (a10 : A10) (a11 : A11) (a12 : A12) (h : I a1 a2 a3 a4 a5 a6 a7 a8 a9 a10 a11 a12) : ∃ n, W n a1 a2 a3 a4 a5 a6 a7 a8 a9 a10 a11 a12 :=
  loop_m (σ := A1 × A2 × A3 × A4 × A5 × A6 × A7 × A8 × A9 × A10 × A11 × A12) (fun n s => W n s.1 s.2.1 s.2.2.1 s.2.2.2.1 s.2.2.2.2.1 s.2.2.2.2.2.1 s.2.2.2.2.2.2.1 s.2.2.2.2.2.2.2.1 s.2.2.2.2.2.2.2.2.1 s.2.2.2.2.2.2.2.2.2.1 s.2.2.2.2.2.2.2.2.2.2.1 s.2.2.2.2.2.2.2.2.2.2.2) (fun s => I s.1 s.2.1 s.2.2.1 s.2.2.2.1 s.2.2.2.2.1 s.2.2.2.2.2.1 s.2.2.2.2.2.2.1 s.2.2.2.2.2.2.2.1 s.2.2.2.2.2.2.2.2.1 s.2.2.2.2.2.2.2.2.2.1 s.2.2.2.2.2.2.2.2.2.2.1 s.2.2.2.2.2.2.2.2.2.2.2) (fun s => μ s.1 s.2.1 s.2.2.1 s.2.2.2.1 s.2.2.2.2.1 s.2.2.2.2.2.1 s.2.2.2.2.2.2.1 s.2.2.2.2.2.2.2.1 s.2.2.2.2.2.2.2.2.1 s.2.2.2.2.2.2.2.2.2.1 s.2.2.2.2.2.2.2.2.2.2.1 s.2.2.2.2.2.2.2.2.2.2.2) (fun n s hI hk => hs n s.1 s.2.1 s.2.2.1 s.2.2.2.1 s.2.2.2.2.1 s.2.2.2.2.2.1 s.2.2.2.2.2.2.1 s.2.2.2.2.2.2.2.1 s.2.2.2.2.2.2.2.2.1 s.2.2.2.2.2.2.2.2.2.1 s.2.2.2.2.2.2.2.2.2.2.1 s.2.2.2.2.2.2.2.2.2.2.2 hI (fun b1 b2 b3 b4 b5 b6 b7 b8 b9 b10 b11 b12 h9 hm => hk (b1, b2, b3, b4, b5, b6, b7, b8, b9, b10, b11, b12) h9 hm)) (a1, a2, a3, a4, a5, a6, a7, a8, a9, a10, a11, a12) h
theorem lp13 {A1 A2 A3 A4 A5 A6 A7 A8 A9 A10 A11 A12 A13 : Type} (W : Nat → A1 → A2 → A3 → A4 → A5 → A6 → A7 → A8 → A9 → A10 → A11 → A12 → A13 → Prop) (I : A1 → A2 → A3 → A4 → A5 → A6 → A7 → A8 → A9 → A10 → A11 → A12 → A13 → Prop) (μ : A1 → A2 → A3 → A4 → A5 → A6 → A7 → A8 → A9 → A10 → A11 → A12 → A13 → Nat) (hs : ∀ (n : Nat) (a1 : A1) (a2 : A2) (a3 : A3) (a4 : A4) (a5 : A5) (a6 : A6) (a7 : A7) (a8 : A8) (a9 : A9) (a10 : A10) (a11 : A11) (a12 : A12) (a13 : A13), I a1 a2 a3 a4 a5 a6 a7 a8 a9 a10 a11 a12 a13 → (∀ (b1 : A1) (b2 : A2) (b3 : A3) (b4 : A4) (b5 : A5) (b6 : A6) (b7 : A7) (b8 : A8) (b9 : A9) (b10 : A10) (b11 : A11) (b12 : A12) (b13 : A13), I b1 b2 b3 b4 b5 b6 b7 b8 b9 b10 b11 b12 b13 → μ b1 b2 b3 b4 b5 b6 b7 b8 b9 b10 b11 b12 b13 < μ a1 a2 a3 a4 a5 a6 a7 a8 a9 a10 a11 a12 a13 → W n b1 b2 b3 b4 b5 b6 b7 b8 b9 b10 b11 b12 b13) → W (n + 1) a1 a2 a3 a4 a5 a6 a7 a8 a9 a10 a11 a12 a13) (a1 : A1) (a2 : A2) (a3 : A3) (a4 : A4) (a5 : A5) (a6 : A6) (a7 : A7) (a8 : A8) (a9 : A9) (a10 : A10) (a11 : A11) (a12 : A12) (a13 : A13) (h : I a1 a2 a3 a4 a5 a6 a7 a8 a9 a10 a11 a12 a13) : ∃ n, W n a1 a2 a3 a4 a5 a6 a7 a8 a9 a10 a11 a12 a13 :=
  loop_m (σ := A1 × A2 × A3 × A4 × A5 × A6 × A7 × A8 × A9 × A10 × A11 × A12 × A13) (fun n s => W n s.1 s.2.1 s.2.2.1 s.2.2.2.1 s.2.2.2.2.1 s.2.2.2.2.2.1 s.2.2.2.2.2.2.1 s.2.2.2.2.2.2.2.1 s.2.2.2.2.2.2.2.2.1 s.2.2.2.2.2.2.2.2.2.1 s.2.2.2.2.2.2.2.2.2.2.1 s.2.2.2.2.2.2.2.2.2.2.2.1 s.2.2.2.2.2.2.2.2.2.2.2.2) (fun s => I s.1 s.2.1 s.2.2.1 s.2.2.2.1 s.2.2.2.2.1 s.2.2.2.2.2.1 s.2.2.2.2.2.2.1 s.2.2.2.2.2.2.2.1 s.2.2.2.2.2.2.2.2.1 s.2.2.2.2.2.2.2.2.2.1 s.2.2.2.2.2.2.2.2.2.2.1 s.2.2.2.2.2.2.2.2.2.2.2.1 s.2.2.2.2.2.2.2.2.2.2.2.2) (fun s => μ s.1 s.2.1 s.2.2.1 s.2.2.2.1 s.2.2.2.2.1 s.2.2.2.2.2.1 s.2.2.2.2.2.2.1 s.2.2.2.2.2.2.2.1 s.2.2.2.2.2.2.2.2.1 s.2.2.2.2.2.2.2.2.2.1 s.2.2.2.2.2.2.2.2.2.2.1 s.2.2.2.2.2.2.2.2.2.2.2.1 s.2.2.2.2.2.2.2.2.2.2.2.2) (fun n s hI hk => hs n s.1 s.2.1 s.2.2.1 s.2.2.2.1 s.2.2.2.2.1 s.2.2.2.2.2.1 s.2.2.2.2.2.2.1 s.2.2.2.2.2.2.2.1 s.2.2.2.2.2.2.2.2.1 s.2.2.2.2.2.2.2.2.2.1 s.2.2.2.2.2.2.2.2.2.2.1 s.2.2.2.2.2.2.2.2.2.2.2.1 s.2.2.2.2.2.2.2.2.2.2.2.2 hI (fun b1 b2 b3 b4 b5 b6 b7 b8 b9 b10 b11 b12 b13 h9 hm => hk (b1, b2, b3, b4, b5, b6, b7, b8, b9, b10, b11, b12, b13) h9 hm)) (a1, a2, a3, a4, a5, a6, a7, a8, a9, a10, a11, a12, a13) h
theorem lp14 {A1 A2 A3 A4 A5 A6 A7 A8 A9 A10 A11 A12 A13 A14 : Type} (W : Nat → A1 → A2 → A3 → A4 → A5 → A6 → A7 → A8 → A9 → A10 → A11 → A12 → A13 → A14 → Prop) (I : A1 → A2 → A3 → A4 → A5 → A6 → A7 → A8 → A9 → A10 → A11 → A12 → A13 → A14 → Prop) (μ : A1 → A2 → A3 → A4 → A5 → A6 → A7 → A8 → A9 → A10 → A11 → A12 → A13 → A14 → Nat) (hs : ∀ (n : Nat) (a1 : A1) (a2 : A2) (a3 : A3) (a4 : A4) (a5 : A5) (a6 : A6) (a7 : A7) (a8 : A8) (a9 : A9) (a10 : A10) (a11 : A11) (a12 : A12) (a13 : A13) (a14 : A14), I a1 a2 a3 a4 a5 a6 a7 a8 a9 a10 a11 a12 a13 a14 → (∀ (b1 : A1) (b2 : A2) (b3 : A3) (b4 : A4) (b5 : A5) (b6 : A6) (b7 : A7) (b8 : A8) (b9 : A9) (b10 : A10) (b11 : A11) (b12 : A12) (b13 : A13) (b14 : A14), I b1 b2 b3 b4 b5 b6 b7 b8 b9 b10 b11 b12 b13 b14 → μ b1 b2 b3 b4 b5 b6 b7 b8 b9 b10 b11 b12 b13 b14 < μ a1 a2 a3 a4 a5 a6 a7 a8 a9 a10 a11 a12 a13 a14 → W n b1 b2 b3 b4 b5 b6 b7 b8 b9 b10 b11 b12 b13 b14) → W (n + 1) a1 a2 a3 a4 a5 a6 a7 a8 a9 a10 a11 a12 a13 a14) (a1 : A1) (a2 : A2) (a3 : A3) (a4 : A4) (a5 : A5) (a6 : A6) (a7 : A7) (a8 : A8) (a9 : A9) (a10 : A10) (a11 : A11) (a12 : A12) (a13 : A13) (a14 : A14) (h : I a1 a2 a3 a4 a5 a6 a7 a8 a9 a10 a11 a12 a13 a14) : ∃ n, W n a1 a2 a3 a4 a5 a6 a7 a8 a9 a10 a11 a12 a13 a14 :=
  loop_m (σ := A1 × A2 × A3 × A4 × A5 × A6 × A7 × A8 × A9 × A10 × A11 × A12 × A13 × A14) (fun n s => W n s.1 s.2.1 s.2.2.1 s.2.2.2.1 s.2.2.2.2.1 s.2.2.2.2.2.1 s.2.2.2.2.2.2.1 s.2.2.2.2.2.2.2.1 s.2.2.2.2.2.2.2.2.1 s.2.2.2.2.2.2.2.2.2.1 s.2.2.2.2.2.2.2.2.2.2.1 s.2.2.2.2.2.2.2.2.2.2.2.1 s.2.2.2.2.2.2.2.2.2.2.2.2.1 s.2.2.2.2.2.2.2.2.2.2.2.2.2) (fun s => I s.1 s.2.1 s.2.2.1 s.2.2.2.1 s.2.2.2.2.1 s.2.2.2.2.2.1 s.2.2.2.2.2.2.1 s.2.2.2.2.2.2.2.1 s.2.2.2.2.2.2.2.2.1 s.2.2.2.2.2.2.2.2.2.1 s.2.2.2.2.2.2.2.2.2.2.1 s.2.2.2.2.2.2.2.2.2.2.2.1 s.2.2.2.2.2.2.2.2.2.2.2.2.1 s.2.2.2.2.2.2.2.2.2.2.2.2.2) (fun s => μ s.1 s.2.1 s.2.2.1 s.2.2.2.1 s.2.2.2.2.1 s.2.2.2.2.2.1 s.2.2.2.2.2.2.1 s.2.2.2.2.2.2.2.1 s.2.2.2.2.2.2.2.2.1 s.2.2.2.2.2.2.2.2.2.1 s.2.2.2.2.2.2.2.2.2.2.1 s.2.2.2.2.2.2.2.2.2.2.2.1 s.2.2.2.2.2.2.2.2.2.2.2.2.1 s.2.2.2.2.2.2.2.2.2.2.2.2.2) (fun n s hI hk => hs n s.1 s.2.1 s.2.2.1 s.2.2.2.1 s.2.2.2.2.1 s.2.2.2.2.2.1 s.2.2.2.2.2.2.1 s.2.2.2.2.2.2.2.1 s.2.2.2.2.2.2.2.2.1 s.2.2.2.2.2.2.2.2.2.1 s.2.2.2.2.2.2.2.2.2.2.1 s.2.2.2.2.2.2.2.2.2.2.2.1 s.2.2.2.2.2.2.2.2.2.2.2.2.1 s.2.2.2.2.2.2.2.2.2.2.2.2.2 hI (fun b1 b2 b3 b4 b5 b6 b7 b8 b9 b10 b11 b12 b13 b14 h9 hm => hk (b1, b2, b3, b4, b5, b6, b7, b8, b9, b10, b11, b12, b13, b14) h9 hm)) (a1, a2, a3, a4, a5, a6, a7, a8, a9, a10, a11, a12, a13, a14) h
theorem lp15 {A1 A2 A3 A4 A5 A6 A7 A8 A9 A10 A11 A12 A13 A14 A15 : Type} (W : Nat → A1 → A2 → A3 → A4 → A5 → A6 → A7 → A8 → A9 → A10 → A11 → A12 → A13 → A14 → A15 → Prop) (I : A1 → A2 → A3 → A4 → A5 → A6 → A7 → A8 → A9 → A10 → A11 → A12 → A13 → A14 → A15 → Prop) (μ : A1 → A2 → A3 → A4 → A5 → A6 → A7 → A8 → A9 → A10 → A11 → A12 → A13 → A14 → A15 → Nat) (hs : ∀ (n : Nat) (a1 : A1) (a2 : A2) (a3 : A3) (a4 : A4) (a5 : A5) (a6 : A6) (a7 : A7) (a8 : A8) (a9 : A9) (a10 : A10) (a11 : A11) (a12 : A12) (a13 : A13) (a14 : A14) (a15 : A15), I a1 a2 a3 a4 a5 a6 a7 a8 a9 a10 a11 a12 a13 a14 a15 → (∀ (b1 : A1) (b2 : A2) (b3 : A3) (b4 : A4) (b5 : A5) (b6 : A6) (b7 : A7) (b8 : A8) (b9 : A9) (b10 : A10) (b11 : A11) (b12 : A12) (b13 : A13) (b14 : A14) (b15 : A15), I b1 b2 b3 b4 b5 b6 b7 b8 b9 b10 b11 b12 b13 b14 b15 → μ b1 b2 b3 b4 b5 b6 b7 b8 b9 b10 b11 b12 b13 b14 b15 < μ a1 a2 a3 a4 a5 a6 a7 a8 a9 a10 a11 a12 a13 a14 a15 → W n b1 b2 b3 b4 b5 b6 b7 b8 b9 b10 b11 b12 b13 b14 b15) → W (n + 1) a1 a2 a3 a4 a5 a6 a7 a8 a9 a10 a11 a12 a13 a14 a15) (a1 : A1) (a2 : A2) (a3 : A3) (a4 : A4) (a5 : A5) (a6 : A6) (a7 : A7) (a8 : A8) (a9 : A9) (a10 : A10) (a11 : A11) (a12 : A12) (a13 : A13) (a14 : A14) (a15 : A15) (h : I a1 a2 a3 a4 a5 a6 a7 a8 a9 a10 a11 a12 a13 a14 a15) : ∃ n, W n a1 a2 a3 a4 a5 a6 a7 a8 a9 a10 a11 a12 a13 a14 a15 :=
  loop_m (σ := A1 × A2 × A3 × A4 × A5 × A6 × A7 × A8 × A9 × A10 × A11 × A12 × A13 × A14 × A15) (fun n s => W n s.1 s.2.1 s.2.2.1 s.2.2.2.1 s.2.2.2.2.1 s.2.2.2.2.2.1 s.2.2.2.2.2.2.1 s.2.2.2.2.2.2.2.1 s.2.2.2.2.2.2.2.2.1 s.2.2.2.2.2.2.2.2.2.1 s.2.2.2.2.2.2.2.2.2.2.1 s.2.2.2.2.2.2.2.2.2.2.2.1 s.2.2.2.2.2.2.2.2.2.2.2.2.1 s.2.2.2.2.2.2.2.2.2.2.2.2.2.1 s.2.2.2.2.2.2.2.2.2.2.2.2.2.2) (fun s => I s.1 s.2.1 s.2.2.1 s.2.2.2.1 s.2.2.2.2.1 s.2.2.2.2.2.1 s.2.2.2.2.2.2.1 s.2.2.2.2.2.2.2.1 s.2.2.2.2.2.2.2.2.1 s.2.2.2.2.2.2.2.2.2.1 s.2.2.2.2.2.2.2.2.2.2.1 s.2.2.2.2.2.2.2.2.2.2.2.1 s.2.2.2.2.2.2.2.2.2.2.2.2.1 s.2.2.2.2.2.2.2.2.2.2.2.2.2.1 s.2.2.2.2.2.2.2.2.2.2.2.2.2.2) (fun s => μ s.1 s.2.1 s.2.2.1 s.2.2.2.1 s.2.2.2.2.1 s.2.2.2.2.2.1 s.2.2.2.2.2.2.1 s.2.2.2.2.2.2.2.1 s.2.2.2.2.2.2.2.2.1 s.2.2.2.2.2.2.2.2.2.1 s.2.2.2.2.2.2.2.2.2.2.1 s.2.2.2.2.2.2.2.2.2.2.2.1 s.2.2.2.2.2.2.2.2.2.2.2.2.1 s.2.2.2.2.2.2.2.2.2.2.2.2.2.1 s.2.2.2.2.2.2.2.2.2.2.2.2.2.2) (fun n s hI hk => hs n s.1 s.2.1 s.2.2.1 s.2.2.2.1 s.2.2.2.2.1 s.2.2.2.2.2.1 s.2.2.2.2.2.2.1 s.2.2.2.2.2.2.2.1 s.2.2.2.2.2.2.2.2.1 s.2.2.2.2.2.2.2.2.2.1 s.2.2.2.2.2.2.2.2.2.2.1 s.2.2.2.2.2.2.2.2.2.2.2.1 s.2.2.2.2.2.2.2.2.2.2.2.2.1 s.2.2.2.2.2.2.2.2.2.2.2.2.2.1 s.2.2.2.2.2.2.2.2.2.2.2.2.2.2 hI (fun b1 b2 b3 b4 b5 b6 b7 b8 b9 b10 b11 b12 b13 b14 b15 h9 hm => hk (b1, b2, b3, b4, b5, b6, b7, b8, b9, b10, b11, b12, b13, b14, b15) h9 hm)) (a1, a2, a3, a4, a5, a6, a7, a8, a9, a10, a11, a12, a13, a14, a15) h
theorem lp16 {A1 A2 A3 A4 A5 A6 A7 A8 A9 A10 A11 A12 A13 A14 A15 A16 : Type} (W : Nat → A1 → A2 → A3 → A4 → A5 → A6 → A7 → A8 → A9 → A10 → A11 → A12 → A13 → A14 → A15 → A16 → Prop) (I : A1 → A2 → A3 → A4 → A5 → A6 → A7 → A8 → A9 → A10 → A11 → A12 → A13 → A14 → A15 → A16 → Prop) (μ : A1 → A2 → A3 → A4 → A5 → A6 → A7 → A8 → A9 → A10 → A11 → A12 → A13 → A14 → A15 → A16 → Nat) (hs : ∀ (n : Nat) (a1 : A1) (a2 : A2) (a3 : A3) (a4 : A4) (a5 : A5) (a6 : A6) (a7 : A7) (a8 : A8) (a9 : A9) (a10 : A10) (a11 : A11) (a12 : A12) (a13 : A13) (a14 : A14) (a15 : A15) (a16 : A16), I a1 a2 a3 a4 a5 a6 a7 a8 a9 a10 a11 a12 a13 a14 a15 a16 → (∀ (b1 : A1) (b2 : A2) (b3 : A3) (b4 : A4) (b5 : A5) (b6 : A6) (b7 : A7) (b8 : A8) (b9 : A9) (b10 : A10) (b11 : A11) (b12 : A12) (b13 : A13) (b14 : A14) (b15 : A15) (b16 : A16), I b1 b2 b3 b4 b5 b6 b7 b8 b9 b10 b11 b12 b13 b14 b15 b16 → μ b1 b2 b3 b4 b5 b6 b7 b8 b9 b10 b11 b12 b13 b14 b15 b16 < μ a1 a2 a3 a4 a5 a6 a7 a8 a9 a10 a11 a12 a13 a14 a15 a16 → W n b1 b2 b3 b4 b5 b6 b7 b8 b9 b10 b11 b12 b13 b14 b15 b16) → W (n + 1) a1 a2 a3 a4 a5 a6 a7 a8 a9 a10 a11 a12 a13 a14 a15 a16) (a1 : A1) (a2 : A2) (a3 : A3) (a4 : A4) (a5 : A5) (a6 : A6) (a7 : A7) (a8 : A8) (a9 : A9) (a10 : A10) (a11 : A11) (a12 : A12) (a13 : A13) (a14 : A14) (a15 : A15) (a16 : A16) (h : I a1 a2 a3 a4 a5 a6 a7 a8 a9 a10 a11 a12 a13 a14 a15 a16) : ∃ n, W n a1 a2 a3 a4 a5 a6 a7 a8 a9 a10 a11 a12 a13 a14 a15 a16 :=
  loop_m (σ := A1 × A2 × A3 × A4 × A5 × A6 × A7 × A8 × A9 × A10 × A11 × A12 × A13 × A14 × A15 × A16) (fun n s => W n s.1 s.2.1 s.2.2.1 s.2.2.2.1 s.2.2.2.2.1 s.2.2.2.2.2.1 s.2.2.2.2.2.2.1 s.2.2.2.2.2.2.2.1 s.2.2.2.2.2.2.2.2.1 s.2.2.2.2.2.2.2.2.2.1 s.2.2.2.2.2.2.2.2.2.2.1 s.2.2.2.2.2.2.2.2.2.2.2.1 s.2.2.2.2.2.2.2.2.2.2.2.2.1 s.2.2.2.2.2.2.2.2.2.2.2.2.2.1 s.2.2.2.2.2.2.2.2.2.2.2.2.2.2.1 s.2.2.2.2.2.2.2.2.2.2.2.2.2.2.2) (fun s => I s.1 s.2.1 s.2.2.1 s.2.2.2.1 s.2.2.2.2.1 s.2.2.2.2.2.1 s.2.2.2.2.2.2.1 s.2.2.2.2.2.2.2.1 s.2.2.2.2.2.2.2.2.1 s.2.2.2.2.2.2.2.2.2.1 s.2.2.2.2.2.2.2.2.2.2.1 s.2.2.2.2.2.2.2.2.2.2.2.1 s.2.2.2.2.2.2.2.2.2.2.2.2.1 s.2.2.2.2.2.2.2.2.2.2.2.2.2.1 s.2.2.2.2.2.2.2.2.2.2.2.2.2.2.1 s.2.2.2.2.2.2.2.2.2.2.2.2.2.2.2) (fun s => μ s.1 s.2.1 s.2.2.1 s.2.2.2.1 s.2.2.2.2.1 s.2.2.2.2.2.1 s.2.2.2.2.2.2.1 s.2.2.2.2.2.2.2.1 s.2.2.2.2.2.2.2.2.1 s.2.2.2.2.2.2.2.2.2.1 s.2.2.2.2.2.2.2.2.2.2.1 s.2.2.2.2.2.2.2.2.2.2.2.1 s.2.2.2.2.2.2.2.2.2.2.2.2.1 s.2.2.2.2.2.2.2.2.2.2.2.2.2.1 s.2.2.2.2.2.2.2.2.2.2.2.2.2.2.1 s.2.2.2.2.2.2.2.2.2.2.2.2.2.2.2) (fun n s hI hk => hs n s.1 s.2.1 s.2.2.1 s.2.2.2.1 s.2.2.2.2.1 s.2.2.2.2.2.1 s.2.2.2.2.2.2.1 s.2.2.2.2.2.2.2.1 s.2.2.2.2.2.2.2.2.1 s.2.2.2.2.2.2.2.2.2.1 s.2.2.2.2.2.2.2.2.2.2.1 s.2.2.2.2.2.2.2.2.2.2.2.1 s.2.2.2.2.2.2.2.2.2.2.2.2.1 s.2.2.2.2.2.2.2.2.2.2.2.2.2.1 s.2.2.2.2.2.2.2.2.2.2.2.2.2.2.1 s.2.2.2.2.2.2.2.2.2.2.2.2.2.2.2 hI (fun b1 b2 b3 b4 b5 b6 b7 b8 b9 b10 b11 b12 b13 b14 b15 b16 h9 hm => hk (b1, b2, b3, b4, b5, b6, b7, b8, b9, b10, b11, b12, b13, b14, b15, b16) h9 hm)) (a1, a2, a3, a4, a5, a6, a7, a8, a9, a10, a11, a12, a13, a14, a15, a16) h
theorem pk_least (P : Nat → Prop) (h : ∃ k, P k) : ∃ k, P k ∧ ∀ j, j < k → ¬ P j := by
  obtain ⟨k, hk⟩ := h
  induction k using Nat.strongRecOn with
  | ind k ih =>
    by_cases e : ∃ j, j < k ∧ P j
    · obtain ⟨j, hj, pj⟩ := e
      exact ih j hj pj
    · exact ⟨k, hk, fun j hj pj => e ⟨j, hj, pj⟩⟩
theorem rp1 {ρ A1 : Type} (W : Nat → (ρ → Prop) → A1 → Prop) (ok : A1 → Prop) (μ : A1 → Nat) (val : A1 → ρ)
    (hs : ∀ (d : Nat) (post : ρ → Prop) (a1 : A1), ok a1 → post (val a1) → (∀ (post' : ρ → Prop) (b1 : A1), ok b1 → μ b1 < μ a1 → post' (val b1) → W d post' b1) → W (d + 1) post a1) :
    ∀ (d : Nat) (post : ρ → Prop) (a1 : A1), ok a1 → μ a1 < d → post (val a1) → W d post a1 := by
  intro d
  induction d with
  | zero => intro post a1 _ h; omega
  | succ d ih =>
    intro post a1 ho hm hp
    exact hs d post a1 ho hp (fun post' b1 ho' hm' hp' => ih post' b1 ho' (by omega) hp')
theorem rp2 {ρ A1 A2 : Type} (W : Nat → (ρ → Prop) → A1 → A2 → Prop) (ok : A1 → A2 → Prop) (μ : A1 → A2 → Nat) (val : A1 → A2 → ρ)
    (hs : ∀ (d : Nat) (post : ρ → Prop) (a1 : A1) (a2 : A2), ok a1 a2 → post (val a1 a2) → (∀ (post' : ρ → Prop) (b1 : A1) (b2 : A2), ok b1 b2 → μ b1 b2 < μ a1 a2 → post' (val b1 b2) → W d post' b1 b2) → W (d + 1) post a1 a2) :
    ∀ (d : Nat) (post : ρ → Prop) (a1 : A1) (a2 : A2), ok a1 a2 → μ a1 a2 < d → post (val a1 a2) → W d post a1 a2 := by
  intro d
  induction d with
  | zero => intro post a1 a2 _ h; omega
  | succ d ih =>
    intro post a1 a2 ho hm hp
    exact hs d post a1 a2 ho hp (fun post' b1 b2 ho' hm' hp' => ih post' b1 b2 ho' (by omega) hp')
theorem rp3 {ρ A1 A2 A3 : Type} (W : Nat → (ρ → Prop) → A1 → A2 → A3 → Prop) (ok : A1 → A2 → A3 → Prop) (μ : A1 → A2 → A3 → Nat) (val : A1 → A2 → A3 → ρ)
    (hs : ∀ (d : Nat) (post : ρ → Prop) (a1 : A1) (a2 : A2) (a3 : A3), ok a1 a2 a3 → post (val a1 a2 a3) → (∀ (post' : ρ → Prop) (b1 : A1) (b2 : A2) (b3 : A3), ok b1 b2 b3 → μ b1 b2 b3 < μ a1 a2 a3 → post' (val b1 b2 b3) → W d post' b1 b2 b3) → W (d + 1) post a1 a2 a3) :
    ∀ (d : Nat) (post : ρ → Prop) (a1 : A1) (a2 : A2) (a3 : A3), ok a1 a2 a3 → μ a1 a2 a3 < d → post (val a1 a2 a3) → W d post a1 a2 a3 := by
  intro d
  induction d with
  | zero => intro post a1 a2 a3 _ h; omega
  | succ d ih =>
    intro post a1 a2 a3 ho hm hp
    exact hs d post a1 a2 a3 ho hp (fun post' b1 b2 b3 ho' hm' hp' => ih post' b1 b2 b3 ho' (by omega) hp')
theorem rp4 {ρ A1 A2 A3 A4 : Type} (W : Nat → (ρ → Prop) → A1 → A2 → A3 → A4 → Prop) (ok : A1 → A2 → A3 → A4 → Prop) (μ : A1 → A2 → A3 → A4 → Nat) (val : A1 → A2 → A3 → A4 → ρ)
    (hs : ∀ (d : Nat) (post : ρ → Prop) (a1 : A1) (a2 : A2) (a3 : A3) (a4 : A4), ok a1 a2 a3 a4 → post (val a1 a2 a3 a4) → (∀ (post' : ρ → Prop) (b1 : A1) (b2 : A2) (b3 : A3) (b4 : A4), ok b1 b2 b3 b4 → μ b1 b2 b3 b4 < μ a1 a2 a3 a4 → post' (val b1 b2 b3 b4) → W d post' b1 b2 b3 b4) → W (d + 1) post a1 a2 a3 a4) :
    ∀ (d : Nat) (post : ρ → Prop) (a1 : A1) (a2 : A2) (a3 : A3) (a4 : A4), ok a1 a2 a3 a4 → μ a1 a2 a3 a4 < d → post (val a1 a2 a3 a4) → W d post a1 a2 a3 a4 := by
  intro d
  induction d with
  | zero => intro post a1 a2 a3 a4 _ h; omega
  | succ d ih =>
    intro post a1 a2 a3 a4 ho hm hp
    exact hs d post a1 a2 a3 a4 ho hp (fun post' b1 b2 b3 b4 ho' hm' hp' => ih post' b1 b2 b3 b4 ho' (by omega) hp')
theorem rp5 {ρ A1 A2 A3 A4 A5 : Type} (W : Nat → (ρ → Prop) → A1 → A2 → A3 → A4 → A5 → Prop) (ok : A1 → A2 → A3 → A4 → A5 → Prop) (μ : A1 → A2 → A3 → A4 → A5 → Nat) (val : A1 → A2 → A3 → A4 → A5 → ρ)
    (hs : ∀ (d : Nat) (post : ρ → Prop) (a1 : A1) (a2 : A2) (a3 : A3) (a4 : A4) (a5 : A5), ok a1 a2 a3 a4 a5 → post (val a1 a2 a3 a4 a5) → (∀ (post' : ρ → Prop) (b1 : A1) (b2 : A2) (b3 : A3) (b4 : A4) (b5 : A5), ok b1 b2 b3 b4 b5 → μ b1 b2 b3 b4 b5 < μ a1 a2 a3 a4 a5 → post' (val b1 b2 b3 b4 b5) → W d post' b1 b2 b3 b4 b5) → W (d + 1) post a1 a2 a3 a4 a5) :
    ∀ (d : Nat) (post : ρ → Prop) (a1 : A1) (a2 : A2) (a3 : A3) (a4 : A4) (a5 : A5), ok a1 a2 a3 a4 a5 → μ a1 a2 a3 a4 a5 < d → post (val a1 a2 a3 a4 a5) → W d post a1 a2 a3 a4 a5 := by
  intro d
  induction d with
  | zero => intro post a1 a2 a3 a4 a5 _ h; omega
  | succ d ih =>
    intro post a1 a2 a3 a4 a5 ho hm hp
    exact hs d post a1 a2 a3 a4 a5 ho hp (fun post' b1 b2 b3 b4 b5 ho' hm' hp' => ih post' b1 b2 b3 b4 b5 ho' (by omega) hp')
theorem rp6 {ρ A1 A2 A3 A4 A5 A6 : Type} (W : Nat → (ρ → Prop) → A1 → A2 → A3 → A4 → A5 → A6 → Prop) (ok : A1 → A2 → A3 → A4 → A5 → A6 → Prop) (μ : A1 → A2 → A3 → A4 → A5 → A6 → Nat) (val : A1 → A2 → A3 → A4 → A5 → A6 → ρ)
    (hs : ∀ (d : Nat) (post : ρ → Prop) (a1 : A1) (a2 : A2) (a3 : A3) (a4 : A4) (a5 : A5) (a6 : A6), ok a1 a2 a3 a4 a5 a6 → post (val a1 a2 a3 a4 a5 a6) → (∀ (post' : ρ → Prop) (b1 : A1) (b2 : A2) (b3 : A3) (b4 : A4) (b5 : A5) (b6 : A6), ok b1 b2 b3 b4 b5 b6 → μ b1 b2 b3 b4 b5 b6 < μ a1 a2 a3 a4 a5 a6 → post' (val b1 b2 b3 b4 b5 b6) → W d post' b1 b2 b3 b4 b5 b6) → W (d + 1) post a1 a2 a3 a4 a5 a6) :
    ∀ (d : Nat) (post : ρ → Prop) (a1 : A1) (a2 : A2) (a3 : A3) (a4 : A4) (a5 : A5) (a6 : A6), ok a1 a2 a3 a4 a5 a6 → μ a1 a2 a3 a4 a5 a6 < d → post (val a1 a2 a3 a4 a5 a6) → W d post a1 a2 a3 a4 a5 a6 := by
  intro d
  induction d with
  | zero => intro post a1 a2 a3 a4 a5 a6 _ h; omega
  | succ d ih =>
    intro post a1 a2 a3 a4 a5 a6 ho hm hp
    exact hs d post a1 a2 a3 a4 a5 a6 ho hp (fun post' b1 b2 b3 b4 b5 b6 ho' hm' hp' => ih post' b1 b2 b3 b4 b5 b6 ho' (by omega) hp')
theorem rec_p {σ ρ : Type} (W : Nat → (ρ → Prop) → σ → Prop) (ok : σ → Prop) (μ : σ → Nat) (val : σ → ρ)
    (hs : ∀ d s post, ok s → post (val s) → (∀ s' post', ok s' → μ s' < μ s → post' (val s') → W d post' s') → W (d + 1) post s) :
    ∀ d s post, ok s → μ s < d → post (val s) → W d post s := by
  intro d
  induction d with
  | zero => intro s post _ h; omega
  | succ d ih =>
    intro s post ho hm hp
    exact hs d s post ho hp (fun s' post' ho' hm' hp' => ih s' post' ho' (by omega) hp')
theorem rec_q {σ ρ : Type} (W : Nat → (ρ → Prop) → σ → Prop) (ok : σ → Prop) (μ : σ → Nat) (Q : σ → ρ → Prop)
    (hs : ∀ d s post, ok s → (∀ r, Q s r → post r) → (∀ s' post', ok s' → μ s' < μ s → (∀ r, Q s' r → post' r) → W d post' s') → W (d + 1) post s) :
    ∀ d s post, ok s → μ s < d → (∀ r, Q s r → post r) → W d post s := by
  intro d
  induction d with
  | zero => intro s post _ h; omega
  | succ d ih =>
    intro s post ho hm hp
    exact hs d s post ho hp (fun s' post' ho' hm' hp' => ih s' post' ho' (by omega) hp')
def bx_sum (f : Nat → Int32) : Nat → Int32
  | 0 => 0
  | n + 1 => bx_sum f n + f n
theorem ek_u {A : Prop} {B : Nat → Prop} {k N : Nat} (hk : k < N) (h : B k) : (some k = none → A) ∧ (∀ y : Nat, some k = some y → (y < N ∧ B y)) :=
  ⟨fun z => absurd z (Option.some_ne_none k), fun _ e => (by cases e; exact ⟨hk, h⟩)⟩
theorem ek_nu {A : Prop} {B : Nat → Prop} (h : A) : ((none : Option Nat) = none → A) ∧ (∀ y : Nat, (none : Option Nat) = some y → B y) :=
  ⟨fun _ => h, fun _ e => (by cases e)⟩
theorem ek_if {c d A B : Prop} (e : c ↔ d) (f : d → A) (g : ¬ d → B) : (c → A) ∧ (¬ c → B) :=
  ⟨fun z => f (e.mp z), fun z => g (fun y => z (e.mpr y))⟩
theorem ek_v {α : Sort _} {P : α → Prop} {a b : α} (e : a = b) (h : P b) : P a := e ▸ h
theorem co_some {x : Option Nat} {A : Prop} {B : Nat → Prop} (i : Nat) (h : B i) (hx : x = some i := by rfl) : (x = none → A) ∧ (∀ y : Nat, x = some y → B y) := by
  subst hx
  exact ⟨fun e => (nomatch e), fun y e => Option.some.inj e ▸ h⟩
theorem co_none {x : Option Nat} {A : Prop} {B : Nat → Prop} (h : A) (hx : x = none := by rfl) : (x = none → A) ∧ (∀ y : Nat, x = some y → B y) := by
  subst hx
  exact ⟨fun _ => h, fun y e => (nomatch e)⟩
theorem co_any {x : Option Nat} {A : Prop} {B : Nat → Prop} (hn : x = none → A) (hs : ∀ i : Nat, x = some i → B i) : (x = none → A) ∧ (∀ y : Nat, x = some y → B y) := ⟨hn, hs⟩
theorem co_2 {P : Nat → Prop} (h0 : P 0) (h1 : P 1) {i : Nat} (hi : i < 2) : P i :=
  match i, hi with
  | 0, _ => h0
  | 1, _ => h1
theorem co_3 {P : Nat → Prop} (h0 : P 0) (h1 : P 1) (h2 : P 2) {i : Nat} (hi : i < 3) : P i :=
  match i, hi with
  | 0, _ => h0
  | 1, _ => h1
  | 2, _ => h2
theorem co_4 {P : Nat → Prop} (h0 : P 0) (h1 : P 1) (h2 : P 2) (h3 : P 3) {i : Nat} (hi : i < 4) : P i :=
  match i, hi with
  | 0, _ => h0
  | 1, _ => h1
  | 2, _ => h2
  | 3, _ => h3
theorem co_dec {N : Nat} {P : Nat → Prop} [DecidablePred P] (h : (List.range N).all (fun i => decide (P i)) = true) {i : Nat} (hi : i < N) : P i := by
  have := List.all_eq_true.mp h i (List.mem_range.mpr hi)
  exact of_decide_eq_true this
theorem co_tab {α : Type} {l : List α} {d : α} {P : α → Prop} (h : ∀ a, a ∈ l → P a) {i : Nat} (hi : i < l.length) : P (l.getD i d) := by
  rw [List.getD_eq_getElem?_getD, List.getElem?_eq_getElem hi]
  exact h _ (List.getElem_mem hi)
theorem pk_mu {x : Int32} {L : Nat} (h0 : ¬ x < 0) (h : ¬ nI L ≤ x) (hL : L < 2 ^ 31) : ∃ j : Nat, j < L ∧ x = nI j ∧ x + 1 = nI (j + 1) ∧ x.toNatClampNeg = j ∧ L - (x + 1).toNatClampNeg < L - x.toNatClampNeg := by
  obtain ⟨j, hj, rfl⟩ := nI_of h0
  have hl : j < L := Nat.not_le.mp fun q => h (nI_le q hj)
  refine ⟨j, hl, rfl, nI_1 j, nI_clamp hj, ?_⟩
  rw [nI_1, nI_clamp (by omega), nI_clamp hj]
  omega
theorem op_s {α : Type} {r : Option α} {A : Prop} {B : α → Prop} {y : α} (h : r = some y) (b : B y) : (r = none → A) ∧ ∀ z, r = some z → B z :=
  ⟨fun e => (by rw [h] at e; cases e), fun z e => (by rw [h] at e; cases e; exact b)⟩
def l_holds {α : Type} (a : Nat → Option Nat) (LP : List Nat) (p : Nat → α) (c : Nat) (b : Nat → α) : Prop :=
  ∀ j, j < c → ∃ y, a j = some y ∧ y ∈ LP ∧ p y = b j
theorem l_holds_0 {α : Type} {a : Nat → Option Nat} {LP : List Nat} {p b : Nat → α} : l_holds a LP p 0 b := fun j h => absurd h (Nat.not_lt_zero j)
theorem l_in_new (LP : List Nat) (q : Nat) : q ∈ LP ++ [q] := List.mem_append.mpr (Or.inr (List.mem_singleton.mpr rfl))
def l_sum (b : Nat → Int32) : Nat → Int32
  | 0 => 0
  | k + 1 => l_sum b k + b k
theorem sb_shr0 (x : Int32) : x >>> ((0 : Int32) &&& 31) = x := by
  rw [show ((0 : Int32) &&& 31) = 0 by decide]
  simp
theorem sb_shl0 (x : Int32) : x <<< ((0 : Int32) &&& 31) = x := by
  rw [show ((0 : Int32) &&& 31) = 0 by decide]
  simp
theorem sb_cl0 : (0 : Int32).toNatClampNeg = 0 := by decide
theorem sb_m1 {p : Nat} (h : 0 < p) : nI p + (-1) = nI (p - 1) := by
  obtain ⟨q, rfl⟩ : ∃ q, p = q + 1 := ⟨p - 1, by omega⟩
  exact pk_m1 q
def sb_b (c : Nat) : Int32 := (nI c).toInt8.toInt32
theorem sb_byte : ∀ c, c < 256 → sb_b c &&& 255 = nI c ∧ ((nI c).toUInt32 % 65536).toInt32 = nI c ∧ nI c ≤ 255 := by decide +kernel
def sb_Fit (a : Nat → Int32) : Prop := ∀ j, fits .byte (.int (a j)) = true
def sb_Lat (t : Nat → Nat) (n : Nat) (a : Nat → Int32) : Prop := ∀ j, j < n → t j < 256 ∧ a j = sb_b (t j)
theorem sb_fitB (c : Nat) : fits .byte (.int (sb_b c)) = true := pk_fb _
theorem sb_fit0 : sb_Fit (fun _ => 0) := fun _ => by
  show fits .byte (.int 0) = true
  decide
theorem sb_fitU {a : Nat → Int32} {k : Nat} {x : Int32} (h : sb_Fit a) (hx : fits .byte (.int x) = true) : sb_Fit (upd a k x) := by
  intro j
  by_cases e : j = k
  · subst e
    rw [pk_us]
    exact hx
  · rw [pk_un e]
    exact h j
def sb_cat (t : Nat → Nat) (n : Nat) (s : Nat → Nat) : Nat → Nat := fun j => if j < n then t j else s (j - n)
theorem sb_cat_lo {t s : Nat → Nat} {n j : Nat} (h : j < n) : sb_cat t n s j = t j := if_pos h
theorem sb_cat_hi {t s : Nat → Nat} {n j : Nat} : sb_cat t n s (n + j) = s j := by
  show (if n + j < n then t (n + j) else s (n + j - n)) = s j
  rw [if_neg (by omega), Nat.add_sub_cancel_left]
theorem sb_latPut {t s : Nat → Nat} {n w : Nat} {a a' : Nat → Int32} (h : sb_Lat t n a) (hk : ∀ j, j < n → a' j = a j) (hs : ∀ i, i < w → s i < 256 ∧ a' (n + i) = sb_b (s i)) : sb_Lat (sb_cat t n s) (n + w) a' := by
  intro j hj
  by_cases e : j < n
  · rw [sb_cat_lo e, hk j e]
    exact h j e
  · obtain ⟨i, rfl⟩ : ∃ i, j = n + i := ⟨j - n, by omega⟩
    rw [sb_cat_hi]
    exact hs i (by omega)
theorem sb_latKeep {t : Nat → Nat} {n : Nat} {a a' : Nat → Int32} (h : sb_Lat t n a) (hk : ∀ j, j < n → a' j = a j) : sb_Lat t n a' := fun j hj => by
  rw [hk j hj]
  exact h j hj
def sb_cap (q m : Nat) : Nat := if q ≤ m then m else if 2 * m + 2 < q then q else 2 * m + 2
def sb_Room (q m mc ms : Nat) : Prop := q ≤ m ∨ (1 ≤ mc ∧ sb_cap q m ≤ ms ∧ sb_cap q m ≤ 65536)
theorem sb_cap_ge (q m : Nat) : q ≤ sb_cap q m := by
  unfold sb_cap
  split
  · omega
  · split <;> omega
theorem sb_cap_gem (q m : Nat) : m ≤ sb_cap q m := by
  unfold sb_cap
  split
  · omega
  · split <;> omega
theorem sb_cap_le {q m mc ms : Nat} (hm : m ≤ 65536) (hr : sb_Room q m mc ms) : sb_cap q m ≤ 65536 := by
  rcases hr with h | h
  · rw [sb_cap, if_pos h]
    exact hm
  · exact h.2.2
theorem sb_at {P : Int32 → Prop} {x y : Int32} (e : x = y) (h : P y) : P x := e ▸ h
def sb_dg (w : Nat) : Nat := if w < 10 then 1 else if w < 100 then 2 else if w < 1000 then 3 else if w < 10000 then 4 else if w < 100000 then 5 else if w < 1000000 then 6 else if w < 10000000 then 7 else if w < 100000000 then 8 else if w < 1000000000 then 9 else 10
def sb_dec (v : Nat) : Nat → Nat := fun i => 48 + v / 10 ^ (sb_dg v - 1 - i) % 10
theorem sb_dg_in (w : Nat) : 1 ≤ sb_dg w ∧ sb_dg w ≤ 10 := by
  unfold sb_dg
  constructor <;> (repeat' split) <;> omega
theorem sb_dg100 {w : Nat} (h : 100 ≤ w) (hw : w < 2 ^ 31) : sb_dg w = sb_dg (w / 100) + 2 := by
  rw [sb_dg, sb_dg, if_neg (show ¬ w < 10 by omega), if_neg (show ¬ w < 100 by omega)]
  by_cases h3 : w < 1000
  · rw [if_pos h3, if_pos (show w / 100 < 10 by omega)]
  rw [if_neg h3, if_neg (show ¬ w / 100 < 10 by omega)]
  by_cases h4 : w < 10000
  · rw [if_pos h4, if_pos (show w / 100 < 100 by omega)]
  rw [if_neg h4, if_neg (show ¬ w / 100 < 100 by omega)]
  by_cases h5 : w < 100000
  · rw [if_pos h5, if_pos (show w / 100 < 1000 by omega)]
  rw [if_neg h5, if_neg (show ¬ w / 100 < 1000 by omega)]
  by_cases h6 : w < 1000000
  · rw [if_pos h6, if_pos (show w / 100 < 10000 by omega)]
  rw [if_neg h6, if_neg (show ¬ w / 100 < 10000 by omega)]
  by_cases h7 : w < 10000000
  · rw [if_pos h7, if_pos (show w / 100 < 100000 by omega)]
  rw [if_neg h7, if_neg (show ¬ w / 100 < 100000 by omega)]
  by_cases h8 : w < 100000000
  · rw [if_pos h8, if_pos (show w / 100 < 1000000 by omega)]
  rw [if_neg h8, if_neg (show ¬ w / 100 < 1000000 by omega)]
  by_cases h9 : w < 1000000000
  · rw [if_pos h9, if_pos (show w / 100 < 10000000 by omega)]
  rw [if_neg h9, if_neg (show ¬ w / 100 < 10000000 by omega)]
  rw [if_pos (show w / 100 < 100000000 by omega)]
theorem sb_negT {w : Nat} (h : w < 2 ^ 31) : (-nI w).toInt = -(w : Int) := by
  rw [Int32.toInt_neg, nI_toInt h]
  exact Int.bmod_eq_of_le (by omega) (by omega)
theorem sb_nle {a b : Nat} (ha : a < 2 ^ 31) (hb : b < 2 ^ 31) : -nI a ≤ -nI b ↔ b ≤ a := by
  rw [Int32.le_iff_toInt_le, sb_negT ha, sb_negT hb]
  omega
theorem sb_nlt {a b : Nat} (ha : a < 2 ^ 31) (hb : b < 2 ^ 31) : -nI a < -nI b ↔ b < a := by
  rw [Int32.lt_iff_toInt_lt, sb_negT ha, sb_negT hb]
  omega
theorem sb_cmp {A B : Prop} {x : Int32} (v c : Nat) (f : c ≤ v → A) (g : v < c → B) (hv : v < 2 ^ 31) (hx : x = -nI c := by rfl) (hc : c < 2 ^ 31 := by omega) : (-nI v ≤ x → A) ∧ (¬ -nI v ≤ x → B) := by
  subst hx
  rw [sb_nle hv hc]
  exact ⟨f, fun z => g (by omega)⟩
theorem sb_ndiv {w : Nat} (hw : w < 2 ^ 31) : (-nI w) / 100 = -nI (w / 100) := by
  apply Int32.toInt_inj.mp
  have h100 : (100 : Int32).toInt = 100 := by decide
  rw [Int32.toInt_div, sb_negT hw, h100, sb_negT (by omega), Int.neg_tdiv, Int.tdiv_eq_ediv_of_nonneg (by omega), Int.bmod_eq_of_le (by omega) (by omega)]
  omega
theorem sb_nrem {w : Nat} (hw : w < 2 ^ 31) : (-nI (w / 100)) * 100 - (-nI w) = nI (w % 100) := by
  have h := pk_rem (a := w) (d := 100) hw (by decide) (by decide)
  rw [pk_div hw (by decide) (by decide)] at h
  rw [← h]
  show (-nI (w / 100)) * nI 100 - (-nI w) = nI w - nI (w / 100) * nI 100
  rw [Int32.neg_mul, Int32.sub_neg, Int32.add_comm, ← Int32.sub_eq_add_neg]
end
section
/-! rows on bits, shifts and unsigned numbers, to paste: each family out of a closed proof of our own, whole with what it rests on; each by itself clean at Lean in its own claim (generation 39, form 5). Take a family whole -/
/-! ===== Int32 by its bits: bt x i ===== -/
def bt (x : Int32) (i : Nat) : Bool := x.toBitVec.getLsbD i
theorem b_ext {x y : Int32} (h : ∀ i, i < 32 → bt x i = bt y i) : x = y := Int32.toBitVec_inj.mp (BitVec.eq_of_getLsbD_eq (fun i hi => h i hi))
theorem b_or (x y : Int32) (i : Nat) : bt (x ||| y) i = (bt x i || bt y i) := by unfold bt; rw [Int32.toBitVec_or, BitVec.getLsbD_or]
theorem b_and (x y : Int32) (i : Nat) : bt (x &&& y) i = (bt x i && bt y i) := by unfold bt; rw [Int32.toBitVec_and, BitVec.getLsbD_and]
theorem b_xor (x y : Int32) (i : Nat) : bt (x ^^^ y) i = (bt x i ^^ bt y i) := by unfold bt; rw [Int32.toBitVec_xor, BitVec.getLsbD_xor]
theorem b_big {x : Int32} {i : Nat} (h : 32 ≤ i) : bt x i = false := BitVec.getLsbD_of_ge _ _ h
theorem b_255 (i : Nat) : bt 255 i = decide (i < 8) := by
  rcases Nat.lt_or_ge i 32 with h | h
  · exact (by decide +kernel : ∀ i, i < 32 → bt 255 i = decide (i < 8)) i h
  · rw [b_big h, decide_eq_false (by omega)]
theorem b_65535 (i : Nat) : bt 65535 i = decide (i < 16) := by
  rcases Nat.lt_or_ge i 32 with h | h
  · exact (by decide +kernel : ∀ i, i < 32 → bt 65535 i = decide (i < 16)) i h
  · rw [b_big h, decide_eq_false (by omega)]
theorem b_m1 : ∀ i, i < 32 → bt (-1) i = true := by decide +kernel
theorem b_0 (i : Nat) : bt 0 i = false := BitVec.getLsbD_zero
theorem s_l : ∀ n, n < 32 → ((nI n &&& 31).toBitVec.smod 32).toNat = n := by decide +kernel
theorem s_u : ∀ n, n < 32 → (((nI n).toUInt32 &&& Int32.toUInt32 31).toBitVec % 32).toNat = n := by decide +kernel
theorem b_shl (n : Nat) (hn : n < 32) (x : Int32) {i : Nat} (hi : i < 32) : bt (x <<< (nI n &&& 31)) i = (decide (n ≤ i) && bt x (i - n)) := by
  unfold bt
  rw [Int32.toBitVec_shiftLeft]
  show (x.toBitVec <<< ((nI n &&& 31).toBitVec.smod 32).toNat).getLsbD i = _
  rw [s_l n hn, BitVec.getLsbD_shiftLeft]
  rcases Nat.lt_or_ge i n with h | h
  · simp [h, Nat.not_le.mpr h]
  · simp [hi, h, Nat.not_lt.mpr h]
theorem b_ushr (n : Nat) (hn : n < 32) (x : Int32) (i : Nat) : bt ((x.toUInt32 >>> ((nI n).toUInt32 &&& Int32.toUInt32 31)).toInt32) i = bt x (n + i) := by
  show (x.toUInt32 >>> ((nI n).toUInt32 &&& Int32.toUInt32 31)).toBitVec.getLsbD i = x.toUInt32.toBitVec.getLsbD (n + i)
  rw [UInt32.toBitVec_shiftRight]
  show (x.toUInt32.toBitVec >>> (((nI n).toUInt32 &&& Int32.toUInt32 31).toBitVec % 32).toNat).getLsbD i = _
  rw [s_u n hn, BitVec.getLsbD_ushiftRight]
theorem b_sshr (n : Nat) (hn : n < 32) (x : Int32) {i : Nat} (hi : i < 32) : bt (x >>> (nI n &&& 31)) i = if n + i < 32 then bt x (n + i) else bt x 31 := by
  unfold bt
  rw [Int32.toBitVec_shiftRight]
  show (x.toBitVec.sshiftRight ((nI n &&& 31).toBitVec.smod 32).toNat).getLsbD i = _
  rw [s_l n hn, BitVec.getLsbD_sshiftRight, BitVec.msb_eq_getLsbD_last]
  simp [hi]
theorem b_shl8 (x : Int32) {i : Nat} (hi : i < 32) : bt (x <<< ((8 : Int32) &&& 31)) i = (decide (8 ≤ i) && bt x (i - 8)) := b_shl 8 (by omega) x hi
theorem b_shl16 (x : Int32) {i : Nat} (hi : i < 32) : bt (x <<< ((16 : Int32) &&& 31)) i = (decide (16 ≤ i) && bt x (i - 16)) := b_shl 16 (by omega) x hi
theorem b_shl24 (x : Int32) {i : Nat} (hi : i < 32) : bt (x <<< ((24 : Int32) &&& 31)) i = (decide (24 ≤ i) && bt x (i - 24)) := b_shl 24 (by omega) x hi
theorem b_sshr8 (x : Int32) {i : Nat} (hi : i < 32) : bt (x >>> ((8 : Int32) &&& 31)) i = if 8 + i < 32 then bt x (8 + i) else bt x 31 := b_sshr 8 (by omega) x hi
/-! ===== nI under and, xor, >>>, one bit, 65535 ===== -/
theorem nx_and (a b : Nat) : nI a &&& nI b = nI (a &&& b) := by
  apply Int32.toBitVec_inj.1
  show BitVec.ofNat 32 a &&& BitVec.ofNat 32 b = BitVec.ofNat 32 (a &&& b)
  apply BitVec.eq_of_getLsbD_eq
  intro i hi
  simp [hi]
theorem nx_xor (a b : Nat) : nI a ^^^ nI b = nI (a ^^^ b) := by
  apply Int32.toBitVec_inj.1
  show BitVec.ofNat 32 a ^^^ BitVec.ofNat 32 b = BitVec.ofNat 32 (a ^^^ b)
  apply BitVec.eq_of_getLsbD_eq
  intro i hi
  simp [hi]
theorem nx_cnt : ∀ j : Fin 32, (UInt32.ofNat j.val &&& Int32.toUInt32 31).toNat % 32 = j.val := by decide +kernel
theorem nx_ush {k j : Nat} (hk : k < 65536) (hj : j < 32) : ((nI k).toUInt32 >>> ((nI j).toUInt32 &&& Int32.toUInt32 31)).toInt32 = nI (k >>> j) := by
  have hs : k >>> j ≤ k := by
    rw [Nat.shiftRight_eq_div_pow]
    exact Nat.div_le_self _ _
  have e2 : UInt32.ofNat k >>> (UInt32.ofNat j &&& Int32.toUInt32 31) = UInt32.ofNat (k >>> j) := by
    apply UInt32.toNat_inj.1
    have h1 : (UInt32.ofNat k).toNat = k := Nat.mod_eq_of_lt (by omega)
    have h2 : (UInt32.ofNat (k >>> j)).toNat = k >>> j := Nat.mod_eq_of_lt (by omega)
    rw [UInt32.toNat_shiftRight, nx_cnt ⟨j, hj⟩, h1, h2]
  show (UInt32.ofNat k >>> (UInt32.ofNat j &&& Int32.toUInt32 31)).toInt32 = _
  rw [e2]
  rfl
theorem nx_bit {k j : Nat} (hk : k < 65536) (hj : j < 16) : (((nI k).toUInt32 >>> ((nI j).toUInt32 &&& Int32.toUInt32 31)).toInt32 &&& 1) = 0 ↔ k.testBit j = false := by
  rw [nx_ush hk (by omega)]
  show nI (k >>> j) &&& nI 1 = 0 ↔ _
  rw [nx_and, Nat.and_one_is_mod, ← nI_0, nI_eq (by omega) (by omega), Nat.testBit_eq_decide_div_mod_eq, Nat.shiftRight_eq_div_pow, decide_eq_false_iff_not]
  generalize k / 2 ^ j = z
  omega
theorem nx_mod (k : Nat) : nI k &&& 65535 = nI (k % 65536) := by
  show nI k &&& nI 65535 = _
  rw [nx_and, show (65535 : Nat) = 2 ^ 16 - 1 from rfl, Nat.and_two_pow_sub_one_eq_mod]
theorem nx_m16 {k : Nat} (h : k < 65536) : nI k &&& 65535 = nI k := by rw [nx_mod, Nat.mod_eq_of_lt h]
theorem nx_mask (x : Int32) : ∃ k, k < 65536 ∧ x &&& 65535 = nI k := by
  have e : x = nI x.toBitVec.toNat := by
    apply Int32.toBitVec_inj.1
    show x.toBitVec = BitVec.ofNat 32 x.toBitVec.toNat
    simp
  refine ⟨x.toBitVec.toNat % 65536, Nat.mod_lt _ (by omega), ?_⟩
  rw [← nx_mod, ← e]
/-! ===== Int32 as a set of bits: test, set ===== -/
def nf_M (m : Int32) : Nat := 4294967296 - m.toBitVec.toNat
theorem nf_sh : ∀ l, l < 32 → ((1 : Int32) <<< (nI l &&& 31)).toBitVec = BitVec.twoPow 32 l := by decide +kernel
theorem nf_sl : ∀ l, l < 32 → (((nI l).toUInt32 &&& Int32.toUInt32 31).toBitVec % 32).toNat = l := by decide +kernel
theorem nf_tp : ∀ l, l < 32 → BitVec.twoPow 32 l ≠ 0#32 := by decide +kernel
theorem nf_bit (m : Int32) (l : Nat) (hl : l < 32) : ((m.toUInt32 >>> ((nI l).toUInt32 &&& Int32.toUInt32 31)).toInt32 &&& 1) = 0 ↔ (m &&& ((1 : Int32) <<< (nI l &&& 31))) = 0 := by
  have e : ((m.toUInt32 >>> ((nI l).toUInt32 &&& Int32.toUInt32 31)).toInt32).toBitVec = m.toBitVec >>> l := by
    show m.toBitVec >>> (((nI l).toUInt32 &&& Int32.toUInt32 31).toBitVec % 32) = m.toBitVec >>> l
    rw [BitVec.ushiftRight_eq', nf_sl l hl]
  rw [← Int32.toBitVec_inj, ← Int32.toBitVec_inj, Int32.toBitVec_and, Int32.toBitVec_and, nf_sh l hl, e, BitVec.and_twoPow]
  show (m.toBitVec >>> l &&& 1#32) = 0#32 ↔ _ = 0#32
  rw [BitVec.and_one_eq_setWidth_ofBool_getLsbD, BitVec.getLsbD_ushiftRight, Nat.add_zero]
  cases hb : m.toBitVec.getLsbD l
  · exact ⟨fun _ => by simp, fun _ => by decide⟩
  · exact ⟨fun z => absurd z (by decide), fun z => absurd ((if_pos rfl).symm.trans z) (nf_tp l hl)⟩
theorem nf_gr (m k : Int32) (h : m &&& k = 0) (hk : k ≠ 0) : nf_M (m ||| k) < nf_M m := by
  have hm := m.toBitVec.isLt
  have hm' := (m ||| k).toBitVec.isLt
  have h1 : m.toBitVec.toNat ≤ (m ||| k).toBitVec.toNat := by
    rw [Int32.toBitVec_or, BitVec.toNat_or]
    exact Nat.left_le_or
  have h2 : m.toBitVec.toNat ≠ (m ||| k).toBitVec.toNat := by
    intro e
    have e2 : m = m ||| k := Int32.toBitVec_inj.mp (BitVec.eq_of_toNat_eq e)
    apply hk
    apply Int32.toBitVec_inj.mp
    show k.toBitVec = 0#32
    apply BitVec.eq_of_getLsbD_eq
    intro i hi
    have a : m.toBitVec.getLsbD i = (m.toBitVec.getLsbD i || k.toBitVec.getLsbD i) := by rw [← BitVec.getLsbD_or, ← Int32.toBitVec_or, ← e2]
    have b : (m.toBitVec.getLsbD i && k.toBitVec.getLsbD i) = false := by
      rw [← BitVec.getLsbD_and, ← Int32.toBitVec_and, h]
      exact BitVec.getLsbD_zero
    rw [BitVec.getLsbD_zero]
    revert a b
    cases m.toBitVec.getLsbD i <;> cases k.toBitVec.getLsbD i <;> simp
  unfold nf_M
  omega
/-! ===== a byte read unsigned ===== -/
theorem bp_b (x : Int32) : x.toInt8.toInt32 &&& 255 = x &&& 255 := by
  apply Int32.toBitVec_inj.mp
  rw [Int32.toBitVec_and, Int32.toBitVec_and, Int8.toBitVec_toInt32, Int32.toBitVec_toInt8]
  apply BitVec.eq_of_getLsbD_eq
  intro i hi
  rw [BitVec.getLsbD_and, BitVec.getLsbD_and]
  have hm : ∀ i < 32, 8 ≤ i → (255 : Int32).toBitVec.getLsbD i = false := by decide
  rcases Nat.lt_or_ge i 8 with z | z
  · rw [BitVec.getLsbD_signExtend, BitVec.getLsbD_signExtend, if_pos z, if_pos hi]
    simp only [z, hi, decide_true, Bool.true_and]
  · rw [hm i hi z]; simp
/-! ===== the char cast and 65535 ===== -/
theorem em_w (v : Int32) : ∃ w : Nat, w < 65536 ∧ (v.toUInt32 % 65536).toInt32 = nI w ∧ v &&& 65535 = nI w := by
  have hr := lw_u16_r v
  have h0 : (0 : Int32).toInt = 0 := by decide
  obtain ⟨w, h1, h2⟩ := nI_of (x := lw_u16 v) (by rw [Int32.lt_iff_toInt_lt]; omega)
  have h3 : (v.toUInt32 % 65536).toInt32 = nI w := h2
  rw [h2, nI_toInt h1] at hr
  exact ⟨w, by omega, h3, by rw [← lg_i2c_mask, ← lg_i2c_nf, h3]⟩
/-! ===== Int64 as a set of bits: test, set, clear ===== -/
theorem ts_nf {x : Bool} (h : ¬ x = false) : x = true := by cases x <;> first | rfl | exact absurd rfl h
theorem ts_nt {x : Bool} (h : ¬ x = true) : x = false := by cases x <;> first | rfl | exact absurd rfl h
theorem ts_bit {w : Int64} {s : UInt64} {j : Nat} (hj : j < 64) (hs : s.toNat = j) : ((w.toUInt64 >>> s).toInt64 &&& 1) = 0 ↔ w.toBitVec.getLsbD j = false := by
  have e : (w.toUInt64 >>> s).toInt64.toBitVec = w.toBitVec >>> j := by
    apply BitVec.eq_of_toNat_eq
    show (w.toUInt64 >>> s).toNat = _
    rw [UInt64.toNat_shiftRight, hs, Nat.mod_eq_of_lt hj, BitVec.toNat_ushiftRight]
    rfl
  rw [← Int64.toBitVec_inj, Int64.toBitVec_and, e]
  show w.toBitVec >>> j &&& 1#64 = 0#64 ↔ _
  constructor
  · intro h
    have t := congrArg (fun x => x.getLsbD 0) h
    simpa using t
  · intro h
    apply BitVec.eq_of_getLsbD_eq
    intro i hi
    cases i with
    | zero => simp [h]
    | succ i => simp
theorem ts_or {w m : Int64} {j : Nat} (hj : j < 64) (hm : m.toBitVec = BitVec.twoPow 64 j) : (w ||| m) = w ↔ w.toBitVec.getLsbD j = true := by
  rw [← Int64.toBitVec_inj, Int64.toBitVec_or, hm]
  constructor
  · intro h
    have t := congrArg (fun x => x.getLsbD j) h
    simp only [BitVec.getLsbD_or, BitVec.getLsbD_twoPow] at t
    simpa [hj] using t.symm
  · intro h
    apply BitVec.eq_of_getLsbD_eq
    intro i hi
    rw [BitVec.getLsbD_or, BitVec.getLsbD_twoPow]
    by_cases e : j = i
    · subst e; rw [h, Bool.true_or]
    · simp [e]
theorem ts_and {w m : Int64} {j : Nat} (hj : j < 64) (hm : m.toBitVec = BitVec.twoPow 64 j) : (w &&& (m ^^^ (-1))) = w ↔ w.toBitVec.getLsbD j = false := by
  have ha : (-1 : Int64).toBitVec = BitVec.allOnes 64 := by decide
  rw [← Int64.toBitVec_inj, Int64.toBitVec_and, Int64.toBitVec_xor, hm, ha]
  constructor
  · intro h
    have t := congrArg (fun x => x.getLsbD j) h
    simp only [BitVec.getLsbD_and, BitVec.getLsbD_xor, BitVec.getLsbD_twoPow, BitVec.getLsbD_allOnes] at t
    simpa [hj] using t.symm
  · intro h
    apply BitVec.eq_of_getLsbD_eq
    intro i hi
    rw [BitVec.getLsbD_and, BitVec.getLsbD_xor, BitVec.getLsbD_twoPow, BitVec.getLsbD_allOnes]
    by_cases e : j = i
    · subst e; rw [h, Bool.false_and]
    · simp [e, hi]
/-! ===== lN n to 2^64: shifts, and, or, masks, one bit ===== -/
theorem wb_tb (n : Nat) : (lN n).toBitVec = BitVec.ofNat 64 n := rfl
theorem wb_inj {a b : Int64} (h : a.toBitVec = b.toBitVec) : a = b := Int64.toBitVec_inj.mp h
theorem wb_tn {n : Nat} (h : n < 2 ^ 64) : (lN n).toBitVec.toNat = n := by rw [wb_tb, BitVec.toNat_ofNat, Nat.mod_eq_of_lt h]
theorem wb_of (x : Int64) : ∃ n, n < 2 ^ 64 ∧ x = lN n := ⟨x.toBitVec.toNat, x.toBitVec.isLt, wb_inj (by rw [wb_tb]; simp)⟩
theorem wb_of32 (x : Int32) : ∃ n, n < 2 ^ 32 ∧ x = nI n := ⟨x.toBitVec.toNat, x.toBitVec.isLt, Int32.toBitVec_inj.mp (by show _ = BitVec.ofNat 32 _; simp)⟩
theorem wb_c : ∀ k, k < 64 → ((nI k).toInt64 &&& 63) = lN k := by decide +kernel
theorem wb_cu : ∀ k, k < 64 → ((nI k).toInt64.toUInt64 &&& Int64.toUInt64 63) = UInt64.ofNat k := by decide +kernel
theorem wb_sm : ∀ k, k < 64 → (BitVec.ofNat 64 k).smod 64 = BitVec.ofNat 64 k := by decide +kernel
theorem wb_pw {a b : Nat} (h : a ≤ b) : 2 ^ b = 2 ^ a * 2 ^ (b - a) := by rw [← Nat.pow_add]; congr 1; omega
theorem wb_lt2 {a b : Nat} (h : a < b) : 2 ^ a < 2 ^ b := Nat.pow_lt_pow_right (by decide) h
theorem wb_mod (n : Nat) : lN n = lN (n % 2 ^ 64) := wb_inj (by rw [wb_tb, wb_tb]; apply BitVec.eq_of_toNat_eq; rw [BitVec.toNat_ofNat, BitVec.toNat_ofNat, Nat.mod_mod])
theorem wb_shr {n k : Nat} (hn : n < 2 ^ 64) (hk : k < 64) : ((lN n).toUInt64 >>> ((nI k).toInt64.toUInt64 &&& Int64.toUInt64 63)).toInt64 = lN (n / 2 ^ k) := by
  rw [wb_cu k hk]
  apply wb_inj
  apply BitVec.eq_of_toNat_eq
  show ((lN n).toUInt64 >>> UInt64.ofNat k).toNat = (BitVec.ofNat 64 _).toNat
  have h1 : (UInt64.ofNat k).toNat = k := by
    show (BitVec.ofNat 64 k).toNat = k
    rw [BitVec.toNat_ofNat, Nat.mod_eq_of_lt (by omega)]
  have h2 : (lN n).toUInt64.toNat = n := wb_tn hn
  rw [UInt64.toNat_shiftRight, h1, h2, Nat.mod_eq_of_lt hk, Nat.shiftRight_eq_div_pow, BitVec.toNat_ofNat, Nat.mod_eq_of_lt (Nat.lt_of_le_of_lt (Nat.div_le_self _ _) hn)]
theorem wb_shl (n : Nat) {k : Nat} (hk : k < 64) : lN n <<< ((nI k).toInt64 &&& 63) = lN (n * 2 ^ k) := by
  rw [wb_c k hk]
  apply wb_inj
  rw [Int64.toBitVec_shiftLeft, wb_tb, wb_tb, wb_tb, wb_sm k hk]
  apply BitVec.eq_of_toNat_eq
  rw [BitVec.shiftLeft_eq', BitVec.toNat_shiftLeft, BitVec.toNat_ofNat, BitVec.toNat_ofNat, BitVec.toNat_ofNat, Nat.mod_eq_of_lt (show k < 2 ^ 64 by omega), Nat.shiftLeft_eq, Nat.mul_mod, Nat.mod_mod, ← Nat.mul_mod]
theorem wb_and {a b : Nat} (ha : a < 2 ^ 64) (hb : b < 2 ^ 64) : lN a &&& lN b = lN (a &&& b) := by
  apply wb_inj
  rw [Int64.toBitVec_and, wb_tb, wb_tb, wb_tb]
  apply BitVec.eq_of_toNat_eq
  rw [BitVec.toNat_and, BitVec.toNat_ofNat, BitVec.toNat_ofNat, BitVec.toNat_ofNat, Nat.mod_eq_of_lt ha, Nat.mod_eq_of_lt hb, Nat.mod_eq_of_lt (Nat.and_lt_two_pow _ hb)]
theorem wb_or {a b : Nat} (ha : a < 2 ^ 64) (hb : b < 2 ^ 64) : lN a ||| lN b = lN (a ||| b) := by
  apply wb_inj
  rw [Int64.toBitVec_or, wb_tb, wb_tb, wb_tb]
  apply BitVec.eq_of_toNat_eq
  rw [BitVec.toNat_or, BitVec.toNat_ofNat, BitVec.toNat_ofNat, BitVec.toNat_ofNat, Nat.mod_eq_of_lt ha, Nat.mod_eq_of_lt hb, Nat.mod_eq_of_lt (Nat.or_lt_two_pow ha hb)]
theorem wb_mask {n k : Nat} (hn : n < 2 ^ 64) (hk : k < 64) : lN n &&& lN (2 ^ k - 1) = lN (n % 2 ^ k) := by
  rw [wb_and hn (by have := wb_lt2 hk; omega), Nat.and_two_pow_sub_one_eq_mod]
theorem wb_a1 {n : Nat} (hn : n < 2 ^ 64) : lN n &&& 1 = lN (n % 2) := wb_mask (k := 1) hn (by decide)
theorem wb_bit {n k : Nat} (hn : n < 2 ^ 64) (hk : k < 64) : ((lN n).toUInt64 >>> ((nI k).toInt64.toUInt64 &&& Int64.toUInt64 63)).toInt64 &&& 1 = lN (n / 2 ^ k % 2) := by
  rw [wb_shr hn hk, wb_a1 (Nat.lt_of_le_of_lt (Nat.div_le_self _ _) hn)]
theorem wb_xor {q k : Nat} (hk : k < 63) (h : 2 ^ k ≤ q) (h2 : q < 2 ^ (k + 1)) : lN q ^^^ lN (2 ^ k) = lN (q - 2 ^ k) := by
  obtain ⟨r, rfl⟩ : ∃ r, q = 2 ^ k + r := ⟨q - 2 ^ k, by omega⟩
  have hr : r < 2 ^ k := by rw [Nat.pow_succ] at h2; omega
  have hx : (2 ^ k + r) ^^^ 2 ^ k = r := by
    apply Nat.eq_of_testBit_eq
    intro i
    rw [Nat.testBit_xor, Nat.testBit_two_pow]
    rcases Nat.lt_trichotomy i k with h | h | h
    · rw [Nat.testBit_two_pow_add_gt h]
      simp [show ¬ k = i by omega]
    · subst h
      rw [Nat.testBit_two_pow_add_eq]
      simp
    · have a1 : 2 ^ (k + 1) ≤ 2 ^ i := Nat.pow_le_pow_right (by decide) h
      rw [Nat.testBit_lt_two_pow (show 2 ^ k + r < 2 ^ i by omega), Nat.testBit_lt_two_pow (show r < 2 ^ i by omega)]
      simp [show ¬ k = i by omega]
  have b1 := wb_lt2 (show k + 1 < 64 by omega)
  have b2 := wb_lt2 (show k < 64 by omega)
  apply wb_inj
  rw [Int64.toBitVec_xor, wb_tb, wb_tb, wb_tb]
  apply BitVec.eq_of_toNat_eq
  rw [BitVec.toNat_xor, BitVec.toNat_ofNat, BitVec.toNat_ofNat, BitVec.toNat_ofNat, Nat.mod_eq_of_lt (by omega : 2 ^ k + r < 2 ^ 64), Nat.mod_eq_of_lt b2, hx, Nat.add_sub_cancel_left, Nat.mod_eq_of_lt (by omega)]
/-! ===== lN: masks, 'or' of parts that don't overlap is a sum ===== -/
theorem u_tn {n : Nat} (h : n < 2 ^ 64) : (UInt64.ofNat n).toNat = n := Nat.mod_eq_of_lt h
theorem g_and {a b c : Nat} (ha : a < 2 ^ 64) (hb : b < 2 ^ 64) (hc : a &&& b = c) : lN a &&& lN b = lN c := by
  subst hc
  have h : UInt64.ofNat a &&& UInt64.ofNat b = UInt64.ofNat (a &&& b) := UInt64.toNat_inj.mp (by rw [UInt64.toNat_and, u_tn ha, u_tn hb, u_tn (Nat.and_lt_two_pow a hb)])
  have h2 := congrArg UInt64.toInt64 h
  exact h2
theorem g_and1 {a : Nat} (ha : a < 2 ^ 64) : lN a &&& 1 = lN (a % 2) := g_and (b := 1) ha (by decide) (Nat.and_two_pow_sub_one_eq_mod a 1)
theorem g_mask {a s p : Nat} (hp : 2 ^ s = p) (hs : s < 64) (ha : a < 2 ^ 64) : lN a &&& lN (p - 1) = lN (a % p) := by
  subst hp
  have := Nat.pow_lt_pow_right (show 1 < 2 by decide) hs
  exact g_and ha (by omega) (Nat.and_two_pow_sub_one_eq_mod a s)
theorem g_or {k p a b : Nat} (hp : 2 ^ k = p) (ha : a < p) (h : b * p + a < 2 ^ 64) : lN (b * p) ||| lN a = lN (b * p + a) := by
  subst hp
  have h1 : b * 2 ^ k ||| a = b * 2 ^ k + a := by rw [← Nat.shiftLeft_eq, Nat.shiftLeft_add_eq_or_of_lt ha]
  have h3 : UInt64.ofNat (b * 2 ^ k) ||| UInt64.ofNat a = UInt64.ofNat (b * 2 ^ k + a) := UInt64.toNat_inj.mp (by rw [UInt64.toNat_or, u_tn (by omega), u_tn (by omega), u_tn h, h1])
  have h2 := congrArg UInt64.toInt64 h3
  exact h2
theorem g_or' {k p a b : Nat} (hp : 2 ^ k = p) (ha : a < p) (h : a + b * p < 2 ^ 64) : lN a ||| lN (b * p) = lN (a + b * p) := by
  rw [Int64.or_comm, g_or hp ha (by omega), Nat.add_comm]
theorem g_ushr {a k p : Nat} {y : UInt64} (hy : y = UInt64.ofNat k) (hk : k < 64) (hp : 2 ^ k = p) (ha : a < 2 ^ 64) : ((lN a).toUInt64 >>> y).toInt64 = lN (a / p) := by
  subst hy hp
  have h : UInt64.ofNat a >>> UInt64.ofNat k = UInt64.ofNat (a / 2 ^ k) := UInt64.toNat_inj.mp (by rw [UInt64.toNat_shiftRight, u_tn ha, u_tn (by omega), u_tn (Nat.lt_of_le_of_lt (Nat.div_le_self _ _) ha), Nat.mod_eq_of_lt hk, Nat.shiftRight_eq_div_pow])
  have h2 := congrArg UInt64.toInt64 h
  exact h2
theorem g_shl {a k p : Nat} {y : Int64} (hy : y.toBitVec.smod 64 = BitVec.ofNat 64 k) (hk : k < 64) (hp : 2 ^ k = p) (ha : a < 2 ^ 64) : lN a <<< y = lN (a * p) := by
  subst hp
  apply Int64.toBitVec_inj.mp
  rw [Int64.toBitVec_shiftLeft, hy]
  apply BitVec.eq_of_toNat_eq
  have hb : (lN a).toBitVec.toNat = a := Nat.mod_eq_of_lt ha
  have hk' : (BitVec.ofNat 64 k).toNat = k := Nat.mod_eq_of_lt (by omega)
  have h : ((lN a).toBitVec <<< BitVec.ofNat 64 k).toNat = (a * 2 ^ k) % 2 ^ 64 := by simp only [BitVec.shiftLeft_eq', BitVec.toNat_shiftLeft, hb, hk', Nat.shiftLeft_eq]
  exact h
/-! ===== lN to 2^62 under >> and >>> ===== -/
theorem pf_lI {a : Nat} (h : a < 2 ^ 63) : (lN a).toInt = (a : Int) := lg_ofNat_toInt h
theorem pf_shr {a d : Nat} {D : Int64} (hD : (D.toBitVec.smod 64).toNat = d) (h : a < 2 ^ 62) : lN a >>> D = lN (a / 2 ^ d) := by
  have hd : a / 2 ^ d ≤ a := Nat.div_le_self _ _
  apply Int64.toInt_inj.mp
  have e : (lN a >>> D).toInt = (lN a).toInt >>> d := by
    rw [← hD]
    exact BitVec.toInt_sshiftRight ..
  rw [e, Int.shiftRight_eq_div_pow, pf_lI (by omega), pf_lI (by omega)]
  rfl
theorem pf_ushr {a d : Nat} {D : UInt64} (hD : D.toNat % 64 = d) (h : a < 2 ^ 62) : ((lN a).toUInt64 >>> D).toInt64 = lN (a / 2 ^ d) := by
  have hd : a / 2 ^ d ≤ a := Nat.div_le_self _ _
  have e : (lN a).toUInt64 >>> D = UInt64.ofNat (a / 2 ^ d) := UInt64.toNat_inj.mp (by
    rw [UInt64.toNat_shiftRight, hD, Nat.shiftRight_eq_div_pow, UInt64.toNat_ofNat']
    show (UInt64.ofNat a).toNat / 2 ^ d = _
    rw [UInt64.toNat_ofNat', Nat.mod_eq_of_lt (by omega), Nat.mod_eq_of_lt (by omega)])
  rw [e]
  rfl
theorem pf_andw (x : Int64) : ∃ m, m < 2 ^ 32 ∧ x &&& 4294967295 = lN m := ⟨x.toBitVec.toNat % 2 ^ 32, Nat.mod_lt _ (by decide), Int64.toBitVec_inj.mp (BitVec.eq_of_toNat_eq (by
  show (x.toBitVec &&& 4294967295#64).toNat = (BitVec.ofNat 64 (x.toBitVec.toNat % 2 ^ 32)).toNat
  rw [BitVec.toNat_and, show (4294967295#64).toNat = 2 ^ 32 - 1 from by decide, Nat.and_two_pow_sub_one_eq_mod, BitVec.toNat_ofNat]
  omega))⟩
/-! ===== Int64 as an unsigned number: uN x ===== -/
def uN (x : Int64) : Nat := x.toUInt64.toNat
theorem uN_lt (x : Int64) : uN x < 18446744073709551616 := x.toUInt64.toNat_lt
theorem uN_inj {x y : Int64} (h : uN x = uN y) : x = y := congrArg UInt64.toInt64 (UInt64.toNat_inj.mp h)
theorem uN_add (x y : Int64) : uN (x + y) = (uN x + uN y) % 18446744073709551616 := by
  show (x.toUInt64 + y.toUInt64).toNat = _
  exact UInt64.toNat_add _ _
theorem uN_mul (x y : Int64) : uN (x * y) = (uN x * uN y) % 18446744073709551616 := by
  show (x.toUInt64 * y.toUInt64).toNat = _
  exact UInt64.toNat_mul _ _
theorem uN_shl (x : Int64) : uN (x <<< ((1 : Int32).toInt64 &&& 63)) = (2 * uN x) % 18446744073709551616 := by
  have h : (((1 : Int32).toInt64 &&& 63).toBitVec.smod 64).toNat = 1 := by decide
  show (x.toBitVec <<< (((1 : Int32).toInt64 &&& 63).toBitVec.smod 64).toNat).toNat = _
  rw [h, BitVec.toNat_shiftLeft, Nat.shiftLeft_eq, Nat.mul_comm]
  rfl
theorem uN_shr (x : Int64) (s : UInt64) : uN (x.toUInt64 >>> s).toInt64 = uN x / 2 ^ (s.toNat % 64) := by
  show (x.toUInt64 >>> s).toNat = _
  rw [UInt64.toNat_shiftRight, Nat.shiftRight_eq_div_pow]
  rfl
theorem uN_s32 (x : Int64) : uN (x.toUInt64 >>> ((32 : Int32).toInt64.toUInt64 &&& Int64.toUInt64 63)).toInt64 = uN x / 4294967296 := by
  have h : ((32 : Int32).toInt64.toUInt64 &&& Int64.toUInt64 63).toNat % 64 = 32 := by decide
  rw [uN_shr, h]
theorem uN_s63 (x : Int64) : uN (x.toUInt64 >>> ((63 : Int32).toInt64.toUInt64 &&& Int64.toUInt64 63)).toInt64 = uN x / 9223372036854775808 := by
  have h : ((63 : Int32).toInt64.toUInt64 &&& Int64.toUInt64 63).toNat % 64 = 63 := by decide
  rw [uN_shr, h]
theorem uN_lo (x : Int64) : uN (x &&& 4294967295) = uN x % 4294967296 := by
  show (x.toUInt64 &&& Int64.toUInt64 4294967295).toNat = _
  rw [UInt64.toNat_and]
  exact Nat.and_two_pow_sub_one_eq_mod _ 32
theorem uN_bit (x : Int64) : (x &&& 1) = 0 ↔ uN x % 2 = 0 := by
  have h : uN (x &&& 1) = uN x % 2 := by
    show (x.toUInt64 &&& Int64.toUInt64 1).toNat = _
    rw [UInt64.toNat_and]
    exact Nat.and_two_pow_sub_one_eq_mod _ 1
  rw [← h]
  exact ⟨fun z => by rw [z]; rfl, fun z => uN_inj (z.trans rfl)⟩
theorem uN_or {x y : Int64} (hy : uN y < 2) : uN ((x <<< ((1 : Int32).toInt64 &&& 63)) ||| y) = (2 * uN x) % 18446744073709551616 + uN y := by
  have h1 : uN ((x <<< ((1 : Int32).toInt64 &&& 63)) ||| y) = uN (x <<< ((1 : Int32).toInt64 &&& 63)) ||| uN y := UInt64.toNat_or _ _
  have h2 : (2 * uN x) % 18446744073709551616 = 2 ^ 1 * (uN x % 9223372036854775808) := by omega
  rw [h1, uN_shl, h2]
  exact (Nat.two_pow_add_eq_or_of_lt (i := 1) hy _).symm
theorem nat_xor {a : Nat} (h : a < 18446744073709551616) : a ^^^ 2 ^ 63 = (a + 9223372036854775808) % 18446744073709551616 := by
  have h1 : (a ^^^ 2 ^ 63) % 2 ^ 63 = a % 2 ^ 63 := by rw [Nat.xor_mod_two_pow, Nat.mod_self, Nat.xor_zero]
  have h2 : (a ^^^ 2 ^ 63) / 2 ^ 63 = (a / 2 ^ 63) ^^^ 1 := by rw [Nat.xor_div_two_pow, Nat.div_self (Nat.two_pow_pos 63)]
  have h3 : a / 2 ^ 63 = 0 ∨ a / 2 ^ 63 = 1 := by omega
  generalize a ^^^ 2 ^ 63 = t at h1 h2
  rcases h3 with h3 | h3
  · rw [h3] at h2
    have h2 : t / 2 ^ 63 = 1 := h2
    omega
  · rw [h3] at h2
    have h2 : t / 2 ^ 63 = 0 := h2
    omega
theorem uN_xor (x : Int64) : uN (x ^^^ (-9223372036854775808)) = (uN x + 9223372036854775808) % 18446744073709551616 := by
  rw [← nat_xor (uN_lt x)]
  exact UInt64.toNat_xor _ _
theorem uN_int (x : Int64) : x.toInt = if 2 * uN x < 18446744073709551616 then (uN x : Int) else (uN x : Int) - 18446744073709551616 := BitVec.toInt_eq_toNat_cond _
theorem uN_le (x y : Int64) : (x ^^^ (-9223372036854775808)) ≤ (y ^^^ (-9223372036854775808)) ↔ uN x ≤ uN y := by
  have hx := uN_lt x
  have hy := uN_lt y
  rw [Int64.le_iff_toInt_le, uN_int, uN_int, uN_xor, uN_xor]
  omega
theorem uN_sk (x : Int64) {k : Nat} (hk : k < 64) : uN (x.toUInt64 >>> ((nI k).toInt64.toUInt64 &&& Int64.toUInt64 63)).toInt64 = uN x / 2 ^ k := by
  have h : ((nI k).toInt64.toUInt64 &&& Int64.toUInt64 63).toNat % 64 = k := by
    rw [nI_l (by omega), UInt64.toNat_and]
    have e : (lN k).toUInt64.toNat = k % 2 ^ 64 := rfl
    have e2 : (Int64.toUInt64 63).toNat = 2 ^ 6 - 1 := by decide
    rw [e, e2, Nat.and_two_pow_sub_one_eq_mod]
    omega
  rw [uN_shr, h]
/-! ===== unsigned comparison by xor with the least ===== -/
theorem lN_bv (n : Nat) : (lN n).toBitVec = BitVec.ofNat 64 n := rfl
theorem lN_nat {n : Nat} (h : n < 2 ^ 64) : (lN n).toBitVec.toNat = n := by rw [lN_bv, BitVec.toNat_ofNat]; exact Nat.mod_eq_of_lt h
theorem lN_xor (a b : Nat) : lN a ^^^ lN b = lN (a ^^^ b) := by
  apply Int64.toBitVec_inj.mp; rw [Int64.toBitVec_xor, lN_bv, lN_bv, lN_bv]; apply BitVec.eq_of_getLsbD_eq; intro i hi; simp [BitVec.getLsbD_ofNat, Nat.testBit_xor, hi]
theorem lN_ti {m : Nat} (h : m < 2 ^ 64) : (lN m).toInt = if m < 2 ^ 63 then (m : Int) else (m : Int) - 2 ^ 64 := by
  have c := BitVec.toInt_eq_toNat_cond (lN m).toBitVec
  rw [lN_nat h] at c
  show (lN m).toBitVec.toInt = _
  rw [c]
  split <;> split <;> omega
theorem xor63 {x : Nat} (h : x < 2 ^ 63) : x ^^^ 2 ^ 63 = 2 ^ 63 + x := by
  apply Nat.eq_of_testBit_eq
  intro i
  rw [Nat.testBit_xor, Nat.testBit_two_pow]
  rcases Nat.lt_trichotomy i 63 with z | z | z
  · rw [Nat.testBit_two_pow_add_gt z, decide_eq_false (by omega)]; simp
  · subst z; rw [Nat.testBit_two_pow_add_eq]; simp
  · have hp : 2 ^ 64 ≤ 2 ^ i := Nat.pow_le_pow_right (by decide) z
    rw [Nat.testBit_lt_two_pow (show x < 2 ^ i by omega), Nat.testBit_lt_two_pow (show 2 ^ 63 + x < 2 ^ i by omega), decide_eq_false (by omega)]; rfl
theorem xorS {a : Nat} (h : a < 2 ^ 64) : (lN a ^^^ (-9223372036854775808)).toInt = (a : Int) - 2 ^ 63 := by
  rw [show (-9223372036854775808 : Int64) = lN (2 ^ 63) from by decide +kernel, lN_xor]
  rcases Nat.lt_or_ge a (2 ^ 63) with z | z
  · rw [xor63 z, lN_ti (by omega), if_neg (by omega)]; omega
  · obtain ⟨x, rfl⟩ : ∃ x, a = 2 ^ 63 + x := ⟨a - 2 ^ 63, by omega⟩
    rw [← xor63 (by omega), Nat.xor_assoc, Nat.xor_self, Nat.xor_zero, lN_ti (by omega), if_pos (by omega), xor63 (by omega)]; omega
theorem ultL {a b : Nat} (ha : a < 2 ^ 64) (hb : b < 2 ^ 64) : ((lN b ^^^ (-9223372036854775808)) ≤ (lN a ^^^ (-9223372036854775808))) ↔ b ≤ a := by
  rw [Int64.le_iff_toInt_le, xorS ha, xorS hb]; omega
/-! ===== Int64 masks of n low bits ===== -/
theorem cr_bits (W U M : BitVec 64) : ((W &&& U) &&& (U &&& (M ^^^ BitVec.allOnes 64))) = 0#64 ↔ (W &&& U) &&& M = W &&& U := by
  constructor
  · intro h
    apply BitVec.eq_of_getLsbD_eq
    intro i hi
    have e := congrArg (fun x => BitVec.getLsbD x i) h
    simp only [BitVec.getLsbD_and, BitVec.getLsbD_xor, BitVec.getLsbD_allOnes, BitVec.getLsbD_zero, hi, decide_true] at e ⊢
    revert e
    cases W.getLsbD i <;> cases U.getLsbD i <;> cases M.getLsbD i <;> decide
  · intro h
    apply BitVec.eq_of_getLsbD_eq
    intro i hi
    have e := congrArg (fun x => BitVec.getLsbD x i) h
    simp only [BitVec.getLsbD_and, BitVec.getLsbD_xor, BitVec.getLsbD_allOnes, BitVec.getLsbD_zero, hi, decide_true] at e ⊢
    revert e
    cases W.getLsbD i <;> cases U.getLsbD i <;> cases M.getLsbD i <;> decide
theorem cr_mask (w U m : Int64) (n : Nat) (hm : m.toBitVec.toNat = 2 ^ n - 1) : ((w &&& U) &&& (U &&& (m ^^^ (-1)))) = 0 ↔ (w &&& U).toBitVec.toNat < 2 ^ n := by
  have e0 : (-1 : Int64).toBitVec = BitVec.allOnes 64 := by decide
  have z0 : (0 : Int64).toBitVec = 0#64 := by decide
  rw [← Int64.toBitVec_inj, z0, Int64.toBitVec_and, Int64.toBitVec_and, Int64.toBitVec_and, Int64.toBitVec_xor, e0, cr_bits]
  generalize w.toBitVec &&& U.toBitVec = T
  rw [← BitVec.toNat_inj, BitVec.toNat_and, hm, Nat.and_two_pow_sub_one_eq_mod]
  constructor
  · intro h
    have t := Nat.mod_lt T.toNat (Nat.two_pow_pos n)
    rw [h] at t
    exact t
  · exact Nat.mod_eq_of_lt
theorem cr_shr (t : Int64) (x : UInt64) (n : Nat) (hx : x.toNat % 64 = n) : (t.toUInt64 >>> x).toInt64 = 0 ↔ t.toBitVec.toNat < 2 ^ n := by
  rw [← Int64.toBitVec_inj, ← BitVec.toNat_inj]
  show (t.toUInt64 >>> x).toNat = 0 ↔ t.toUInt64.toNat < 2 ^ n
  rw [UInt64.toNat_shiftRight, hx, Nat.shiftRight_eq_div_pow]
  constructor
  · intro h
    have d : t.toUInt64.toNat / 2 ^ n < 1 := by
      rw [h]
      decide
    have e := (Nat.div_lt_iff_lt_mul (Nat.two_pow_pos n)).mp d
    rw [Nat.one_mul] at e
    exact e
  · exact Nat.div_eq_of_lt
theorem cr_amt (s : Int64) : ∃ n, n < 64 ∧ s &&& 63 = lN n ∧ (s.toUInt64 &&& Int64.toUInt64 63).toNat % 64 = n := by
  have e : (s.toUInt64 &&& Int64.toUInt64 63).toNat = s.toUInt64.toNat % 2 ^ 6 := by
    rw [UInt64.toNat_and, show (Int64.toUInt64 63).toNat = 2 ^ 6 - 1 from by decide, Nat.and_two_pow_sub_one_eq_mod]
  refine ⟨s.toUInt64.toNat % 2 ^ 6, by omega, ?_, by omega⟩
  rw [← Int64.toBitVec_inj, ← BitVec.toNat_inj]
  show (s.toUInt64 &&& Int64.toUInt64 63).toNat = (BitVec.ofNat 64 (s.toUInt64.toNat % 2 ^ 6)).toNat
  rw [e, BitVec.toNat_ofNat]
  omega
end
section
/-! ===== pure: characters, words, tokens ===== -/
def oh_cc (c : Nat) : Nat := if 48 ≤ c ∧ c ≤ 57 then 2 else if (65 ≤ c ∧ c ≤ 90) ∨ (97 ≤ c ∧ c ≤ 122) then 1 else if c = 124 then 3 else 0
def oh_NS : List (List Nat) := [[74,97,110],[70,101,98],[77,97,114],[65,112,114],[77,97,121],[74,117,110],[74,117,108],[65,117,103],[83,101,112],[79,99,116],[78,111,118],[68,101,99],[77,111],[84,117],[87,101],[84,104],[70,114],[83,97],[83,117],[80,72],[111,102,102],[111,112,101,110],[117,110,107,110,111,119,110],[99,108,111,115,101,100]]
def oh_le : List Nat → Nat
  | [] => 0
  | c :: t => c + 256 * oh_le t
def oh_be (l : List Nat) : Nat := oh_le l.reverse
def oh_ok (l : List Nat) : Prop := ∀ c, c ∈ l → 0 < c ∧ c ≤ 126
theorem oh_ok_t {c : Nat} {t : List Nat} (h : oh_ok (c :: t)) : oh_ok t := fun x hx => h x (List.mem_cons_of_mem _ hx)
theorem oh_ok_h {c : Nat} {t : List Nat} (h : oh_ok (c :: t)) : 0 < c ∧ c ≤ 126 := h c List.mem_cons_self
theorem oh_ok_r {l : List Nat} (h : oh_ok l) : oh_ok l.reverse := fun x hx => h x (List.mem_reverse.mp hx)
theorem oh_le_inj : ∀ (l m : List Nat), oh_ok l → oh_ok m → oh_le l = oh_le m → l = m
  | [], [], _, _, _ => rfl
  | [], c :: t, _, h, e => by have := oh_ok_h h; simp only [oh_le] at e; omega
  | c :: t, [], h, _, e => by have := oh_ok_h h; simp only [oh_le] at e; omega
  | c :: t, d :: r, h, k, e => by
    have a := oh_ok_h h
    have b := oh_ok_h k
    simp only [oh_le] at e
    have e1 : c = d := by omega
    have e2 : oh_le t = oh_le r := by omega
    rw [e1, oh_le_inj t r (oh_ok_t h) (oh_ok_t k) e2]
theorem oh_le_lt : ∀ (l : List Nat), oh_ok l → 2 * oh_le l < 256 ^ l.length
  | [], _ => by simp [oh_le]
  | c :: t, h => by
    have a := oh_ok_h h
    have b := oh_le_lt t (oh_ok_t h)
    simp only [oh_le, List.length_cons, Nat.pow_succ]
    generalize 256 ^ t.length = P at *
    omega
theorem oh_le_63 {l : List Nat} (h : oh_ok l) (hl : l.length ≤ 8) : oh_le l < 2 ^ 63 := by
  have a := oh_le_lt l h
  have b : 256 ^ l.length ≤ 256 ^ 8 := Nat.pow_le_pow_right (by decide) hl
  have e : (256 : Nat) ^ 8 = 18446744073709551616 := by decide
  have e2 : (2 : Nat) ^ 63 = 9223372036854775808 := by decide
  rw [e] at b; rw [e2]
  omega
theorem oh_be_inj {l m : List Nat} (h : oh_ok l) (k : oh_ok m) (e : oh_be l = oh_be m) : l = m := by
  have := oh_le_inj _ _ (oh_ok_r h) (oh_ok_r k) e
  exact List.reverse_inj.mp this
theorem oh_be_63 {l : List Nat} (h : oh_ok l) (hl : l.length ≤ 8) : oh_be l < 2 ^ 63 := oh_le_63 (oh_ok_r h) (by rw [List.length_reverse]; exact hl)
theorem oh_be_s (l : List Nat) (c : Nat) : oh_be (l ++ [c]) = oh_be l * 256 + c := by
  unfold oh_be
  rw [List.reverse_append]
  show c + 256 * oh_le l.reverse = _
  omega
theorem oh_le_s : ∀ (l : List Nat) (c : Nat), oh_le (l ++ [c]) = oh_le l + c * 256 ^ l.length
  | [], c => by simp [oh_le]
  | d :: t, c => by
    have := oh_le_s t c
    simp only [List.cons_append, oh_le, this, List.length_cons, Nat.pow_succ]
    rw [Nat.mul_add, Nat.mul_comm (256 ^ t.length) 256, Nat.mul_left_comm 256 c, Nat.add_assoc]
theorem oh_NSf : ∀ i, i < 24 → (∀ c, c ∈ oh_NS.getD i [] → 0 < c ∧ c ≤ 126) ∧ (oh_NS.getD i []).length ≤ 7 ∧ 2 ≤ (oh_NS.getD i []).length ∧ (oh_NS.getD i []).all (fun c => oh_cc c == 1) = true := by decide +kernel
def oh_seg (ch : Nat → Nat) (p : Nat) : Nat → List Nat
  | 0 => []
  | k + 1 => oh_seg ch p k ++ [ch (p + k)]
theorem oh_seg_len (ch : Nat → Nat) (p : Nat) : ∀ k, (oh_seg ch p k).length = k
  | 0 => rfl
  | k + 1 => by simp [oh_seg, oh_seg_len ch p k]
theorem oh_seg_mem {ch : Nat → Nat} {p c : Nat} : ∀ {k : Nat}, c ∈ oh_seg ch p k → ∃ j, j < k ∧ c = ch (p + j)
  | 0, h => by simp [oh_seg] at h
  | k + 1, h => by
    simp only [oh_seg, List.mem_append, List.mem_singleton] at h
    rcases h with h | h
    · obtain ⟨j, a, b⟩ := oh_seg_mem h
      exact ⟨j, by omega, b⟩
    · exact ⟨k, by omega, h⟩
theorem oh_seg_h {ch : Nat → Nat} {p : Nat} : ∀ {k : Nat}, 0 < k → ch p ∈ oh_seg ch p k
  | 0, h => absurd h (Nat.lt_irrefl 0)
  | 1, _ => by simp [oh_seg]
  | k + 2, _ => by
    have := oh_seg_h (ch := ch) (p := p) (k := k + 1) (by omega)
    rw [oh_seg]
    exact List.mem_append.mpr (Or.inl this)
def oh_T (ch : Nat → Nat) (n : Nat) : Prop := n ≤ 128 ∧ (∀ j, ch j ≤ 126) ∧ ∀ j, j < n → 32 ≤ ch j
theorem oh_seg_ok {ch : Nat → Nat} {n p k : Nat} (h : oh_T ch n) (hk : p + k ≤ n) : oh_ok (oh_seg ch p k) := fun c hc => by
  obtain ⟨j, a, b⟩ := oh_seg_mem hc
  have := h.2.1 (p + j)
  have := h.2.2 (p + j) (by omega)
  omega
def oh_fi (l : List Nat) : Nat → Nat → Nat
  | 0, i => i
  | d + 1, i => if oh_NS.getD i [] = l then i else oh_fi l d (i + 1)
theorem oh_fi_le (l : List Nat) : ∀ d i, i ≤ oh_fi l d i ∧ oh_fi l d i ≤ i + d
  | 0, i => by simp [oh_fi]
  | d + 1, i => by
    have := oh_fi_le l d (i + 1)
    unfold oh_fi
    split <;> omega
theorem oh_fi_eq (l : List Nat) : ∀ d i, oh_fi l d i < i + d → oh_NS.getD (oh_fi l d i) [] = l
  | 0, i, h => by simp [oh_fi] at h
  | d + 1, i, h => by
    unfold oh_fi at h ⊢
    split
    · assumption
    · rename_i hn
      rw [if_neg hn] at h
      exact oh_fi_eq l d (i + 1) (by omega)
def oh_wi (l : List Nat) : Nat := oh_fi l 24 0
theorem oh_wi_le (l : List Nat) : oh_wi l ≤ 24 := by have := oh_fi_le l 24 0; unfold oh_wi; omega
theorem oh_wi_eq {l : List Nat} (h : oh_wi l < 24) : oh_NS.getD (oh_wi l) [] = l := oh_fi_eq l 24 0 (by unfold oh_wi at h; omega)
/-- the word's two packings against a name -/
theorem oh_eqX {ch : Nat → Nat} {n p k i : Nat} (h : oh_T ch n) (hk : p + k ≤ n) (hi : i < 24) : lN (oh_le (oh_NS.getD i [])) = lN (oh_le (oh_seg ch p (min k 8))) ↔ oh_NS.getD i [] = oh_seg ch p k := by
  obtain ⟨f1, f2, f3, _⟩ := oh_NSf i hi
  have ok8 : oh_ok (oh_seg ch p (min k 8)) := oh_seg_ok h (by omega)
  rw [pk_lEQ (oh_le_63 f1 (by omega)) (oh_le_63 ok8 (by rw [oh_seg_len]; omega))]
  constructor
  · intro e
    have e2 := oh_le_inj _ _ f1 ok8 e
    have e3 := congrArg List.length e2
    rw [oh_seg_len] at e3
    have : min k 8 = k := by omega
    rw [this] at e2; exact e2
  · intro e
    have e3 := congrArg List.length e
    rw [oh_seg_len] at e3
    have : min k 8 = k := by omega
    rw [this, e]
theorem oh_eqY {ch : Nat → Nat} {n p k i : Nat} (h : oh_T ch n) (hk : p + k ≤ n) (h7 : k ≤ 7) (hi : i < 24) : lN (oh_be (oh_NS.getD i [])) = lN (oh_be (oh_seg ch p k)) ↔ oh_NS.getD i [] = oh_seg ch p k := by
  obtain ⟨f1, f2, f3, _⟩ := oh_NSf i hi
  have ok8 : oh_ok (oh_seg ch p k) := oh_seg_ok h (by omega)
  rw [pk_lEQ (oh_be_63 f1 (by omega)) (oh_be_63 ok8 (by rw [oh_seg_len]; omega))]
  exact ⟨fun e => oh_be_inj f1 ok8 e, fun e => by rw [e]⟩
theorem oh_wi_len {ch : Nat → Nat} {p k : Nat} (h : oh_wi (oh_seg ch p k) < 24) : 2 ≤ k ∧ k ≤ 7 ∧ oh_cc (ch p) = 1 := by
  have e := oh_wi_eq h
  obtain ⟨f1, f2, f3, f4⟩ := oh_NSf _ h
  rw [e] at f2 f3 f4
  rw [oh_seg_len] at f2 f3
  refine ⟨f3, f2, ?_⟩
  have := List.all_eq_true.mp f4 (ch p) (oh_seg_h (by omega))
  exact eq_of_beq this
/-! runs and ends -/
def oh_run (ch : Nat → Nat) (k : Nat) : Nat → Nat → Nat
  | 0, p => p
  | d + 1, p => if oh_cc (ch p) = k then oh_run ch k d (p + 1) else p
theorem oh_run_le (ch : Nat → Nat) (k : Nat) : ∀ d p, p ≤ oh_run ch k d p ∧ oh_run ch k d p ≤ p + d
  | 0, p => by simp [oh_run]
  | d + 1, p => by
    have := oh_run_le ch k d (p + 1)
    unfold oh_run
    split <;> omega
theorem oh_run_in {ch : Nat → Nat} {k : Nat} : ∀ {d p j : Nat}, p ≤ j → j < oh_run ch k d p → oh_cc (ch j) = k
  | 0, p, j, h1, h2 => by simp only [oh_run] at h2; omega
  | d + 1, p, j, h1, h2 => by
    unfold oh_run at h2
    split at h2
    · rename_i hc
      rcases Nat.lt_or_ge p j with z | z
      · exact oh_run_in (by omega) h2
      · have : p = j := by omega
        rw [← this]; exact hc
    · omega
theorem oh_run_s {ch : Nat → Nat} {n k p : Nat} (hp : p < n) (hc : oh_cc (ch p) = k) : oh_run ch k (n - p) p = oh_run ch k (n - (p + 1)) (p + 1) := by
  have : n - p = (n - (p + 1)) + 1 := by omega
  rw [this, oh_run, if_pos hc]
theorem oh_run_0 {ch : Nat → Nat} {n k p : Nat} (hc : p < n → ¬ oh_cc (ch p) = k) : oh_run ch k (n - p) p = p := by
  rcases Nat.lt_or_ge p n with z | z
  · have : n - p = (n - (p + 1)) + 1 := by omega
    rw [this, oh_run, if_neg (hc z)]
  · have : n - p = 0 := by omega
    rw [this]; rfl
def oh_te (ch : Nat → Nat) (n p : Nat) : Nat := if oh_cc (ch p) = 1 then oh_run ch 1 (n - p) p else if oh_cc (ch p) = 2 then oh_run ch 2 (n - p) p else if ch p = 124 ∧ p + 1 < n ∧ ch (p + 1) = 124 then p + 2 else p + 1
theorem oh_te_in {ch : Nat → Nat} {n p : Nat} (hp : p < n) : p + 1 ≤ oh_te ch n p ∧ oh_te ch n p ≤ n := by
  unfold oh_te
  split
  · rename_i h
    rw [oh_run_s hp h]
    have := oh_run_le ch 1 (n - (p + 1)) (p + 1)
    omega
  · split
    · rename_i h
      rw [oh_run_s hp h]
      have := oh_run_le ch 2 (n - (p + 1)) (p + 1)
      omega
    · split <;> omega
def oh_sg (c : Nat) : Prop := c = 45 ∨ c = 44 ∨ c = 58 ∨ c = 59 ∨ c = 91 ∨ c = 93
def oh_tc (ch : Nat → Nat) (p k : Nat) : Nat :=
  if oh_cc (ch p) = 2 then (if k = 1 then 1000 + (ch p - 48) else if k = 2 then 1000 + (10 * (ch p - 48) + (ch (p + 1) - 48)) else 2000)
  else if oh_wi (oh_seg ch p k) < 24 then oh_wi (oh_seg ch p k) + 1
  else if (ch p = 45 ∨ ch p = 44 ∨ ch p = 58 ∨ ch p = 59 ∨ ch p = 91 ∨ ch p = 93) ∨ (ch p = 124 ∧ k = 2) then ch p else 2000
def oh_vc (c : Nat) : Prop := c ≤ 24 ∨ c = 44 ∨ c = 45 ∨ c = 58 ∨ c = 59 ∨ c = 91 ∨ c = 93 ∨ c = 124 ∨ (1000 ≤ c ∧ c < 1100) ∨ c = 2000
theorem oh_cc2 {c : Nat} (h : oh_cc c = 2) : 48 ≤ c ∧ c ≤ 57 := by
  unfold oh_cc at h
  split at h
  · assumption
  · split at h
    · omega
    · split at h <;> omega
theorem oh_cc1 {c : Nat} : oh_cc c = 1 ↔ (65 ≤ c ∧ c ≤ 90) ∨ (97 ≤ c ∧ c ≤ 122) := by
  unfold oh_cc
  split
  · omega
  · split
    · omega
    · split <;> omega
theorem oh_cc2i {c : Nat} : oh_cc c = 2 ↔ 48 ≤ c ∧ c ≤ 57 := by
  unfold oh_cc
  split
  · omega
  · split
    · omega
    · split <;> omega
theorem oh_cc3 {c : Nat} : oh_cc c = 3 ↔ c = 124 := by
  unfold oh_cc
  split
  · omega
  · split
    · omega
    · split <;> omega
theorem oh_cc_lt (c : Nat) : oh_cc c ≤ 3 := by
  unfold oh_cc
  split
  · omega
  · split
    · omega
    · split <;> omega
/-- a token's code: valid, nonzero; a word's code only at two characters or more -/
theorem oh_tc_v {ch : Nat → Nat} {n p : Nat} (hp : p < n) : oh_vc (oh_tc ch p (oh_te ch n p - p)) ∧ 0 < oh_tc ch p (oh_te ch n p - p) ∧ (oh_tc ch p (oh_te ch n p - p) ≤ 24 → p + 2 ≤ oh_te ch n p) := by
  have hte := oh_te_in (ch := ch) hp
  unfold oh_tc
  by_cases h2 : oh_cc (ch p) = 2
  · rw [if_pos h2]
    have d := oh_cc2 h2
    by_cases k1 : oh_te ch n p - p = 1
    · rw [if_pos k1]
      refine ⟨?_, by omega, by omega⟩
      unfold oh_vc; omega
    · rw [if_neg k1]
      by_cases k2 : oh_te ch n p - p = 2
      · rw [if_pos k2]
        have ht : oh_te ch n p = oh_run ch 2 (n - p) p := by unfold oh_te; rw [if_neg (by omega), if_pos h2]
        have d2 : oh_cc (ch (p + 1)) = 2 := oh_run_in (d := n - p) (p := p) (by omega) (by omega)
        have := oh_cc2 d2
        refine ⟨?_, by omega, by omega⟩
        unfold oh_vc; omega
      · rw [if_neg k2]
        refine ⟨?_, by omega, by omega⟩
        unfold oh_vc; omega
  · rw [if_neg h2]
    by_cases hw : oh_wi (oh_seg ch p (oh_te ch n p - p)) < 24
    · rw [if_pos hw]
      have := oh_wi_len hw
      refine ⟨?_, by omega, by omega⟩
      unfold oh_vc; omega
    · rw [if_neg hw]
      split
      · refine ⟨?_, by omega, by omega⟩
        unfold oh_vc; omega
      · refine ⟨?_, by omega, by omega⟩
        unfold oh_vc; omega
/-- the tokens from position p on; an error (2000) ends them -/
def oh_tz (ch : Nat → Nat) (n p : Nat) : List Nat :=
  if h : n ≤ p then [] else if ch p = 32 then oh_tz ch n (p + 1)
  else if oh_tc ch p (oh_te ch n p - p) = 2000 then [2000] else oh_tc ch p (oh_te ch n p - p) :: oh_tz ch n (max (p + 1) (oh_te ch n p))
termination_by n - p
decreasing_by all_goals omega
theorem oh_tz_e {ch : Nat → Nat} {n p : Nat} (h : n ≤ p) : oh_tz ch n p = [] := by rw [oh_tz, dif_pos h]
theorem oh_tz_b {ch : Nat → Nat} {n p : Nat} (h : p < n) (hs : ch p = 32) : oh_tz ch n p = oh_tz ch n (p + 1) := by
  rw [oh_tz, dif_neg (by omega), if_pos hs]
theorem oh_tz_x {ch : Nat → Nat} {n p : Nat} (h : p < n) (hs : ¬ ch p = 32) (hc : oh_tc ch p (oh_te ch n p - p) = 2000) : oh_tz ch n p = [2000] := by
  rw [oh_tz, dif_neg (by omega), if_neg hs, if_pos hc]
theorem oh_tz_c {ch : Nat → Nat} {n p : Nat} (h : p < n) (hs : ¬ ch p = 32) (hc : ¬ oh_tc ch p (oh_te ch n p - p) = 2000) : oh_tz ch n p = oh_tc ch p (oh_te ch n p - p) :: oh_tz ch n (oh_te ch n p) := by
  rw [oh_tz, dif_neg (by omega), if_neg hs, if_neg hc]
  have := oh_te_in (ch := ch) h
  rw [show max (p + 1) (oh_te ch n p) = oh_te ch n p by omega]
def oh_tk : List Nat → Nat → Nat
  | [], _ => 0
  | c :: _, 0 => c
  | c :: t, k + 1 => if c = 2000 then 2000 else oh_tk t k
def oh_wc (l : List Nat) : Nat := (l.filter (fun c => decide (c ≤ 24))).length
/-- of all the tokens from p on: codes valid; an error only as the last; room -/
theorem oh_tz_all (ch : Nat → Nat) (n : Nat) : ∀ (d p : Nat), n - p ≤ d → (∀ c, c ∈ oh_tz ch n p → oh_vc c ∧ 0 < c) ∧ (oh_tz ch n p).length + oh_wc (oh_tz ch n p) ≤ n - p
  | 0, p, h => by
    rw [oh_tz_e (by omega)]
    exact ⟨fun c hc => absurd hc (List.not_mem_nil), by simp [oh_wc]⟩
  | d + 1, p, h => by
    rcases Nat.lt_or_ge p n with hp | hp
    · by_cases hs : ch p = 32
      · rw [oh_tz_b hp hs]
        have := oh_tz_all ch n d (p + 1) (by omega)
        exact ⟨this.1, by omega⟩
      · have hte := oh_te_in (ch := ch) hp
        have hv := oh_tc_v (ch := ch) hp
        by_cases hc : oh_tc ch p (oh_te ch n p - p) = 2000
        · rw [oh_tz_x hp hs hc]
          refine ⟨fun c h2 => ?_, by simp [oh_wc]; omega⟩
          rw [List.mem_singleton] at h2
          rw [h2, ← hc]
          exact ⟨hv.1, hv.2.1⟩
        · rw [oh_tz_c hp hs hc]
          have ih := oh_tz_all ch n d (oh_te ch n p) (by omega)
          refine ⟨fun c h2 => ?_, ?_⟩
          · rcases List.mem_cons.mp h2 with e | e
            · rw [e]; exact ⟨hv.1, hv.2.1⟩
            · exact ih.1 c e
          · have i2 := ih.2
            unfold oh_wc at i2 ⊢
            by_cases z : oh_tc ch p (oh_te ch n p - p) ≤ 24
            · have := hv.2.2 z
              rw [List.filter_cons_of_pos (by simpa using z), List.length_cons, List.length_cons]
              omega
            · rw [List.filter_cons_of_neg (by simpa using z), List.length_cons]
              omega
    · rw [oh_tz_e hp]
      exact ⟨fun c hc => absurd hc (List.not_mem_nil), by simp [oh_wc]⟩
theorem oh_gA {α : Type} {l r : List α} {d : α} {j : Nat} (h : j < l.length) : (l ++ r).getD j d = l.getD j d := by simp [List.getD_eq_getElem?_getD, List.getElem?_append_left h]
theorem oh_gN {α : Type} {l : List α} {d : α} {j : Nat} (h : l.length ≤ j) : l.getD j d = d := by simp [List.getD_eq_getElem?_getD, List.getElem?_eq_none h]
theorem oh_gE {α : Type} {l : List α} {d : α} {j : Nat} (h : j < l.length) : l.getD j d = l[j] := by simp [List.getD_eq_getElem?_getD, h]
theorem oh_gM {α : Type} {l : List α} {d : α} {j : Nat} (h : j < l.length) : l.getD j d ∈ l := by rw [oh_gE h]; exact List.getElem_mem h
end
section
/-! ===== pure: the parser over codes tk ===== -/
def oh_cls (c : Nat) : Nat := if 1000 ≤ c ∧ c < 2000 then 3 else if 21 ≤ c ∧ c ≤ 24 then 4 else if 13 ≤ c ∧ c ≤ 20 then 2 else if 1 ≤ c ∧ c ≤ 12 then 1 else 0
def oh_kd (c : Nat) : Nat := if 1000 ≤ c then 78 else if c = 0 then 0 else if c ≤ 12 then 77 else if c ≤ 20 then 87 else if c ≤ 24 then 83 else c
def oh_vl (c : Nat) : Nat := if 1000 ≤ c then c - 1000 else if c ≤ 12 then c else if c ≤ 20 then c - 13 else if c ≤ 24 then (c - 21) % 3 else if c = 44 then 1 else if c = 124 then 2 else 0
def oh_ml (m lp : Nat) : Nat := if m = 2 then 28 + lp else if m = 4 ∨ m = 6 ∨ m = 9 ∨ m = 11 then 30 else 31
theorem oh_cls1 {c : Nat} : oh_cls c = 1 ↔ 1 ≤ c ∧ c ≤ 12 := by
  unfold oh_cls
  (repeat' split) <;> omega
theorem oh_cls2 {c : Nat} : oh_cls c = 2 ↔ 13 ≤ c ∧ c ≤ 20 := by
  unfold oh_cls
  (repeat' split) <;> omega
theorem oh_cls3 {c : Nat} : oh_cls c = 3 ↔ 1000 ≤ c ∧ c < 2000 := by
  unfold oh_cls
  (repeat' split) <;> omega
theorem oh_cls4 {c : Nat} : oh_cls c = 4 ↔ 21 ≤ c ∧ c ≤ 24 := by
  unfold oh_cls
  (repeat' split) <;> omega
theorem oh_cls_le (c : Nat) : oh_cls c ≤ 4 := by
  unfold oh_cls
  (repeat' split) <;> omega
theorem oh_ml_in (m lp : Nat) (h : lp ≤ 1) : 28 ≤ oh_ml m lp ∧ oh_ml m lp ≤ 31 := by
  unfold oh_ml
  (repeat' split) <;> omega
section
variable (tk : Nat → Nat)
def oh_qa (p : Nat) : Nat := if oh_cls (tk p) = 3 ∧ ¬ tk (p + 1) = 58 then p + 1 else p
def oh_dM (p d : Nat) : Nat := if oh_cls (tk p) = 3 ∧ ¬ tk (p + 1) = 58 then tk p - 1000 else d
def oh_fin (m d m2 d2 q : Nat) : Option ((Nat × Nat × Nat) × Nat) := if 1 ≤ d ∧ d ≤ oh_ml m 1 ∧ 1 ≤ d2 ∧ d2 ≤ oh_ml m2 1 then some ((1, 32 * m + d, 32 * m2 + d2), q) else none
def oh_rM (p : Nat) : Option ((Nat × Nat × Nat) × Nat) :=
  if tk (oh_qa tk (p + 1)) = 45 then
    if oh_cls (tk (oh_qa tk (p + 1) + 1)) = 1 then oh_fin (tk p) (oh_dM tk (p + 1) 1) (tk (oh_qa tk (p + 1) + 1)) (oh_dM tk (oh_qa tk (p + 1) + 2) (oh_ml (tk (oh_qa tk (p + 1) + 1)) 1)) (oh_qa tk (oh_qa tk (p + 1) + 2))
    else if (oh_cls (tk (p + 1)) = 3 ∧ ¬ tk (p + 1 + 1) = 58) ∧ oh_cls (tk (oh_qa tk (p + 1) + 1)) = 3 then oh_fin (tk p) (oh_dM tk (p + 1) 1) (tk p) (tk (oh_qa tk (p + 1) + 1) - 1000) (oh_qa tk (p + 1) + 2) else none
  else oh_fin (tk p) (oh_dM tk (p + 1) 1) (tk p) (oh_dM tk (p + 1) (oh_ml (tk p) 1)) (oh_qa tk (p + 1))
def oh_rW (p : Nat) : Option ((Nat × Nat × Nat) × Nat) :=
  if tk (p + 1) = 91 then
    if tk (p + 2) = 45 then (if oh_cls (tk (p + 3)) = 3 ∧ tk (p + 4) = 93 ∧ tk p - 13 ≤ 6 ∧ tk (p + 3) = 1001 then some ((3, tk p - 13, 6), p + 5) else none)
    else if oh_cls (tk (p + 2)) = 3 ∧ tk (p + 3) = 93 ∧ tk p - 13 ≤ 6 ∧ 1001 ≤ tk (p + 2) ∧ tk (p + 2) ≤ 1005 then some ((3, tk p - 13, tk (p + 2) - 1000), p + 4) else none
  else if tk (p + 1) = 45 then (if tk p - 13 ≤ 6 ∧ 13 ≤ tk (p + 2) ∧ tk (p + 2) ≤ 19 then some ((2, tk p - 13, tk (p + 2) - 13), p + 3) else none)
  else if tk p - 13 = 7 then some ((4, 0, 0), p + 1) else some ((2, tk p - 13, tk p - 13), p + 1)
def oh_e1 (s e : Nat) : Nat := if (if e = 0 then 48 else e) ≤ s then (if e = 0 then 48 else e) + 48 else (if e = 0 then 48 else e)
def oh_ti (p : Nat) : Nat := 2 * (tk p - 1000) + (tk (p + 2) - 1000) / 30
def oh_rN (p : Nat) : Option ((Nat × Nat × Nat) × Nat) :=
  if (oh_cls (tk p) = 3 ∧ tk (p + 1) = 58 ∧ (tk (p + 2) = 1000 ∨ tk (p + 2) = 1030) ∧ oh_ti tk p ≤ 47) ∧ tk (p + 3) = 45 ∧ (oh_cls (tk (p + 4)) = 3 ∧ tk (p + 5) = 58 ∧ (tk (p + 6) = 1000 ∨ tk (p + 6) = 1030) ∧ oh_ti tk (p + 4) ≤ 48) then some ((5, oh_ti tk p, oh_e1 (oh_ti tk p) (oh_ti tk (p + 4))), p + 7) else none
def oh_rd (part p : Nat) : Option ((Nat × Nat × Nat) × Nat) := if part = 1 then oh_rM tk p else if part = 2 then oh_rW tk p else oh_rN tk p
def oh_pl (part : Nat) : Nat → Nat → Option (List (Nat × Nat × Nat) × Nat)
  | 0, _ => none
  | l + 1, p => (oh_rd tk part p).bind fun v => if tk v.2 = 44 ∧ oh_cls (tk (v.2 + 1)) = part then (oh_pl part l (v.2 + 1)).map (fun w => (v.1 :: w.1, w.2)) else some ([v.1], v.2)
def oh_po (part l p : Nat) : Option (List (Nat × Nat × Nat) × Nat) := if oh_cls (tk p) = part then oh_pl tk part l p else some ([], p)
def oh_ps (p : Nat) : List (Nat × Nat × Nat) × Nat := if oh_cls (tk p) = 4 then ([(6, (tk p - 21) % 3, 0)], p + 1) else ([], p)
def oh_pr (N p : Nat) : Option (List (Nat × Nat × Nat) × Nat) :=
  (oh_po tk 1 2 p).bind fun v1 => (oh_po tk 2 (N + 1) v1.2).bind fun v2 => (oh_po tk 3 3 v2.2).bind fun v3 => if (oh_ps tk v3.2).2 = p then none else some (v1.1 ++ (v2.1 ++ (v3.1 ++ (oh_ps tk v3.2).1)), (oh_ps tk v3.2).2)
def oh_fs (c kd : Nat) (its : List (Nat × Nat × Nat)) : List (Nat × Nat × Nat × Nat) := ((0, kd, 0) :: its).map (fun t => (c, t))
def oh_pp (N : Nat) : Nat → Nat → Nat → Nat → Option (Nat × List (Nat × Nat × Nat × Nat))
  | 0, _, _, _ => none
  | l + 1, c, kd, p => (oh_pr tk N p).bind fun v => if tk v.2 = 0 then some (c + 1, oh_fs c kd v.1) else if tk v.2 = 59 ∨ tk v.2 = 44 ∨ tk v.2 = 124 then (oh_pp N l (c + 1) (oh_vl (tk v.2)) (v.2 + 1)).map (fun w => (w.1, oh_fs c kd v.1 ++ w.2)) else none
end
def oh_vd (a : Nat) : Prop := 1 ≤ a / 32 ∧ a / 32 ≤ 12 ∧ 1 ≤ a % 32 ∧ a % 32 ≤ oh_ml (a / 32) 1
def oh_vi (t : Nat × Nat × Nat) : Prop := (t.1 = 0 ∧ t.2.1 ≤ 2 ∧ t.2.2 = 0) ∨ (t.1 = 1 ∧ oh_vd t.2.1 ∧ oh_vd t.2.2) ∨ (t.1 = 2 ∧ t.2.1 ≤ 6 ∧ t.2.2 ≤ 6) ∨ (t.1 = 3 ∧ t.2.1 ≤ 6 ∧ 1 ≤ t.2.2 ∧ t.2.2 ≤ 6) ∨ (t.1 = 4 ∧ t.2.1 = 0 ∧ t.2.2 = 0) ∨ (t.1 = 5 ∧ t.2.1 ≤ 47 ∧ t.2.1 < t.2.2 ∧ t.2.2 ≤ 95) ∨ (t.1 = 6 ∧ t.2.1 ≤ 2 ∧ t.2.2 = 0)
theorem oh_vd_mk {m d : Nat} (h1 : 1 ≤ m) (h2 : m ≤ 12) (h3 : 1 ≤ d) (h4 : d ≤ oh_ml m 1) : oh_vd (32 * m + d) := by
  have := oh_ml_in m 1 (by omega)
  have e1 : (32 * m + d) / 32 = m := by omega
  have e2 : (32 * m + d) % 32 = d := by omega
  unfold oh_vd
  rw [e1, e2]
  exact ⟨h1, h2, h3, h4⟩
theorem oh_vd_lt {a : Nat} (h : oh_vd a) : 33 ≤ a ∧ a < 512 := by
  obtain ⟨a1, a2, a3, a4⟩ := h
  omega
section
variable {tk : Nat → Nat} {N e : Nat}
/-- behind N stand ends or errors; e: what every item takes beyond one token -/
def oh_E (tk : Nat → Nat) (N e : Nat) : Prop := (∀ k, N ≤ k → tk k = 0 ∨ tk k = 2000) ∧ (e = 0 ∨ (e = 6 ∧ ∀ k, tk k = 0 ∨ 24 < tk k))
theorem oh_E_lt (h : oh_E tk N e) {k : Nat} (h0 : ¬ tk k = 0) (h2 : ¬ tk k = 2000) : k < N := by
  rcases Nat.lt_or_ge k N with z | z
  · exact z
  · rcases h.1 k z with a | a
    · exact absurd a h0
    · exact absurd a h2
theorem oh_E_w (h : oh_E tk N e) {k : Nat} (h0 : 1 ≤ tk k) (h2 : tk k ≤ 24) : e = 0 := by
  rcases h.2 with a | ⟨a, b⟩
  · exact a
  · rcases b k with c | c <;> omega
theorem oh_qa_in {p : Nat} (h : oh_E tk N e) (hp : p ≤ N) : p ≤ oh_qa tk p ∧ oh_qa tk p ≤ p + 1 ∧ oh_qa tk p ≤ N := by
  unfold oh_qa
  split
  · rename_i hc
    rw [oh_cls3] at hc
    have := oh_E_lt h (k := p) (by omega) (by omega)
    omega
  · omega
theorem oh_fin_in {m d m2 d2 q q' : Nat} {it : Nat × Nat × Nat} (h : oh_fin m d m2 d2 q = some (it, q')) (h1 : 1 ≤ m ∧ m ≤ 12) (h2 : 1 ≤ m2 ∧ m2 ≤ 12) : q' = q ∧ it.1 = 1 ∧ oh_vi it := by
  unfold oh_fin at h
  split at h
  · rename_i hc
    cases h
    exact ⟨rfl, rfl, Or.inr (Or.inl ⟨rfl, oh_vd_mk h1.1 h1.2 hc.1 hc.2.1, oh_vd_mk h2.1 h2.2 hc.2.2.1 hc.2.2.2⟩)⟩
  · cases h
theorem oh_rM_in {p q : Nat} {it : Nat × Nat × Nat} (hE : oh_E tk N e) (hp : oh_cls (tk p) = 1) (h : oh_rM tk p = some (it, q)) : p + 1 + e ≤ q ∧ q ≤ N ∧ it.1 = 1 ∧ oh_vi it := by
  rw [oh_cls1] at hp
  have e0 := oh_E_w hE hp.1 (by omega)
  have pN := oh_E_lt hE (k := p) (by omega) (by omega)
  have a1 := oh_qa_in (p := p + 1) hE (by omega)
  unfold oh_rM at h
  split at h
  · rename_i c45
    have qN := oh_E_lt hE (k := oh_qa tk (p + 1)) (by omega) (by omega)
    split at h
    · rename_i c1
      rw [oh_cls1] at c1
      have q1N := oh_E_lt hE (k := oh_qa tk (p + 1) + 1) (by omega) (by omega)
      have a2 := oh_qa_in (p := oh_qa tk (p + 1) + 2) hE (by omega)
      have := oh_fin_in h hp c1
      refine ⟨by omega, by omega, this.2⟩
    · split at h
      · rename_i c3
        have c3b := c3.2
        rw [oh_cls3] at c3b
        have q1N := oh_E_lt hE (k := oh_qa tk (p + 1) + 1) (by omega) (by omega)
        have := oh_fin_in h hp hp
        refine ⟨by omega, by omega, this.2⟩
      · cases h
  · have := oh_fin_in h hp hp
    refine ⟨by omega, by omega, this.2⟩
theorem oh_rW_in {p q : Nat} {it : Nat × Nat × Nat} (hE : oh_E tk N e) (hp : oh_cls (tk p) = 2) (h : oh_rW tk p = some (it, q)) : p + 1 + e ≤ q ∧ q ≤ N ∧ (it.1 = 2 ∨ it.1 = 3 ∨ it.1 = 4) ∧ oh_vi it := by
  rw [oh_cls2] at hp
  have e0 := oh_E_w hE (k := p) (by omega) (by omega)
  have pN := oh_E_lt hE (k := p) (by omega) (by omega)
  unfold oh_rW at h
  unfold oh_vi
  split at h
  · split at h
    · split at h
      · rename_i c
        have := oh_E_lt hE (k := p + 4) (by omega) (by omega)
        cases h
        refine ⟨by omega, by omega, Or.inr (Or.inl rfl), ?_⟩
        dsimp only; omega
      · cases h
    · split at h
      · rename_i c
        have := oh_E_lt hE (k := p + 3) (by omega) (by omega)
        cases h
        refine ⟨by omega, by omega, Or.inr (Or.inl rfl), ?_⟩
        dsimp only; omega
      · cases h
  · split at h
    · split at h
      · rename_i c
        have := oh_E_lt hE (k := p + 2) (by omega) (by omega)
        cases h
        refine ⟨by omega, by omega, Or.inl rfl, ?_⟩
        dsimp only; omega
      · cases h
    · split at h
      · cases h
        refine ⟨by omega, by omega, Or.inr (Or.inr rfl), ?_⟩
        dsimp only; omega
      · cases h
        refine ⟨by omega, by omega, Or.inl rfl, ?_⟩
        dsimp only; omega
theorem oh_e1_in {s t : Nat} (hs : s ≤ 47) (ht : t ≤ 48) : s < oh_e1 s t ∧ oh_e1 s t ≤ 95 := by
  unfold oh_e1
  (repeat' split) <;> omega
theorem oh_rN_in {p q : Nat} {it : Nat × Nat × Nat} (hE : oh_E tk N e) (h : oh_rN tk p = some (it, q)) : p + 1 + e ≤ q ∧ q ≤ N ∧ it.1 = 5 ∧ oh_vi it := by
  unfold oh_rN at h
  split at h
  · rename_i c
    have := oh_E_lt hE (k := p + 6) (by omega) (by omega)
    have b := oh_e1_in c.1.2.2.2 c.2.2.2.2.2
    cases h
    have := hE.2
    refine ⟨by omega, by omega, rfl, ?_⟩
    exact Or.inr (Or.inr (Or.inr (Or.inr (Or.inr (Or.inl ⟨rfl, c.1.2.2.2, b.1, b.2⟩)))))
  · cases h
def oh_pk (part k : Nat) : Prop := (part = 1 ∧ k = 1) ∨ (part = 2 ∧ (k = 2 ∨ k = 3 ∨ k = 4)) ∨ (part = 3 ∧ k = 5)
theorem oh_rd_in {part p q : Nat} {it : Nat × Nat × Nat} (hE : oh_E tk N e) (h3 : 1 ≤ part ∧ part ≤ 3) (hp : oh_cls (tk p) = part) (h : oh_rd tk part p = some (it, q)) : p + 1 + e ≤ q ∧ q ≤ N ∧ oh_pk part it.1 ∧ oh_vi it := by
  unfold oh_rd at h
  split at h
  · rename_i c
    subst c
    have := oh_rM_in hE hp h
    exact ⟨this.1, this.2.1, Or.inl ⟨rfl, this.2.2.1⟩, this.2.2.2⟩
  · split at h
    · rename_i c
      subst c
      have := oh_rW_in hE hp h
      exact ⟨this.1, this.2.1, Or.inr (Or.inl ⟨rfl, this.2.2.1⟩), this.2.2.2⟩
    · have := oh_rN_in hE h
      exact ⟨this.1, this.2.1, Or.inr (Or.inr ⟨by omega, this.2.2.1⟩), this.2.2.2⟩
theorem oh_pl_n {part l p : Nat} (h : oh_rd tk part p = none) : oh_pl tk part (l + 1) p = none := by rw [oh_pl, h]; rfl
theorem oh_pl_e {part l p q : Nat} {it : Nat × Nat × Nat} (h : oh_rd tk part p = some (it, q)) (hm : ¬ (tk q = 44 ∧ oh_cls (tk (q + 1)) = part)) : oh_pl tk part (l + 1) p = some ([it], q) := by
  rw [oh_pl, h]; exact if_neg hm
theorem oh_pl_s {part l p q : Nat} {it : Nat × Nat × Nat} (h : oh_rd tk part p = some (it, q)) (hm : tk q = 44 ∧ oh_cls (tk (q + 1)) = part) : oh_pl tk part (l + 1) p = (oh_pl tk part l (q + 1)).map (fun w => (it :: w.1, w.2)) := by
  rw [oh_pl, h]; exact if_pos hm
theorem oh_pl_in (hE : oh_E tk N e) {part : Nat} (h3 : 1 ≤ part ∧ part ≤ 3) : ∀ {l p q : Nat} {its : List (Nat × Nat × Nat)}, oh_cls (tk p) = part → oh_pl tk part l p = some (its, q) → its.length + p + e ≤ q ∧ 1 ≤ its.length ∧ q ≤ N ∧ its.length ≤ l ∧ ¬ (tk q = 44 ∧ oh_cls (tk (q + 1)) = part) ∧ ∀ t, t ∈ its → oh_pk part t.1 ∧ oh_vi t
  | 0, p, q, its, _, h => by cases h
  | l + 1, p, q, its, hp, h => by
    cases hr : oh_rd tk part p with
    | none => rw [oh_pl_n hr] at h; cases h
    | some v =>
      obtain ⟨it, q1⟩ := v
      have a := oh_rd_in hE h3 hp hr
      by_cases hm : tk q1 = 44 ∧ oh_cls (tk (q1 + 1)) = part
      · rw [oh_pl_s hr hm] at h
        cases hl : oh_pl tk part l (q1 + 1) with
        | none => rw [hl] at h; cases h
        | some w =>
          obtain ⟨its', q'⟩ := w
          rw [hl] at h
          cases h
          have b := oh_pl_in hE h3 hm.2 hl
          refine ⟨by simp only [List.length_cons]; omega, by simp only [List.length_cons]; omega, b.2.2.1, by simp only [List.length_cons]; omega, b.2.2.2.2.1, fun t ht => ?_⟩
          rcases List.mem_cons.mp ht with z | z
          · rw [z]; exact a.2.2
          · exact b.2.2.2.2.2 t z
      · rw [oh_pl_e hr hm] at h
        cases h
        refine ⟨by simp only [List.length_singleton]; omega, by simp, a.2.1, by simp, hm, fun t ht => ?_⟩
        rw [List.mem_singleton.mp ht]; exact a.2.2
theorem oh_po_in (hE : oh_E tk N e) {part l p q : Nat} {its : List (Nat × Nat × Nat)} (h3 : 1 ≤ part ∧ part ≤ 3) (hp : p ≤ N) (h : oh_po tk part l p = some (its, q)) : (its = [] ∧ q = p ∨ its.length + p + e ≤ q ∧ 1 ≤ its.length) ∧ q ≤ N ∧ its.length ≤ l ∧ ∀ t, t ∈ its → oh_pk part t.1 ∧ oh_vi t := by
  unfold oh_po at h
  split at h
  · rename_i c
    have := oh_pl_in hE h3 c h
    exact ⟨Or.inr ⟨this.1, this.2.1⟩, this.2.2.1, this.2.2.2.1, this.2.2.2.2.2⟩
  · cases h
    exact ⟨Or.inl ⟨rfl, rfl⟩, hp, Nat.zero_le _, fun t ht => absurd ht List.not_mem_nil⟩
theorem oh_pr_x {p q : Nat} {its : List (Nat × Nat × Nat)} (h : oh_pr tk N p = some (its, q)) : ∃ i1 q1 i2 q2 i3 q3, oh_po tk 1 2 p = some (i1, q1) ∧ oh_po tk 2 (N + 1) q1 = some (i2, q2) ∧ oh_po tk 3 3 q2 = some (i3, q3) ∧ its = i1 ++ (i2 ++ (i3 ++ (oh_ps tk q3).1)) ∧ q = (oh_ps tk q3).2 ∧ ¬ q = p := by
  unfold oh_pr at h
  cases h1 : oh_po tk 1 2 p with
  | none => rw [h1] at h; cases h
  | some v1 =>
    rw [h1] at h
    obtain ⟨i1, q1⟩ := v1
    dsimp only [Option.bind_some] at h
    cases h2 : oh_po tk 2 (N + 1) q1 with
    | none => rw [h2] at h; cases h
    | some v2 =>
      rw [h2] at h
      obtain ⟨i2, q2⟩ := v2
      dsimp only [Option.bind_some] at h
      cases h3 : oh_po tk 3 3 q2 with
      | none => rw [h3] at h; cases h
      | some v3 =>
        rw [h3] at h
        obtain ⟨i3, q3⟩ := v3
        dsimp only [Option.bind_some] at h
        split at h
        · cases h
        · rename_i hn
          cases h
          exact ⟨i1, q1, i2, q2, i3, q3, rfl, h2, h3, rfl, rfl, hn⟩
theorem oh_pr_in (hE : oh_E tk N e) {p q : Nat} {its : List (Nat × Nat × Nat)} (hp : p ≤ N) (h : oh_pr tk N p = some (its, q)) : its.length + p + e ≤ q ∧ p < q ∧ q ≤ N ∧ ∀ t, t ∈ its → 1 ≤ t.1 ∧ oh_vi t := by
  obtain ⟨i1, q1, i2, q2, i3, q3, h1, h2, h3, ei, eq, hn⟩ := oh_pr_x h
  have a1 := oh_po_in hE (by omega) hp h1
  have a2 := oh_po_in hE (by omega) a1.2.1 h2
  have a3 := oh_po_in hE (by omega) a2.2.1 h3
  have a4 : ((oh_ps tk q3).1 = [] ∧ (oh_ps tk q3).2 = q3 ∨ (oh_ps tk q3).1.length + q3 + e ≤ (oh_ps tk q3).2 ∧ 1 ≤ (oh_ps tk q3).1.length) ∧ (oh_ps tk q3).2 ≤ N ∧ ∀ t, t ∈ (oh_ps tk q3).1 → 1 ≤ t.1 ∧ oh_vi t := by
    unfold oh_ps
    split
    · rename_i c
      rw [oh_cls4] at c
      have := oh_E_w hE (k := q3) (by omega) (by omega)
      have := oh_E_lt hE (k := q3) (by omega) (by omega)
      refine ⟨Or.inr ⟨by simp only [List.length_singleton]; omega, by simp⟩, by dsimp only; omega, fun t ht => ?_⟩
      rw [List.mem_singleton.mp ht]
      refine ⟨by dsimp only; omega, ?_⟩
      unfold oh_vi; dsimp only; omega
    · exact ⟨Or.inl ⟨rfl, rfl⟩, a3.2.1, fun t ht => absurd ht List.not_mem_nil⟩
  have hl : its.length = i1.length + (i2.length + (i3.length + (oh_ps tk q3).1.length)) := by rw [ei]; simp only [List.length_append]
  have z1 : i1 = [] → i1.length = 0 := fun z => by rw [z]; rfl
  have z2 : i2 = [] → i2.length = 0 := fun z => by rw [z]; rfl
  have z3 : i3 = [] → i3.length = 0 := fun z => by rw [z]; rfl
  have z4 : (oh_ps tk q3).1 = [] → (oh_ps tk q3).1.length = 0 := fun z => by rw [z]; rfl
  have b1 : i1.length = 0 ∧ q1 = p ∨ i1.length + p + e ≤ q1 ∧ 1 ≤ i1.length := a1.1.imp (fun z => ⟨z1 z.1, z.2⟩) id
  have b2 : i2.length = 0 ∧ q2 = q1 ∨ i2.length + q1 + e ≤ q2 ∧ 1 ≤ i2.length := a2.1.imp (fun z => ⟨z2 z.1, z.2⟩) id
  have b3 : i3.length = 0 ∧ q3 = q2 ∨ i3.length + q2 + e ≤ q3 ∧ 1 ≤ i3.length := a3.1.imp (fun z => ⟨z3 z.1, z.2⟩) id
  have b4 : (oh_ps tk q3).1.length = 0 ∧ (oh_ps tk q3).2 = q3 ∨ (oh_ps tk q3).1.length + q3 + e ≤ (oh_ps tk q3).2 ∧ 1 ≤ (oh_ps tk q3).1.length := a4.1.imp (fun z => ⟨z4 z.1, z.2⟩) id
  have b5 := a4.2.1
  rw [← eq] at b4 b5
  have hm : ∀ t, t ∈ its → 1 ≤ t.1 ∧ oh_vi t := fun t ht => by
    have pk1 : ∀ {part k : Nat}, oh_pk part k → 1 ≤ k := fun z => by unfold oh_pk at z; omega
    rw [ei] at ht
    rcases List.mem_append.mp ht with z | z
    · have := a1.2.2.2 t z; exact ⟨pk1 this.1, this.2⟩
    · rcases List.mem_append.mp z with z | z
      · have := a2.2.2.2 t z; exact ⟨pk1 this.1, this.2⟩
      · rcases List.mem_append.mp z with z | z
        · have := a3.2.2.2 t z; exact ⟨pk1 this.1, this.2⟩
        · exact a4.2.2 t z
  refine ⟨?_, ?_, b5, hm⟩
  · clear a1 a2 a3 a4 h1 h2 h3 z1 z2 z3 z4 h hm
    generalize (oh_ps tk q3).1.length = L4 at *
    omega
  · clear a1 a2 a3 a4 h1 h2 h3 z1 z2 z3 z4 h hm
    generalize (oh_ps tk q3).1.length = L4 at *
    omega
theorem oh_pp_in (hE : oh_E tk N e) : ∀ {l c kd p m : Nat} {FL : List (Nat × Nat × Nat × Nat)}, kd ≤ 2 → p ≤ N → oh_pp tk N l c kd p = some (m, FL) → c < m ∧ m ≤ c + l ∧ FL.length + p + e ≤ N + 1 ∧ ∀ f, f ∈ FL → c ≤ f.1 ∧ f.1 < m ∧ oh_vi f.2
  | 0, c, kd, p, m, FL, _, _, h => by cases h
  | l + 1, c, kd, p, m, FL, hk, hp, h => by
    rw [oh_pp] at h
    cases hr : oh_pr tk N p with
    | none => rw [hr] at h; cases h
    | some v =>
      obtain ⟨its, q⟩ := v
      rw [hr] at h
      dsimp only [Option.bind_some] at h
      have a := oh_pr_in hE hp hr
      have hfs : ∀ f, f ∈ oh_fs c kd its → f.1 = c ∧ oh_vi f.2 := fun f hf => by
        unfold oh_fs at hf
        obtain ⟨t, ht, et⟩ := List.mem_map.mp hf
        rw [← et]
        refine ⟨rfl, ?_⟩
        rcases List.mem_cons.mp ht with z | z
        · rw [z]; exact Or.inl ⟨rfl, hk, rfl⟩
        · exact (a.2.2.2 t z).2
      have hl : (oh_fs c kd its).length = its.length + 1 := by unfold oh_fs; rw [List.length_map, List.length_cons]
      split at h
      · cases h
        refine ⟨by omega, by omega, by omega, fun f hf => ?_⟩
        have := hfs f hf
        exact ⟨by omega, by omega, this.2⟩
      · split at h
        · rename_i hs
          have qN := oh_E_lt hE (k := q) (by omega) (by omega)
          cases hq : oh_pp tk N l (c + 1) (oh_vl (tk q)) (q + 1) with
          | none => rw [hq] at h; cases h
          | some w =>
            obtain ⟨m', FL'⟩ := w
            rw [hq] at h
            cases h
            have hv : oh_vl (tk q) ≤ 2 := by
              rcases hs with z | z | z <;> rw [z] <;> decide
            have b := oh_pp_in hE hv (by omega) hq
            refine ⟨by omega, by omega, by simp only [List.length_append]; omega, fun f hf => ?_⟩
            rcases List.mem_append.mp hf with z | z
            · have := hfs f z
              exact ⟨by omega, by omega, this.2⟩
            · have := b.2.2.2 f z
              exact ⟨by omega, by omega, this.2.2⟩
        · cases h
/-- without an end among the codes nothing is read -/
theorem oh_pp_0 (h0 : ∀ k, ¬ tk k = 0) : ∀ {l c kd p : Nat}, oh_pp tk N l c kd p = none
  | 0, c, kd, p => rfl
  | l + 1, c, kd, p => by
    rw [oh_pp]
    cases oh_pr tk N p with
    | none => rfl
    | some v =>
      dsimp only [Option.bind_some]
      rw [if_neg (h0 _)]
      split
      · rw [oh_pp_0 h0]; rfl
      · rfl
end
end
section
/-! ===== X: the scanner ===== -/
theorem oh_tk_good : ∀ {l : List Nat}, (∀ c, c ∈ l → ¬ c = 2000) → ∀ k, oh_tk l k = l.getD k 0
  | [], _, k => by simp [oh_tk]
  | c :: t, h, 0 => by simp [oh_tk]
  | c :: t, h, k + 1 => by
    rw [oh_tk, if_neg (h c List.mem_cons_self), oh_tk_good (fun d hd => h d (List.mem_cons_of_mem _ hd))]
    simp
/-- X's tokens hold the codes tk (the first, a separator, stands ahead of them) -/
def oh_TX (tk : Nat → Nat) (N : Nat) (xtk xtv : Nat → Int32) : Prop := N ≤ 128 ∧ (∀ k, N ≤ k → tk k = 0) ∧ ∀ k, k < N → (0 < tk k ∧ oh_vc (tk k) ∧ ¬ tk k = 2000) ∧ xtk (k + 1) = nI (oh_kd (tk k)) ∧ xtv (k + 1) = nI (oh_vl (tk k))
theorem oh_rem {x : Int32} (a d : Nat) {y : Int32} (hx : x = nI a) (hd : y = nI d) (ha : a < 2 ^ 31) (h0 : 0 < d) (h2 : d < 2 ^ 31) : x - x / y * y = nI (a % d) := by
  rw [hx, hd]; exact pk_rem ha h0 h2
section
variable {xfw xlp xdy xrl xhz xhc xts xos xpd xtc xcu xbk xrt : Int32} {xdc xho xtx xou xtk xtv xki xst xdn xsn xdf xdt xsf xse : Nat → Int32} {xnm xds xtd xtm : Nat → Int64}
theorem xz_isL {post : Int32 → Prop} {x : Int32} (c : Nat) (hx : x = nI c) (hc : c < 1000) (h : post (if oh_cc c = 1 then 1 else 0)) : wpX_isLetter post (xfw, xlp, xdy, xrl, xhz, xhc, xts, xos, xpd, xtc, xcu, xbk, xrt, xdc, xho, xtx, xou, xnm, xtk, xtv, xki, xst, xdn, xsn, xdf, xdt, xsf, xse, xds, xtd, xtm) x := by
  subst hx
  unfold wpX_isLetter
  dsimp only
  unfold wX_isLetter_12
  have e1 := @oh_cc1 c
  refine pk_lt c 65 (fun a => pk_lt c 97 (fun b => ?_) (fun b => pk_lt 122 c (fun d => ?_) (fun d => ?_))) (fun a => pk_le c 90 (fun b => ?_) (fun b => pk_lt c 97 (fun d => ?_) (fun d => pk_lt 122 c (fun d => ?_) (fun d => ?_))))
  all_goals first
    | (rw [if_neg (by omega)] at h; exact h)
    | (rw [if_pos (by omega)] at h; exact h)
theorem xz_isD {post : Int32 → Prop} {x : Int32} (c : Nat) (hx : x = nI c) (hc : c < 1000) (h : post (if oh_cc c = 2 then 1 else 0)) : wpX_isDigit post (xfw, xlp, xdy, xrl, xhz, xhc, xts, xos, xpd, xtc, xcu, xbk, xrt, xdc, xho, xtx, xou, xnm, xtk, xtv, xki, xst, xdn, xsn, xdf, xdt, xsf, xse, xds, xtd, xtm) x := by
  subst hx
  unfold wpX_isDigit
  dsimp only
  have e1 := @oh_cc2i c
  refine pk_lt c 48 (fun a => ?_) (fun a => pk_lt 57 c (fun d => ?_) (fun d => ?_))
  all_goals first
    | (rw [if_neg (by omega)] at h; exact h)
    | (rw [if_pos (by omega)] at h; exact h)
theorem xz_add {post : SX → Prop} {m : Nat} {k v : Int32} (hm : m ≤ 128) (h : post (xfw, xlp, xdy, xrl, xhz, xhc, xts, xos, xpd, nI (m + 1), xcu, xbk, xrt, xdc, xho, xtx, xou, xnm, upd xtk m k, upd xtv m v, xki, xst, xdn, xsn, xdf, xdt, xsf, xse, xds, xtd, xtm)) : wpX_addToken post (xfw, xlp, xdy, xrl, xhz, xhc, xts, xos, xpd, nI m, xcu, xbk, xrt, xdc, xho, xtx, xou, xnm, xtk, xtv, xki, xst, xdn, xsn, xdf, xdt, xsf, xse, xds, xtd, xtm) k v := by
  unfold wpX_addToken
  dsimp only
  have hc := nI_clamp (n := m) (by omega)
  refine pk_le m 128 (fun _ => ?_) (fun a => absurd a (by omega))
  exact ⟨vp_in_nI (by omega) (by omega), nm_r (e' := upd xtk m k) (by rw [hc]) (nm_r (nI_1 m) ⟨vp_in_nI (by omega) (by omega), nm_r (e' := upd xtv m v) (by rw [hc]) h⟩)⟩
theorem xz_80 {post : Int32 → SX → Prop} {i : Nat} (hi : i < 24) (h : post 1 (xfw, xlp, xdy, xrl, xhz, xhc, xts, xos, xpd, xtc, xcu, xbk, xrt, xdc, xho, xtx, xou, xnm, xtk, xtv, xki, xst, xdn, xsn, xdf, xdt, xsf, xse, xds, xtd, xtm)) : wX_addWord_80 post (nI i) xfw xlp xdy xrl xhz xhc xts xos xpd xtc xcu xbk xrt xdc xho xtx xou xnm xtk xtv xki xst xdn xsn xdf xdt xsf xse xds xtd xtm := by
  unfold wX_addWord_80
  exact pk_le 24 i (fun a => absurd a (by omega)) (fun _ => h)
theorem xz_25 {post : Int32 → SX → Prop} {i m : Nat} (hi : i ≤ 24) (hm : m ≤ 128) (h0 : i = 24 → post 0 (xfw, xlp, xdy, xrl, xhz, xhc, xts, xos, xpd, nI m, xcu, xbk, xrt, xdc, xho, xtx, xou, xnm, xtk, xtv, xki, xst, xdn, xsn, xdf, xdt, xsf, xse, xds, xtd, xtm)) (h1 : i < 24 → post 1 (xfw, xlp, xdy, xrl, xhz, xhc, xts, xos, xpd, nI (m + 1), xcu, xbk, xrt, xdc, xho, xtx, xou, xnm, upd xtk m (nI (oh_kd (i + 1))), upd xtv m (nI (oh_vl (i + 1))), xki, xst, xdn, xsn, xdf, xdt, xsf, xse, xds, xtd, xtm)) : wX_addWord_25 post (nI i) xfw xlp xdy xrl xhz xhc xts xos xpd (nI m) xcu xbk xrt xdc xho xtx xou xnm xtk xtv xki xst xdn xsn xdf xdt xsf xse xds xtd xtm := by
  unfold wX_addWord_25
  refine pk_le 12 i (fun a => pk_le 20 i (fun b => pk_le 24 i (fun c => ?_) (fun c => ⟨by decide, xz_add hm ?_⟩)) (fun b => xz_add hm ?_)) (fun a => xz_add hm ?_)
  · unfold wX_addWord_80
    exact pk_le 24 i (fun _ => h0 (by omega)) (fun d => absurd d (by omega))
  · have e : nI i - 20 - (nI i - 20) / 3 * 3 = nI ((i - 20) % 3) := oh_rem (i - 20) 3 (pk_sub (a := i) (b := 20) (by omega)) rfl (by omega) (by omega) (by omega)
    have k1 : oh_kd (i + 1) = 83 := by unfold oh_kd; (repeat' split) <;> omega
    have v1 : oh_vl (i + 1) = (i - 20) % 3 := by unfold oh_vl; (repeat' split) <;> omega
    have := h1 (by omega)
    rw [k1, v1] at this
    rw [e]
    exact xz_80 (by omega) this
  · have e : nI i - 12 = nI (i - 12) := pk_sub (a := i) (b := 12) (by omega)
    have k1 : oh_kd (i + 1) = 87 := by unfold oh_kd; (repeat' split) <;> omega
    have v1 : oh_vl (i + 1) = i - 12 := by unfold oh_vl; (repeat' split) <;> omega
    have := h1 (by omega)
    rw [k1, v1] at this
    rw [e]
    exact xz_80 (by omega) this
  · have k1 : oh_kd (i + 1) = 77 := by unfold oh_kd; (repeat' split) <;> omega
    have v1 : oh_vl (i + 1) = i + 1 := by unfold oh_vl; (repeat' split) <;> omega
    have := h1 (by omega)
    rw [k1, v1] at this
    rw [nI_1]
    exact xz_80 (by omega) this
theorem xz_aw {post : Int32 → SX → Prop} {w : Int64} {l : List Nat} (hw : ∀ i, i < 24 → (xnm i = w ↔ oh_NS.getD i [] = l)) : ∀ (d i f : Nat), i + d = 24 → d < f → wX_addWord_25 post (nI (oh_fi l d i)) xfw xlp xdy xrl xhz xhc xts xos xpd xtc xcu xbk xrt xdc xho xtx xou xnm xtk xtv xki xst xdn xsn xdf xdt xsf xse xds xtd xtm → wX_addWord_2 post w xfw xlp xdy xrl xhz xhc xts xos xpd xtc xcu xbk xrt xdc xho xtx xou xnm xtk xtv xki xst xdn xsn xdf xdt xsf xse xds xtd xtm f (nI i)
  | 0, i, 0, _, hf, _ => absurd hf (by omega)
  | 0, i, f + 1, hi, _, h => by
    rw [wX_addWord_2]
    exact pk_le 24 i (fun _ => h) (fun a => absurd a (by omega))
  | d + 1, i, 0, _, hf, _ => absurd hf (by omega)
  | d + 1, i, f + 1, hi, hf, h => by
    rw [wX_addWord_2]
    have hc : (nI i).toNatClampNeg = i := nI_clamp (by omega)
    rw [oh_fi] at h
    refine pk_le 24 i (fun a => absurd a (by omega)) (fun _ => ⟨vp_in_nI (by omega) (by omega), ?_⟩)
    rw [hc]
    by_cases z : oh_NS.getD i [] = l
    · rw [if_pos z] at h
      exact br_t ((hw i (by omega)).mpr z) h
    · rw [if_neg z] at h
      exact br_f (fun q => z ((hw i (by omega)).mp q)) (nm_r (nI_1 i) (xz_aw hw d (i + 1) f (by omega) (by omega) h))
/-- one more letter of the word -/
theorem oh_wordX {ch : Nat → Nat} {n p k : Nat} (hT : oh_T ch n) (hk : p + k < n) (h8 : k < 8) : lN (oh_le (oh_seg ch p k)) ||| ((nI (ch (p + k))).toInt64 <<< ((8 * (nI (p + k) - nI p)).toInt64 &&& 63)) = lN (oh_le (oh_seg ch p (k + 1))) := by
  have hn := hT.1
  have hc := hT.2.1 (p + k)
  have e1 : 8 * (nI (p + k) - nI p) = nI (8 * k) := by
    rw [pk_sub (by omega), show p + k - p = k by omega]
    exact pk_mul 8 k
  have ok : oh_ok (oh_seg ch p k) := oh_seg_ok hT (by omega)
  have ok1 : oh_ok (oh_seg ch p (k + 1)) := oh_seg_ok hT (by omega)
  have b := oh_le_lt _ ok
  have b1 := oh_le_63 ok1 (by rw [oh_seg_len]; omega)
  have es : oh_le (oh_seg ch p (k + 1)) = oh_le (oh_seg ch p k) + ch (p + k) * 256 ^ k := by rw [oh_seg, oh_le_s, oh_seg_len]
  have ep : (2 : Nat) ^ (8 * k) = 256 ^ k := by rw [Nat.pow_mul]
  rw [oh_seg_len] at b
  rw [e1, nI_l (by omega), wb_shl _ (by omega), es, ep]
  rw [es] at b1
  exact g_or' ep (by omega) (by omega)
theorem xz_62 {post : Int32 → SX → Prop} {ch : Nat → Nat} {n p K m : Nat} {w : Int64} {e : Int32} (hT : oh_T ch n) (hn : ∀ i, i < 24 → xnm i = lN (oh_le (oh_NS.getD i []))) (hK : p + K ≤ n) (hm : m ≤ 128) (hw : w = lN (oh_le (oh_seg ch p (min K 8)))) (h0 : ¬ oh_wi (oh_seg ch p K) < 24 → post (-1) (xfw, xlp, xdy, xrl, xhz, xhc, xts, xos, xpd, nI m, xcu, xbk, xrt, xdc, xho, xtx, xou, xnm, xtk, xtv, xki, xst, xdn, xsn, xdf, xdt, xsf, xse, xds, xtd, xtm)) (h1 : oh_wi (oh_seg ch p K) < 24 → post e (xfw, xlp, xdy, xrl, xhz, xhc, xts, xos, xpd, nI (m + 1), xcu, xbk, xrt, xdc, xho, xtx, xou, xnm, upd xtk m (nI (oh_kd (oh_wi (oh_seg ch p K) + 1))), upd xtv m (nI (oh_vl (oh_wi (oh_seg ch p K) + 1))), xki, xst, xdn, xsn, xdf, xdt, xsf, xse, xds, xtd, xtm)) : wX_scanWord_62 post w e xfw xlp xdy xrl xhz xhc xts xos xpd (nI m) xcu xbk xrt xdc xho xtx xou xnm xtk xtv xki xst xdn xsn xdf xdt xsf xse xds xtd xtm := by
  unfold wX_scanWord_62 wpX_addWord
  refine ⟨25, ?_⟩
  refine xz_aw (l := oh_seg ch p K) (fun i hi => by rw [hn i hi, hw]; exact oh_eqX hT hK hi) 24 0 25 rfl (by omega) ?_
  refine xz_25 (oh_wi_le _) hm (fun a => ?_) (fun a => ?_)
  · exact br_t rfl (h0 (by unfold oh_wi; omega))
  · exact br_f (by decide) (h1 (by unfold oh_wi; omega))
theorem xz_sw {post : Int32 → SX → Prop} {ch : Nat → Nat} {n p K : Nat} (hT : oh_T ch n) (hx : ∀ j, xtx j = nI (ch j)) (hK : oh_run ch 1 (n - p) p = p + K) (hp : p < n) (h : wX_scanWord_62 post (lN (oh_le (oh_seg ch p (min K 8)))) (nI (p + K)) xfw xlp xdy xrl xhz xhc (nI n) xos xpd xtc xcu xbk xrt xdc xho xtx xou xnm xtk xtv xki xst xdn xsn xdf xdt xsf xse xds xtd xtm) : ∀ (d k f : Nat), k + d = K → d < f → wX_scanWord_5 post (nI p) xfw xlp xdy xrl xhz xhc (nI n) xos xpd xtc xcu xbk xrt xdc xho xtx xou xnm xtk xtv xki xst xdn xsn xdf xdt xsf xse xds xtd xtm f (lN (oh_le (oh_seg ch p (min k 8)))) (nI (p + k))
  | 0, k, 0, _, hf => absurd hf (by omega)
  | 0, k, f + 1, hd, _ => by
    have e : k = K := by omega
    subst e
    have hn := hT.1
    have hr := oh_run_le ch 1 (n - p) p
    rw [wX_scanWord_5]
    refine pk_le n (p + k) (fun _ => h) (fun a => ⟨vp_in_nI (by omega) (by omega), ?_⟩)
    have ex : xtx (nI (p + k)).toNatClampNeg = nI (ch (p + k)) := by rw [nI_clamp (by omega), hx]
    have := hT.2.1 (p + k)
    refine xz_isL _ ex (by omega) ?_
    have nl : ¬ oh_cc (ch (p + k)) = 1 := fun q => by
      have := oh_run_s (n := n) a q
      have hr2 := oh_run_le ch 1 (n - (p + k + 1)) (p + k + 1)
      have key : ∀ j, j ≤ k → oh_run ch 1 (n - p) p = oh_run ch 1 (n - (p + j)) (p + j) := by
        intro j
        induction j with
        | zero => intro _; rfl
        | succ j ih =>
          intro hj
          rw [ih (by omega)]
          exact oh_run_s (by omega) (oh_run_in (d := n - p) (p := p) (by omega) (by omega))
      have := key k (by omega)
      omega
    rw [if_neg nl]
    exact br_t rfl h
  | d + 1, k, 0, _, hf => absurd hf (by omega)
  | d + 1, k, f + 1, hd, hf => by
    have hn := hT.1
    have hr := oh_run_le ch 1 (n - p) p
    have il : oh_cc (ch (p + k)) = 1 := oh_run_in (d := n - p) (p := p) (by omega) (by omega)
    rw [wX_scanWord_5]
    refine pk_le n (p + k) (fun a => absurd a (by omega)) (fun a => ⟨vp_in_nI (by omega) (by omega), ?_⟩)
    have ex : xtx (nI (p + k)).toNatClampNeg = nI (ch (p + k)) := by rw [nI_clamp (by omega), hx]
    have := hT.2.1 (p + k)
    refine xz_isL _ ex (by omega) ?_
    rw [if_pos il]
    refine br_f (by decide) ?_
    have ih := xz_sw hT hx hK hp h d (k + 1) f (by omega) (by omega)
    refine pk_le (p + 8) (p + k) (fun z => ?_) (fun z => ⟨vp_in_nI (by omega) (by omega), ?_⟩) (hx := nI_add p 8)
    · refine nm_r (nI_1 _) ?_
      rw [show min (k + 1) 8 = min k 8 by omega] at ih
      exact ih
    · rw [show min (k + 1) 8 = k + 1 by omega] at ih
      rw [show min k 8 = k by omega, ex]
      exact nm_r (oh_wordX hT (by omega) (by omega)) (nm_r (nI_1 _) ih)
theorem xz_word {post : Int32 → SX → Prop} {ch : Nat → Nat} {n p m : Nat} (hT : oh_T ch n) (hx : ∀ j, xtx j = nI (ch j)) (hn : ∀ i, i < 24 → xnm i = lN (oh_le (oh_NS.getD i []))) (hp : p < n) (hm : m ≤ 128) (hc : oh_cc (ch p) = 1)
    (h0 : oh_tc ch p (oh_te ch n p - p) = 2000 → post (-1) (xfw, xlp, xdy, xrl, xhz, xhc, nI n, xos, xpd, nI m, xcu, xbk, xrt, xdc, xho, xtx, xou, xnm, xtk, xtv, xki, xst, xdn, xsn, xdf, xdt, xsf, xse, xds, xtd, xtm)) (h1 : ¬ oh_tc ch p (oh_te ch n p - p) = 2000 → post (nI (oh_te ch n p)) (xfw, xlp, xdy, xrl, xhz, xhc, nI n, xos, xpd, nI (m + 1), xcu, xbk, xrt, xdc, xho, xtx, xou, xnm, upd xtk m (nI (oh_kd (oh_tc ch p (oh_te ch n p - p)))), upd xtv m (nI (oh_vl (oh_tc ch p (oh_te ch n p - p)))), xki, xst, xdn, xsn, xdf, xdt, xsf, xse, xds, xtd, xtm)) : wpX_scanWord post (xfw, xlp, xdy, xrl, xhz, xhc, nI n, xos, xpd, nI m, xcu, xbk, xrt, xdc, xho, xtx, xou, xnm, xtk, xtv, xki, xst, xdn, xsn, xdf, xdt, xsf, xse, xds, xtd, xtm) (nI p) := by
  have ht : oh_te ch n p = oh_run ch 1 (n - p) p := by unfold oh_te; rw [if_pos hc]
  have hte := oh_te_in (ch := ch) hp
  obtain ⟨K, hK⟩ : ∃ K, oh_te ch n p = p + K := ⟨oh_te ch n p - p, by omega⟩
  have hK' : oh_run ch 1 (n - p) p = p + K := by rw [← ht, hK]
  rw [hK, show p + K - p = K by omega] at h0 h1
  have c12 := @oh_cc1 (ch p)
  unfold wpX_scanWord
  refine ⟨K + 1, ?_⟩
  refine xz_sw hT hx hK' hp ?_ K 0 (K + 1) (by omega) (by omega)
  refine xz_62 hT hn (by omega) hm rfl (fun z => h0 ?_) (fun z => ?_)
  · unfold oh_tc
    rw [if_neg (by omega), if_neg z, if_neg (by omega)]
  · have e : oh_tc ch p K = oh_wi (oh_seg ch p K) + 1 := by
      unfold oh_tc
      rw [if_neg (by omega), if_pos z]
    rw [e] at h1
    exact h1 (by omega)
/-! numbers -/
def oh_nv (ch : Nat → Nat) (p : Nat) : Nat → Int32
  | 0 => 0
  | k + 1 => 10 * oh_nv ch p k + nI (ch (p + k)) - 48
theorem oh_nv1 {ch : Nat → Nat} {p : Nat} (h : 48 ≤ ch p ∧ ch p ≤ 57) : oh_nv ch p 1 = nI (ch p - 48) := by
  show 10 * 0 + nI (ch p) - 48 = _
  have : (10 : Int32) * 0 + nI (ch p) = nI (ch p) := by
    rw [show (10 : Int32) * 0 = 0 by decide, Int32.zero_add]
  rw [this]
  exact pk_sub (a := ch p) (b := 48) h.1
theorem oh_nv2 {ch : Nat → Nat} {p : Nat} (h : 48 ≤ ch p ∧ ch p ≤ 57) (h2 : 48 ≤ ch (p + 1) ∧ ch (p + 1) ≤ 57) : oh_nv ch p 2 = nI (10 * (ch p - 48) + (ch (p + 1) - 48)) := by
  show 10 * oh_nv ch p 1 + nI (ch (p + 1)) - 48 = _
  rw [oh_nv1 h]
  have e1 : 10 * nI (ch p - 48) = nI (10 * (ch p - 48)) := pk_mul 10 _
  rw [e1, nI_add]
  have e2 : nI (10 * (ch p - 48) + ch (p + 1)) - 48 = nI (10 * (ch p - 48) + ch (p + 1) - 48) := pk_sub (a := 10 * (ch p - 48) + ch (p + 1)) (b := 48) (by omega)
  rw [e2, show 10 * (ch p - 48) + ch (p + 1) - 48 = 10 * (ch p - 48) + (ch (p + 1) - 48) by omega]
theorem xz_sn {post : Int32 → SX → Prop} {ch : Nat → Nat} {n p K : Nat} (hT : oh_T ch n) (hx : ∀ j, xtx j = nI (ch j)) (hK : oh_run ch 2 (n - p) p = p + K) (hp : p < n) (h : wX_scanNumber_46 post (nI p) (oh_nv ch p K) (nI (p + K)) xfw xlp xdy xrl xhz xhc (nI n) xos xpd xtc xcu xbk xrt xdc xho xtx xou xnm xtk xtv xki xst xdn xsn xdf xdt xsf xse xds xtd xtm) : ∀ (d k f : Nat), k + d = K → d < f → wX_scanNumber_4 post (nI p) xfw xlp xdy xrl xhz xhc (nI n) xos xpd xtc xcu xbk xrt xdc xho xtx xou xnm xtk xtv xki xst xdn xsn xdf xdt xsf xse xds xtd xtm f (oh_nv ch p k) (nI (p + k))
  | 0, k, 0, _, hf => absurd hf (by omega)
  | 0, k, f + 1, hd, _ => by
    have e : k = K := by omega
    subst e
    have hn := hT.1
    have hr := oh_run_le ch 2 (n - p) p
    rw [wX_scanNumber_4]
    refine pk_le n (p + k) (fun _ => h) (fun a => ⟨vp_in_nI (by omega) (by omega), ?_⟩)
    have ex : xtx (nI (p + k)).toNatClampNeg = nI (ch (p + k)) := by rw [nI_clamp (by omega), hx]
    have := hT.2.1 (p + k)
    refine xz_isD _ ex (by omega) ?_
    have nl : ¬ oh_cc (ch (p + k)) = 2 := fun q => by
      have := oh_run_s (n := n) a q
      have hr2 := oh_run_le ch 2 (n - (p + k + 1)) (p + k + 1)
      have key : ∀ j, j ≤ k → oh_run ch 2 (n - p) p = oh_run ch 2 (n - (p + j)) (p + j) := by
        intro j
        induction j with
        | zero => intro _; rfl
        | succ j ih =>
          intro hj
          rw [ih (by omega)]
          exact oh_run_s (by omega) (oh_run_in (d := n - p) (p := p) (by omega) (by omega))
      have := key k (by omega)
      omega
    rw [if_neg nl]
    exact br_t rfl h
  | d + 1, k, 0, _, hf => absurd hf (by omega)
  | d + 1, k, f + 1, hd, hf => by
    have hn := hT.1
    have hr := oh_run_le ch 2 (n - p) p
    have il : oh_cc (ch (p + k)) = 2 := oh_run_in (d := n - p) (p := p) (by omega) (by omega)
    rw [wX_scanNumber_4]
    refine pk_le n (p + k) (fun a => absurd a (by omega)) (fun a => ⟨vp_in_nI (by omega) (by omega), ?_⟩)
    have ex : xtx (nI (p + k)).toNatClampNeg = nI (ch (p + k)) := by rw [nI_clamp (by omega), hx]
    have := hT.2.1 (p + k)
    refine xz_isD _ ex (by omega) ?_
    rw [if_pos il]
    refine br_f (by decide) ⟨vp_in_nI (by omega) (by omega), ?_⟩
    have ih := xz_sn hT hx hK hp h d (k + 1) f (by omega) (by omega)
    rw [ex]
    exact nm_r rfl (nm_r (nI_1 _) ih)
theorem xz_num {post : Int32 → SX → Prop} {ch : Nat → Nat} {n p m : Nat} (hT : oh_T ch n) (hx : ∀ j, xtx j = nI (ch j)) (hp : p < n) (hm : m ≤ 128) (hc : oh_cc (ch p) = 2)
    (h0 : oh_tc ch p (oh_te ch n p - p) = 2000 → post (-1) (xfw, xlp, xdy, xrl, xhz, xhc, nI n, xos, xpd, nI m, xcu, xbk, xrt, xdc, xho, xtx, xou, xnm, xtk, xtv, xki, xst, xdn, xsn, xdf, xdt, xsf, xse, xds, xtd, xtm)) (h1 : ¬ oh_tc ch p (oh_te ch n p - p) = 2000 → post (nI (oh_te ch n p)) (xfw, xlp, xdy, xrl, xhz, xhc, nI n, xos, xpd, nI (m + 1), xcu, xbk, xrt, xdc, xho, xtx, xou, xnm, upd xtk m (nI (oh_kd (oh_tc ch p (oh_te ch n p - p)))), upd xtv m (nI (oh_vl (oh_tc ch p (oh_te ch n p - p)))), xki, xst, xdn, xsn, xdf, xdt, xsf, xse, xds, xtd, xtm)) : wpX_scanNumber post (xfw, xlp, xdy, xrl, xhz, xhc, nI n, xos, xpd, nI m, xcu, xbk, xrt, xdc, xho, xtx, xou, xnm, xtk, xtv, xki, xst, xdn, xsn, xdf, xdt, xsf, xse, xds, xtd, xtm) (nI p) := by
  have ht : oh_te ch n p = oh_run ch 2 (n - p) p := by unfold oh_te; rw [if_neg (by omega), if_pos hc]
  have hte := oh_te_in (ch := ch) hp
  obtain ⟨K, hK⟩ : ∃ K, oh_te ch n p = p + K := ⟨oh_te ch n p - p, by omega⟩
  have hK' : oh_run ch 2 (n - p) p = p + K := by rw [← ht, hK]
  rw [hK, show p + K - p = K by omega] at h0 h1
  have c2 := oh_cc2 hc
  have hn := hT.1
  unfold wpX_scanNumber
  refine ⟨K + 1, ?_⟩
  refine xz_sn hT hx hK' hp ?_ K 0 (K + 1) (by omega) (by omega)
  unfold wX_scanNumber_46
  refine pk_le (p + K) (p + 2) (fun a => xz_add hm ?_) (fun a => h0 ?_) (hy := nI_add p 2)
  · rcases (show K = 1 ∨ K = 2 by omega) with z | z
    · subst z
      have e : oh_tc ch p 1 = 1000 + (ch p - 48) := by unfold oh_tc; rw [if_pos hc, if_pos rfl]
      rw [e] at h1
      have k1 : oh_kd (1000 + (ch p - 48)) = 78 := by unfold oh_kd; rw [if_pos (by omega)]
      have v1 : oh_vl (1000 + (ch p - 48)) = ch p - 48 := by unfold oh_vl; rw [if_pos (by omega)]; omega
      rw [k1, v1] at h1
      rw [oh_nv1 c2]
      exact h1 (by omega)
    · subst z
      have d2 : oh_cc (ch (p + 1)) = 2 := oh_run_in (d := n - p) (p := p) (by omega) (by omega)
      have c3 := oh_cc2 d2
      have e : oh_tc ch p 2 = 1000 + (10 * (ch p - 48) + (ch (p + 1) - 48)) := by unfold oh_tc; rw [if_pos hc, if_neg (by omega), if_pos rfl]
      rw [e] at h1
      have k1 : oh_kd (1000 + (10 * (ch p - 48) + (ch (p + 1) - 48))) = 78 := by unfold oh_kd; rw [if_pos (by omega)]
      have v1 : oh_vl (1000 + (10 * (ch p - 48) + (ch (p + 1) - 48))) = 10 * (ch p - 48) + (ch (p + 1) - 48) := by unfold oh_vl; rw [if_pos (by omega)]; omega
      rw [k1, v1] at h1
      rw [oh_nv2 c2 c3]
      exact h1 (by omega)
  · unfold oh_tc
    rw [if_pos hc, if_neg (by omega), if_neg (by omega)]
/-! signs -/
theorem xz_155 {post : Int32 → SX → Prop} {p c v b m : Nat} (hm : m ≤ 128) (hb : b ≤ 1) (h : post (nI (p + 1 + b)) (xfw, xlp, xdy, xrl, xhz, xhc, xts, xos, xpd, nI (m + 1), xcu, xbk, xrt, xdc, xho, xtx, xou, xnm, upd xtk m (nI c), upd xtv m (nI v), xki, xst, xdn, xsn, xdf, xdt, xsf, xse, xds, xtd, xtm)) : wX_scanToken_155 post (nI p) (nI b) (nI v) (nI c) xfw xlp xdy xrl xhz xhc xts xos xpd (nI m) xcu xbk xrt xdc xho xtx xou xnm xtk xtv xki xst xdn xsn xdf xdt xsf xse xds xtd xtm := by
  unfold wX_scanToken_155
  refine xz_add hm ?_
  refine pk_eq b 0 (fun a => ?_) (fun a => ?_)
  · subst a
    rw [nI_1]; exact h
  · have : b = 1 := by omega
    subst this
    rw [show nI p + 2 = nI (p + 2) from nI_add p 2]; exact h
theorem xz_121 {post : Int32 → SX → Prop} {p c m : Nat} (hm : m ≤ 128) (hc : c < 1000) (h : post (nI (p + 1)) (xfw, xlp, xdy, xrl, xhz, xhc, xts, xos, xpd, nI (m + 1), xcu, xbk, xrt, xdc, xho, xtx, xou, xnm, upd xtk m (nI c), upd xtv m (nI (if c = 44 then 1 else 0)), xki, xst, xdn, xsn, xdf, xdt, xsf, xse, xds, xtd, xtm)) : wX_scanToken_116 post (nI p) (nI c) 0 xfw xlp xdy xrl xhz xhc xts xos xpd (nI m) xcu xbk xrt xdc xho xtx xou xnm xtk xtv xki xst xdn xsn xdf xdt xsf xse xds xtd xtm := by
  unfold wX_scanToken_116 wX_scanToken_121 wX_scanToken_134
  refine br_t rfl (br_f (by decide) (br_t rfl ?_))
  refine pk_eq c 44 (fun a => ?_) (fun a => ?_)
  · rw [if_pos a] at h
    exact xz_155 (b := 0) (v := 1) hm (by omega) h
  · rw [if_neg a] at h
    exact xz_155 (b := 0) (v := 0) hm (by omega) h
theorem xz_78 {post : Int32 → SX → Prop} {p c m : Nat} (hm : m ≤ 128) (hc : c < 1000) (h1 : (c = 45 ∨ c = 44 ∨ c = 58 ∨ c = 59 ∨ c = 91 ∨ c = 93) → post (nI (p + 1)) (xfw, xlp, xdy, xrl, xhz, xhc, xts, xos, xpd, nI (m + 1), xcu, xbk, xrt, xdc, xho, xtx, xou, xnm, upd xtk m (nI c), upd xtv m (nI (if c = 44 then 1 else 0)), xki, xst, xdn, xsn, xdf, xdt, xsf, xse, xds, xtd, xtm)) (h0 : ¬ (c = 45 ∨ c = 44 ∨ c = 58 ∨ c = 59 ∨ c = 91 ∨ c = 93) → post (-1) (xfw, xlp, xdy, xrl, xhz, xhc, xts, xos, xpd, nI m, xcu, xbk, xrt, xdc, xho, xtx, xou, xnm, xtk, xtv, xki, xst, xdn, xsn, xdf, xdt, xsf, xse, xds, xtd, xtm)) : wX_scanToken_78 post (nI p) (nI c) xfw xlp xdy xrl xhz xhc xts xos xpd (nI m) xcu xbk xrt xdc xho xtx xou xnm xtk xtv xki xst xdn xsn xdf xdt xsf xse xds xtd xtm := by
  unfold wX_scanToken_78 wX_scanToken_79
  refine pk_eq c 45 (fun a => xz_121 hm hc (h1 (by omega))) (fun a1 => pk_eq c 44 (fun a => xz_121 hm hc (h1 (by omega))) (fun a2 => pk_eq c 58 (fun a => xz_121 hm hc (h1 (by omega))) (fun a3 => pk_eq c 59 (fun a => xz_121 hm hc (h1 (by omega))) (fun a4 => pk_eq c 91 (fun a => xz_121 hm hc (h1 (by omega))) (fun a5 => pk_eq c 93 (fun a => xz_121 hm hc (h1 (by omega))) (fun a6 => ?_))))))
  unfold wX_scanToken_121
  exact br_t rfl (br_t rfl (h0 (by omega)))
theorem xz_79b {post : Int32 → SX → Prop} {p m : Nat} (hm : m ≤ 128) (h : post (nI (p + 2)) (xfw, xlp, xdy, xrl, xhz, xhc, xts, xos, xpd, nI (m + 1), xcu, xbk, xrt, xdc, xho, xtx, xou, xnm, upd xtk m (nI 124), upd xtv m (nI 2), xki, xst, xdn, xsn, xdf, xdt, xsf, xse, xds, xtd, xtm)) : wX_scanToken_79 post (nI p) (nI 124) 1 xfw xlp xdy xrl xhz xhc xts xos xpd (nI m) xcu xbk xrt xdc xho xtx xou xnm xtk xtv xki xst xdn xsn xdf xdt xsf xse xds xtd xtm := by
  unfold wX_scanToken_79 wX_scanToken_121 wX_scanToken_134
  refine br_f (by decide) (br_f (by decide) (br_f (by decide) (br_f (by decide) (br_f (by decide) (br_f (by decide) (br_f (by decide) (br_f (by decide) ?_)))))))
  exact xz_155 (b := 1) (v := 2) hm (by omega) h
theorem oh_tc_b {ch : Nat → Nat} {n p : Nat} (hc : ch p = 124) (h1 : p + 1 < n) (h2 : ch (p + 1) = 124) : oh_te ch n p = p + 2 ∧ oh_tc ch p (oh_te ch n p - p) = 124 := by
  have c3 : oh_cc (ch p) = 3 := by rw [hc]; decide
  have e : oh_te ch n p = p + 2 := by unfold oh_te; rw [if_neg (by omega), if_neg (by omega), if_pos ⟨hc, h1, h2⟩]
  refine ⟨e, ?_⟩
  rw [e, show p + 2 - p = 2 by omega]
  unfold oh_tc
  rw [if_neg (by omega), if_neg (fun z => by have := oh_wi_len z; omega), if_pos (by omega), hc]
theorem oh_tc_s {ch : Nat → Nat} {n p : Nat} (h1 : ¬ oh_cc (ch p) = 1) (h2 : ¬ oh_cc (ch p) = 2) (hb : ¬ (ch p = 124 ∧ p + 1 < n ∧ ch (p + 1) = 124)) : oh_te ch n p = p + 1 ∧ oh_tc ch p (oh_te ch n p - p) = if (ch p = 45 ∨ ch p = 44 ∨ ch p = 58 ∨ ch p = 59 ∨ ch p = 91 ∨ ch p = 93) then ch p else 2000 := by
  have e : oh_te ch n p = p + 1 := by unfold oh_te; rw [if_neg h1, if_neg h2, if_neg hb]
  refine ⟨e, ?_⟩
  rw [e, show p + 1 - p = 1 by omega]
  unfold oh_tc
  rw [if_neg h2, if_neg (fun z => by have := oh_wi_len z; omega)]
  by_cases z : (ch p = 45 ∨ ch p = 44 ∨ ch p = 58 ∨ ch p = 59 ∨ ch p = 91 ∨ ch p = 93)
  · rw [if_pos (Or.inl z), if_pos z]
  · rw [if_neg (fun q => q.elim z (fun r => absurd r.2 (by decide))), if_neg z]
theorem oh_kd_sg {c : Nat} (h : (c = 45 ∨ c = 44 ∨ c = 58 ∨ c = 59 ∨ c = 91 ∨ c = 93) ∨ c = 124) : oh_kd c = c ∧ oh_vl c = if c = 44 then 1 else if c = 124 then 2 else 0 := by
  rcases h with (h | h | h | h | h | h) | h <;> subst h <;> decide
theorem xz_tok {post : Int32 → SX → Prop} {ch : Nat → Nat} {n p m : Nat} (hT : oh_T ch n) (hx : ∀ j, xtx j = nI (ch j)) (hn : ∀ i, i < 24 → xnm i = lN (oh_le (oh_NS.getD i []))) (hp : p < n) (hm : m ≤ 128)
    (hb : ch p = 32 → post (nI (p + 1)) (xfw, xlp, xdy, xrl, xhz, xhc, nI n, xos, xpd, nI m, xcu, xbk, xrt, xdc, xho, xtx, xou, xnm, xtk, xtv, xki, xst, xdn, xsn, xdf, xdt, xsf, xse, xds, xtd, xtm))
    (h0 : ¬ ch p = 32 → oh_tc ch p (oh_te ch n p - p) = 2000 → post (-1) (xfw, xlp, xdy, xrl, xhz, xhc, nI n, xos, xpd, nI m, xcu, xbk, xrt, xdc, xho, xtx, xou, xnm, xtk, xtv, xki, xst, xdn, xsn, xdf, xdt, xsf, xse, xds, xtd, xtm))
    (h1 : ¬ ch p = 32 → ¬ oh_tc ch p (oh_te ch n p - p) = 2000 → post (nI (oh_te ch n p)) (xfw, xlp, xdy, xrl, xhz, xhc, nI n, xos, xpd, nI (m + 1), xcu, xbk, xrt, xdc, xho, xtx, xou, xnm, upd xtk m (nI (oh_kd (oh_tc ch p (oh_te ch n p - p)))), upd xtv m (nI (oh_vl (oh_tc ch p (oh_te ch n p - p)))), xki, xst, xdn, xsn, xdf, xdt, xsf, xse, xds, xtd, xtm)) : wpX_scanToken post (xfw, xlp, xdy, xrl, xhz, xhc, nI n, xos, xpd, nI m, xcu, xbk, xrt, xdc, xho, xtx, xou, xnm, xtk, xtv, xki, xst, xdn, xsn, xdf, xdt, xsf, xse, xds, xtd, xtm) (nI p) := by
  have hn1 := hT.1
  have hc := hT.2.1 p
  have ex : xtx (nI p).toNatClampNeg = nI (ch p) := by rw [nI_clamp (by omega), hx]
  unfold wpX_scanToken
  dsimp only
  refine ⟨vp_in_nI (by omega) (by omega), nm_r ex ?_⟩
  refine pk_eq (ch p) 32 (fun a => ?_) (fun a => ?_)
  · rw [nI_1]; exact hb a
  · refine xz_isL _ rfl (by omega) ?_
    by_cases c1 : oh_cc (ch p) = 1
    · rw [if_pos c1]
      exact br_f (by decide) (xz_word hT hx hn hp hm c1 (h0 a) (h1 a))
    · rw [if_neg c1]
      refine br_t rfl (xz_isD _ rfl (by omega) ?_)
      by_cases c2 : oh_cc (ch p) = 2
      · rw [if_pos c2]
        exact br_f (by decide) (xz_num hT hx hp hm c2 (h0 a) (h1 a))
      · rw [if_neg c2]
        refine br_t rfl ?_
        have h78 : ¬ (ch p = 124 ∧ p + 1 < n ∧ ch (p + 1) = 124) → wX_scanToken_78 post (nI p) (nI (ch p)) xfw xlp xdy xrl xhz xhc (nI n) xos xpd (nI m) xcu xbk xrt xdc xho xtx xou xnm xtk xtv xki xst xdn xsn xdf xdt xsf xse xds xtd xtm := fun nb => by
          have e := oh_tc_s (n := n) c1 c2 nb
          have k0 := h0 a
          have k1 := h1 a
          rw [e.2] at k0 k1
          rw [e.1] at k1
          refine xz_78 hm (by omega) (fun z => ?_) (fun z => ?_)
          · rw [if_pos z, (oh_kd_sg (Or.inl z)).1, (oh_kd_sg (Or.inl z)).2, if_neg (show ¬ ch p = 124 by omega)] at k1
            exact k1 (by omega)
          · rw [if_neg z] at k0
            exact k0 rfl
        refine pk_eq (ch p) 124 (fun b => ?_) (fun b => h78 (fun z => b z.1))
        refine pk_le n (p + 1) (fun d => h78 (fun z => absurd z.2.1 (by omega))) (fun d => ?_) (hy := nI_1 p)
        have ex1 : xtx (nI p + 1).toNatClampNeg = nI (ch (p + 1)) := by rw [nI_1, nI_clamp (by omega), hx]
        have hc1 := hT.2.1 (p + 1)
        refine ⟨by rw [nI_1]; exact vp_in_nI (by omega) (by omega), ?_⟩
        rw [ex1]
        refine pk_eq (ch (p + 1)) 124 (fun g => ?_) (fun g => h78 (fun z => g z.2.2))
        have e := oh_tc_b b d g
        have k1 := h1 a
        rw [e.2, e.1] at k1
        rw [b]
        exact xz_79b hm (k1 (by decide))
/-! the tokens -/
theorem xz_tl0 {post : Int32 → SX → Prop} {n : Nat} (hn : n ≤ 128) (h : post 0 (xfw, xlp, xdy, xrl, xhz, xhc, nI n, xos, xpd, xtc, xcu, xbk, xrt, xdc, xho, xtx, xou, xnm, xtk, xtv, xki, xst, xdn, xsn, xdf, xdt, xsf, xse, xds, xtd, xtm)) : ∀ (d i f : Nat), i + d = n → d < f → wX_tokenize_21 post f (-1) (nI i) xfw xlp xdy xrl xhz xhc (nI n) xos xpd xtc xcu xbk xrt xdc xho xtx xou xnm xtk xtv xki xst xdn xsn xdf xdt xsf xse xds xtd xtm
  | 0, i, 0, _, hf => absurd hf (by omega)
  | 0, i, f + 1, hd, _ => by
    rw [wX_tokenize_21]
    have : ¬ (-1 : Int32) = nI n := fun q => by
      have := congrArg Int32.toInt q
      rw [nI_toInt (by omega)] at this
      have e : (-1 : Int32).toInt = -1 := by decide
      rw [e] at this
      omega
    exact pk_le n i (fun _ => br_f this h) (fun a => absurd a (by omega))
  | d + 1, i, 0, _, hf => absurd hf (by omega)
  | d + 1, i, f + 1, hd, hf => by
    rw [wX_tokenize_21]
    have : ¬ nI i = (-1 : Int32) := fun q => by
      have := congrArg Int32.toInt q
      rw [nI_toInt (by omega)] at this
      have e : (-1 : Int32).toInt = -1 := by decide
      rw [e] at this
      omega
    exact pk_le n i (fun a => absurd a (by omega)) (fun _ => br_f this (nm_r (nI_1 i) (xz_tl0 hn h d (i + 1) f (by omega) (by omega))))
def oh_TI (ts : List Nat) (xtk xtv : Nat → Int32) : Prop := xtk 0 = 59 ∧ xtv 0 = 0 ∧ ∀ j, j < ts.length → xtk (j + 1) = nI (oh_kd (ts.getD j 0)) ∧ xtv (j + 1) = nI (oh_vl (ts.getD j 0))
theorem oh_TI_s {ts : List Nat} {c : Nat} {xtk xtv : Nat → Int32} (h : oh_TI ts xtk xtv) : oh_TI (ts ++ [c]) (upd xtk (ts.length + 1) (nI (oh_kd c))) (upd xtv (ts.length + 1) (nI (oh_vl c))) := by
  refine ⟨by rw [pk_un (by omega)]; exact h.1, by rw [pk_un (by omega)]; exact h.2.1, fun j hj => ?_⟩
  rw [List.length_append, List.length_singleton] at hj
  rcases Nat.lt_or_ge j ts.length with z | z
  · rw [pk_un (by omega), pk_un (by omega)]
    have := h.2.2 j z
    rw [oh_gA z]
    exact this
  · have : j = ts.length := by omega
    subst this
    rw [pk_us, pk_us]
    simp
theorem xz_tl {post : Int32 → SX → Prop} {ch : Nat → Nat} {n : Nat} (hT : oh_T ch n) (hx : ∀ j, xtx j = nI (ch j)) (hn : ∀ i, i < 24 → xnm i = lN (oh_le (oh_NS.getD i [])))
    (h1 : ∀ (ts : List Nat) (xtk xtv : Nat → Int32), oh_tz ch n 0 = ts → ts.length ≤ n → (∀ c, c ∈ ts → ¬ c = 2000) → oh_TI ts xtk xtv → post 1 (xfw, xlp, xdy, xrl, xhz, xhc, nI n, xos, xpd, nI (ts.length + 1), xcu, xbk, xrt, xdc, xho, xtx, xou, xnm, xtk, xtv, xki, xst, xdn, xsn, xdf, xdt, xsf, xse, xds, xtd, xtm))
    (h0 : ∀ (ts : List Nat) (tc : Int32) (xtk xtv : Nat → Int32), oh_tz ch n 0 = ts ++ [2000] → (∀ c, c ∈ ts → ¬ c = 2000) → post 0 (xfw, xlp, xdy, xrl, xhz, xhc, nI n, xos, xpd, tc, xcu, xbk, xrt, xdc, xho, xtx, xou, xnm, xtk, xtv, xki, xst, xdn, xsn, xdf, xdt, xsf, xse, xds, xtd, xtm)) : ∀ (d i f q : Nat) (ts : List Nat) (xtk xtv : Nat → Int32), i + d = n → d < f → i ≤ q → q ≤ n → oh_tz ch n 0 = ts ++ oh_tz ch n q → ts.length ≤ q → (∀ c, c ∈ ts → ¬ c = 2000) → oh_TI ts xtk xtv → wX_tokenize_21 post f (nI q) (nI i) xfw xlp xdy xrl xhz xhc (nI n) xos xpd (nI (ts.length + 1)) xcu xbk xrt xdc xho xtx xou xnm xtk xtv xki xst xdn xsn xdf xdt xsf xse xds xtd xtm
  | 0, i, 0, _, _, _, _, _, hf, _, _, _, _, _, _ => absurd hf (by omega)
  | 0, i, f + 1, q, ts, xtk, xtv, hd, _, hi, hq, hz, hl, hg, hI => by
    have hn1 := hT.1
    have e : q = n := by omega
    subst e
    rw [oh_tz_e (Nat.le_refl _), List.append_nil] at hz
    rw [wX_tokenize_21]
    exact pk_le q i (fun _ => br_t rfl (h1 ts xtk xtv hz hl hg hI)) (fun a => absurd a (by omega))
  | d + 1, i, 0, _, _, _, _, _, hf, _, _, _, _, _, _ => absurd hf (by omega)
  | d + 1, i, f + 1, q, ts, xtk, xtv, hd, hf, hi, hq, hz, hl, hg, hI => by
    have hn1 := hT.1
    rw [wX_tokenize_21]
    refine pk_le n i (fun a => absurd a (by omega)) (fun _ => ?_)
    refine pk_eq i q (fun e => ?_) (fun e => ?_)
    · subst e
      refine xz_tok hT hx hn (by omega) (by omega) (fun z => ?_) (fun z y => ?_) (fun z y => ?_)
      · refine nm_r (nI_1 i) ?_
        refine xz_tl hT hx hn h1 h0 d (i + 1) f (i + 1) ts xtk xtv (by omega) (by omega) (by omega) (by omega) ?_ (by omega) hg hI
        rw [hz, oh_tz_b (by omega) z]
      · refine nm_r (nI_1 i) ?_
        refine xz_tl0 hn1 ?_ d (i + 1) f (by omega) (by omega)
        refine h0 ts _ xtk xtv ?_ hg
        rw [hz, oh_tz_x (by omega) z y]
      · refine nm_r (nI_1 i) ?_
        have hte := oh_te_in (ch := ch) (n := n) (p := i) (by omega)
        have := xz_tl hT hx hn h1 h0 d (i + 1) f (oh_te ch n i) (ts ++ [oh_tc ch i (oh_te ch n i - i)]) _ _ (by omega) (by omega) (by omega) (by omega) (by rw [hz, oh_tz_c (by omega) z y, List.append_assoc]; rfl) (by rw [List.length_append, List.length_singleton]; omega) (fun c hc => (List.mem_append.mp hc).elim (hg c) (fun r => by rw [List.mem_singleton.mp r]; exact y)) (oh_TI_s hI)
        rw [List.length_append, List.length_singleton] at this
        exact this
    · refine nm_r (nI_1 i) ?_
      exact xz_tl hT hx hn h1 h0 d (i + 1) f q ts xtk xtv (by omega) (by omega) (by omega) hq hz hl hg hI
theorem xz_tokenize {post : Int32 → SX → Prop} {ch : Nat → Nat} {n : Nat} (hT : oh_T ch n) (hx : ∀ j, xtx j = nI (ch j)) (hn : ∀ i, i < 24 → xnm i = lN (oh_le (oh_NS.getD i [])))
    (h1 : ∀ (xtk xtv : Nat → Int32), (∀ c, c ∈ oh_tz ch n 0 → ¬ c = 2000) → oh_TX (oh_tk (oh_tz ch n 0)) (oh_tz ch n 0).length xtk xtv → xtk 0 = 59 → xtv 0 = 0 → post 1 (xfw, xlp, xdy, xrl, xhz, xhc, nI n, xos, xpd, nI ((oh_tz ch n 0).length + 1), 0, xbk, xrt, xdc, xho, xtx, xou, xnm, xtk, xtv, xki, xst, xdn, xsn, xdf, xdt, xsf, xse, xds, xtd, xtm))
    (h0 : ∀ (tc : Int32) (xtk xtv : Nat → Int32), (∀ k, ¬ oh_tk (oh_tz ch n 0) k = 0) → post 0 (xfw, xlp, xdy, xrl, xhz, xhc, nI n, xos, xpd, tc, 0, xbk, xrt, xdc, xho, xtx, xou, xnm, xtk, xtv, xki, xst, xdn, xsn, xdf, xdt, xsf, xse, xds, xtd, xtm)) : wpX_tokenize post (xfw, xlp, xdy, xrl, xhz, xhc, nI n, xos, xpd, xtc, xcu, xbk, xrt, xdc, xho, xtx, xou, xnm, xtk, xtv, xki, xst, xdn, xsn, xdf, xdt, xsf, xse, xds, xtd, xtm) := by
  have hn1 := hT.1
  have hall := oh_tz_all ch n n 0 (by omega)
  unfold wpX_tokenize
  dsimp only
  refine xz_add (m := 0) (by omega) ?_
  refine ⟨n + 1, ?_⟩
  refine xz_tl hT hx hn (fun ts xtk xtv e hl hg hI => ?_) (fun ts tc xtk xtv e hg => ?_) n 0 (n + 1) 0 [] (upd xtk 0 59) (upd xtv 0 0) (by omega) (by omega) (by omega) (by omega) rfl (by simp) (fun c hc => absurd hc List.not_mem_nil) ⟨pk_us, pk_us, fun j hj => absurd hj (Nat.not_lt_zero _)⟩
  · subst e
    refine h1 xtk xtv hg ⟨by omega, fun k hk => ?_, fun k hk => ?_⟩ hI.1 hI.2.1
    · rw [oh_tk_good hg, oh_gN hk]
    · rw [oh_tk_good hg]
      have hm : (oh_tz ch n 0).getD k 0 ∈ oh_tz ch n 0 := oh_gM hk
      exact ⟨⟨(hall.1 _ hm).2, (hall.1 _ hm).1, hg _ hm⟩, hI.2.2 k hk⟩
  · refine h0 tc xtk xtv ?_
    rw [e]
    rw [e] at hall
    have key : ∀ (l : List Nat), (∀ c, c ∈ l → ¬ c = 0) → ∀ k, ¬ oh_tk (l ++ [2000]) k = 0 := by
      intro l
      induction l with
      | nil =>
        intro _ k
        cases k with
        | zero => simp [oh_tk]
        | succ k => simp [oh_tk]
      | cons c t ih =>
        intro h k
        cases k with
        | zero => exact h c List.mem_cons_self
        | succ k =>
          rw [List.cons_append, oh_tk]
          split
          · decide
          · exact ih (fun d hd => h d (List.mem_cons_of_mem _ hd)) k
    exact key ts (fun c hc => by have := (hall.1 c (List.mem_append.mpr (Or.inl hc))).2; omega)
end
end
section
/-! ===== Y: tokens found from the start ===== -/
def oh_ci (c : Nat) : Int32 := if c = 2000 then -1 else nI c
theorem oh_ci_n {c : Nat} (h : ¬ c = 2000) : oh_ci c = nI c := if_neg h
theorem oh_m1_lt : (-1 : Int32) < 0 := by decide
section
variable {yfw ylp yrl yhd yts yos ylt yfc yru yps yrd ykp : Int32} {ytx you yfa yho : Nat → Int32} {ynm : Nat → Int64}
theorem yz_cc {post : Int32 → Prop} {x : Int32} (c : Nat) (hx : x = nI c) (hc : c < 1000) (h : post (nI (oh_cc c))) : wpY_charClass post (yfw, ylp, yrl, yhd, yts, yos, ylt, yfc, yru, yps, yrd, ykp, ytx, you, yfa, ynm, yho) x := by
  subst hx
  have e1 := @oh_cc1 c
  have e2 := @oh_cc2i c
  have e3 := @oh_cc3 c
  have e4 := oh_cc_lt c
  unfold wpY_charClass
  dsimp only
  have h44 : ¬ oh_cc c = 1 → ¬ oh_cc c = 2 → wY_charClass_44 post (nI c) yfw ylp yrl yhd yts yos ylt yfc yru yps yrd ykp ytx you yfa ynm yho := fun a b => by
    unfold wY_charClass_44
    refine pk_eq c 124 (fun d => ?_) (fun d => ?_)
    · rw [show oh_cc c = 3 by omega] at h; exact h
    · rw [show oh_cc c = 0 by omega] at h; exact h
  have h28 : ¬ (65 ≤ c ∧ c ≤ 90) → ¬ oh_cc c = 2 → wY_charClass_28 post (nI c) yfw ylp yrl yhd yts yos ylt yfc yru yps yrd ykp ytx you yfa ynm yho := fun a b => by
    unfold wY_charClass_28
    refine pk_lt c 97 (fun d => h44 (by omega) b) (fun d => pk_lt 122 c (fun g => h44 (by omega) b) (fun g => ?_))
    rw [show oh_cc c = 1 by omega] at h; exact h
  have h16 : ¬ oh_cc c = 2 → wY_charClass_16 post (nI c) yfw ylp yrl yhd yts yos ylt yfc yru yps yrd ykp ytx you yfa ynm yho := fun b => by
    unfold wY_charClass_16
    refine pk_lt c 65 (fun d => h28 (by omega) b) (fun d => pk_le c 90 (fun g => ?_) (fun g => h28 (by omega) b))
    rw [show oh_cc c = 1 by omega] at h; exact h
  refine pk_lt c 48 (fun d => h16 (by omega)) (fun d => pk_lt 57 c (fun g => h16 (by omega)) (fun g => ?_))
  rw [show oh_cc c = 2 by omega] at h; exact h
def oh_sv (c k : Nat) : Int32 := if c = 0 ∨ (c = 45 ∨ c = 44 ∨ c = 58 ∨ c = 59 ∨ c = 91 ∨ c = 93) ∨ (c = 124 ∧ k = 2) then nI c else -1
theorem yz_120 {post : Int32 → Prop} {w : Int64} {l : List Nat} {k c : Nat} (hk : k < 1000) (hc : c < 1000) (hl : l.length = k) (hw : k ≤ 7 → ∀ i, i < 24 → (ynm (i + 1) = w ↔ oh_NS.getD i [] = l)) : ∀ (d i f : Nat), i + d = 24 → d < f → (oh_fi l d i < 24 → post (nI (oh_fi l d i + 1))) → (oh_fi l d i = 24 → post (oh_sv c k)) → wY_tokenOf_120 post w (nI k) (nI c) yfw ylp yrl yhd yts yos ylt yfc yru yps yrd ykp ytx you yfa ynm yho f (nI (i + 1))
  | 0, i, 0, _, hf, _, _ => absurd hf (by omega)
  | 0, i, f + 1, hi, _, _, h0 => by
    rw [wY_tokenOf_120]
    have h := h0 (by rw [oh_fi]; omega)
    unfold oh_sv at h
    refine pk_lt 24 (i + 1) (fun _ => ?_) (fun a => absurd a (by omega))
    refine pk_eq c 0 (fun a => ?_) (fun a0 => pk_eq c 45 (fun a => ?_) (fun a1 => pk_eq c 44 (fun a => ?_) (fun a2 => pk_eq c 58 (fun a => ?_) (fun a3 => pk_eq c 59 (fun a => ?_) (fun a4 => pk_eq c 91 (fun a => ?_) (fun a5 => pk_eq c 93 (fun a => ?_) (fun a6 => pk_eq c 124 (fun a => pk_eq k 2 (fun b => ?_) (fun b => ?_)) (fun a7 => ?_))))))))
    all_goals first
      | (rw [if_neg (by omega)] at h; exact h)
      | (rw [if_pos (by omega)] at h; exact h)
  | d + 1, i, 0, _, hf, _, _ => absurd hf (by omega)
  | d + 1, i, f + 1, hi, hf, h1, h0 => by
    rw [wY_tokenOf_120]
    rw [oh_fi] at h1 h0
    refine pk_lt 24 (i + 1) (fun a => absurd a (by omega)) (fun _ => ?_)
    refine pk_lt 7 k (fun a => ?_) (fun a => ⟨vp_in_nI (by omega) (by omega), ?_⟩)
    · have z : ¬ oh_NS.getD i [] = l := fun q => by
        have := (oh_NSf i (by omega)).2.1
        rw [q] at this; omega
      rw [if_neg z] at h1 h0
      exact nm_r (nI_1 _) (yz_120 hk hc hl hw d (i + 1) f (by omega) (by omega) h1 h0)
    · rw [nI_clamp (by omega)]
      by_cases z : oh_NS.getD i [] = l
      · rw [if_pos z] at h1
        exact br_t ((hw a i (by omega)).mpr z) (h1 (by omega))
      · rw [if_neg z] at h1 h0
        exact br_f (fun q => z ((hw a i (by omega)).mp q)) (nm_r (nI_1 _) (yz_120 hk hc hl hw d (i + 1) f (by omega) (by omega) h1 h0))
/-- a token's value: its characters from p, k of them (none: the end) -/
theorem yz_27 {post : Int32 → Prop} {ch : Nat → Nat} {n p k c : Nat} (hT : oh_T ch n) (hx : ∀ j, ytx j = nI (ch j)) (hn : ∀ i, i < 24 → ynm (i + 1) = lN (oh_be (oh_NS.getD i []))) (hk : p + k ≤ n) (hc : (k = 0 ∧ c = 0) ∨ (0 < k ∧ c = ch p)) (hdg : oh_cc (ch p) = 2 → k = 2 → 48 ≤ ch (p + 1)) (h : post (if k = 0 then 0 else oh_ci (oh_tc ch p k))) : ∀ (d j f : Nat), j + d = k → d < f → wY_tokenOf_27 post (nI (p + k)) (nI k) (nI c) yfw ylp yrl yhd yts yos ylt yfc yru yps yrd ykp ytx you yfa ynm yho f (lN (oh_be (oh_seg ch p j))) (nI (p + j))
  | 0, j, 0, _, hf => absurd hf (by omega)
  | 0, j, f + 1, hd, _ => by
    have e : j = k := by omega
    subst e
    have hn1 := hT.1
    have hcl : c ≤ 126 := by have := hT.2.1 p; omega
    rw [wY_tokenOf_27]
    refine pk_le (p + j) (p + j) (fun _ => yz_cc c rfl (by omega) ?_) (fun a => absurd a (by omega))
    have c4 := oh_cc_lt c
    refine pk_eq (oh_cc c) 2 (fun a => ?_) (fun a => ?_)
    · have hk0 : 0 < j ∧ c = ch p := by
        rcases hc with z | z
        · rw [z.2] at a; exact absurd a (by decide)
        · exact z
      rw [hk0.2] at a
      have c2 := oh_cc2 a
      rw [if_neg (by omega)] at h
      unfold oh_tc at h
      rw [if_pos a] at h
      refine pk_le j 2 (fun b => pk_eq j 2 (fun g => ?_) (fun g => ?_)) (fun b => ?_)
      · subst g
        have e1 : nI (p + 2) - 1 = nI (p + 1) := pk_sub (a := p + 2) (b := 1) (by omega)
        rw [if_neg (by omega), if_pos rfl] at h
        rw [e1, nI_clamp (by omega), hx, hk0.2]
        refine ⟨vp_in_nI (by omega) (by omega), ?_⟩
        have c5 := hT.2.2 (p + 1) (by omega)
        have c6 := hT.2.1 (p + 1)
        have d1 := hdg a rfl
        have q1 : nI (ch p) - 48 = nI (ch p - 48) := pk_sub (a := ch p) (b := 48) c2.1
        have q2 : nI (ch p - 48) * 10 = nI ((ch p - 48) * 10) := pk_mul _ 10
        have q3 : (1000 : Int32) + nI ((ch p - 48) * 10) = nI (1000 + (ch p - 48) * 10) := nI_add 1000 _
        have q4 : nI (1000 + (ch p - 48) * 10 + ch (p + 1)) - 48 = nI (1000 + (ch p - 48) * 10 + ch (p + 1) - 48) := pk_sub (a := 1000 + (ch p - 48) * 10 + ch (p + 1)) (b := 48) (by omega)
        rw [q1, q2, q3, nI_add, q4]
        rw [oh_ci_n (by omega), show 1000 + (10 * (ch p - 48) + (ch (p + 1) - 48)) = 1000 + (ch p - 48) * 10 + ch (p + 1) - 48 by omega] at h
        exact h
      · have : j = 1 := by omega
        subst this
        rw [if_pos rfl, oh_ci_n (by omega)] at h
        have e1 : (1000 : Int32) + nI (ch p) - 48 = nI (1000 + (ch p - 48)) := by
          have := nI_add 1000 (ch p)
          have e2 := pk_sub (a := 1000 + ch p) (b := 48) (by omega)
          rw [show 1000 + ch p - 48 = 1000 + (ch p - 48) by omega, ← this] at e2
          exact e2
        rw [hk0.2]
        exact (congrArg post e1).mpr h
      · rw [if_neg (by omega), if_neg (by omega)] at h
        exact h
    · refine ⟨25, yz_120 (l := oh_seg ch p j) (by omega) (by omega) (oh_seg_len _ _ _) (fun b i hi => ?_) 24 0 25 rfl (by omega) (fun z => ?_) (fun z => ?_)⟩
      · rw [hn i hi]; exact oh_eqY hT hk b hi
      · have w := oh_wi_len (show oh_wi (oh_seg ch p j) < 24 from z)
        have hk0 : 0 < j ∧ c = ch p := by omega
        rw [if_neg (by omega)] at h
        unfold oh_tc at h
        rw [← hk0.2, if_neg a, if_pos (show oh_wi (oh_seg ch p j) < 24 from z), oh_ci_n (by unfold oh_wi; omega)] at h
        exact h
      · rcases hc with y | y
        · rw [if_pos y.1] at h
          unfold oh_sv
          rw [if_pos (Or.inl y.2), y.2]
          exact h
        · rw [if_neg (by omega)] at h
          unfold oh_tc at h
          rw [← y.2, if_neg a, if_neg (show ¬ oh_wi (oh_seg ch p j) < 24 by unfold oh_wi; omega)] at h
          have c32 := hT.2.2 p (by omega)
          unfold oh_sv
          by_cases s : (c = 45 ∨ c = 44 ∨ c = 58 ∨ c = 59 ∨ c = 91 ∨ c = 93) ∨ (c = 124 ∧ j = 2)
          · rw [if_pos s, oh_ci_n (by omega)] at h
            rw [if_pos (Or.inr s)]
            exact h
          · rw [if_neg s] at h
            rw [if_neg (by omega)]
            exact h
  | d + 1, j, 0, _, hf => absurd hf (by omega)
  | d + 1, j, f + 1, hd, hf => by
    have hn1 := hT.1
    rw [wY_tokenOf_27]
    refine pk_le (p + k) (p + j) (fun a => absurd a (by omega)) (fun a => ⟨vp_in_nI (by omega) (by omega), ?_⟩)
    have ih := yz_27 hT hx hn hk hc hdg h d (j + 1) f (by omega) (by omega)
    have hcj := hT.2.1 (p + j)
    rw [nI_clamp (by omega), hx, nI_l (by omega)]
    refine nm_r (e' := lN (oh_be (oh_seg ch p (j + 1)))) ?_ (nm_r (nI_1 _) ih)
    rw [oh_seg, oh_be_s]
    exact (congrArg (· + lN (ch (p + j))) (lN_mul _ 256)).trans (lN_add _ _)
theorem yz_of {post : Int32 → Prop} {ch : Nat → Nat} {n p k : Nat} (hT : oh_T ch n) (hx : ∀ j, ytx j = nI (ch j)) (hn : ∀ i, i < 24 → ynm (i + 1) = lN (oh_be (oh_NS.getD i []))) (hk : p + k ≤ n) (hdg : oh_cc (ch p) = 2 → k = 2 → 48 ≤ ch (p + 1)) (h : post (if k = 0 then 0 else oh_ci (oh_tc ch p k))) : wpY_tokenOf post (yfw, ylp, yrl, yhd, nI n, yos, ylt, yfc, yru, yps, yrd, ykp, ytx, you, yfa, ynm, yho) (nI p) (nI (p + k)) := by
  have hn1 := hT.1
  unfold wpY_tokenOf
  dsimp only
  refine nm_r (e' := nI k) (by rw [pk_sub (by omega), show p + k - p = k by omega]) ?_
  refine pk_le k 0 (fun a => ⟨k + 1, ?_⟩) (fun a => ⟨vp_in_nI (by omega) (by omega), nm_r (e' := nI (ch p)) (by rw [nI_clamp (by omega), hx]) ⟨k + 1, ?_⟩⟩)
  · exact yz_27 hT hx hn hk (c := 0) (Or.inl ⟨by omega, rfl⟩) hdg h k 0 (k + 1) (by omega) (by omega)
  · exact yz_27 hT hx hn hk (c := ch p) (Or.inr ⟨by omega, rfl⟩) hdg h k 0 (k + 1) (by omega) (by omega)
/-- the end of a token -/
theorem yz_run {post : Int32 → Prop} {J : Int32 → Int32 → Int32 → Prop} {x1 x4 : Int32} {ch : Nat → Nat} {n p k : Nat} (hT : oh_T ch n) (hx : ∀ j, ytx j = nI (ch j)) (hk : k = 1 ∨ k = 2) (hp : p < n) (hr : ∀ j : Nat, oh_cc (ch p) = k → wY_token_123 post J x1 (nI (oh_run ch k (n - p) p)) x4 (nI p) yfw ylp yrl yhd (nI n) yos ylt yfc yru yps yrd ykp ytx you yfa ynm yho) (hc : oh_cc (ch p) = k) : ∀ (d a f : Nat), a + d = n → d < f → p < a → oh_run ch k (n - p) p = oh_run ch k (n - a) a → wY_token_69 post J x1 x4 (nI p) (nI k) yfw ylp yrl yhd (nI n) yos ylt yfc yru yps yrd ykp ytx you yfa ynm yho f (nI a)
  | 0, a, 0, _, hf, _, _ => absurd hf (by omega)
  | 0, a, f + 1, hd, _, hpa, he => by
    have hn1 := hT.1
    have e : a = n := by omega
    subst e
    have := hr 0 hc
    rw [he, Nat.sub_self, oh_run] at this
    rw [wY_token_69]
    exact pk_le a a (fun _ => this) (fun z => absurd z (by omega))
  | d + 1, a, 0, _, hf, _, _ => absurd hf (by omega)
  | d + 1, a, f + 1, hd, hf, hpa, he => by
    have hn1 := hT.1
    have hca := hT.2.1 a
    rw [wY_token_69]
    refine pk_le n a (fun z => absurd z (by omega)) (fun z => pk_eq a p (fun y => absurd y (by omega)) (fun y => pk_le k 0 (fun w => absurd w (by omega)) (fun w => ⟨vp_in_nI (by omega) (by omega), ?_⟩)))
    refine yz_cc (ch a) (by rw [nI_clamp (by omega), hx]) (by omega) ?_
    have c4 := oh_cc_lt (ch a)
    refine pk_eq (oh_cc (ch a)) k (fun g => pk_lt k 3 (fun _ => nm_r (nI_1 _) ?_) (fun b => absurd b (by omega))) (fun g => ?_)
    · exact yz_run hT hx hk hp hr hc d (a + 1) f (by omega) (by omega) (by omega) (he.trans (oh_run_s (by omega) g))
    · have := hr 0 hc
      rw [he, oh_run_0 (fun _ => g)] at this
      exact this
theorem yz_69 {post : Int32 → Prop} {J : Int32 → Int32 → Int32 → Prop} {x1 x4 : Int32} {ch : Nat → Nat} {n p : Nat} (hT : oh_T ch n) (hx : ∀ j, ytx j = nI (ch j)) (hp : p < n) (h : wY_token_123 post J x1 (nI (oh_te ch n p)) x4 (nI p) yfw ylp yrl yhd (nI n) yos ylt yfc yru yps yrd ykp ytx you yfa ynm yho) : ∃ f, wY_token_69 post J x1 x4 (nI p) (nI (oh_cc (ch p))) yfw ylp yrl yhd (nI n) yos ylt yfc yru yps yrd ykp ytx you yfa ynm yho f (nI p) := by
  have hn1 := hT.1
  have c4 := oh_cc_lt (ch p)
  by_cases k12 : oh_cc (ch p) = 1 ∨ oh_cc (ch p) = 2
  · have ht : oh_te ch n p = oh_run ch (oh_cc (ch p)) (n - p) p := by
      unfold oh_te
      rcases k12 with z | z
      · rw [if_pos z, z]
      · rw [if_neg (by omega), if_pos z, z]
    refine ⟨n - p + 2, ?_⟩
    rw [wY_token_69]
    refine pk_le n p (fun z => absurd z (by omega)) (fun z => br_t rfl (nm_r (nI_1 _) ?_))
    refine yz_run hT hx k12 hp (fun _ _ => by rw [← ht]; exact h) rfl (n - (p + 1)) (p + 1) (n - p + 1) (by omega) (by omega) (by omega) (oh_run_s hp rfl)
  · by_cases hb : ch p = 124 ∧ p + 1 < n ∧ ch (p + 1) = 124
    · rw [(oh_tc_b hb.1 hb.2.1 hb.2.2).1] at h
      have c3 : oh_cc (ch p) = 3 := by rw [hb.1]; decide
      refine ⟨3, ?_⟩
      rw [c3, wY_token_69]
      refine pk_le n p (fun z => absurd z (by omega)) (fun z => br_t rfl (nm_r (nI_1 _) ?_))
      rw [wY_token_69]
      refine pk_le n (p + 1) (fun z => absurd z (by omega)) (fun z => pk_eq (p + 1) p (fun y => absurd y (by omega)) (fun y => pk_le 3 0 (fun w => absurd w (by omega)) (fun w => ⟨vp_in_nI (by omega) (by omega), ?_⟩)))
      refine yz_cc (ch (p + 1)) (by rw [nI_clamp (by omega), hx]) (by omega) ?_
      rw [hb.2.2]
      refine br_t rfl (br_f (by decide) (br_t (nI_1 p).symm (nm_r (nI_1 _) ?_)))
      rw [wY_token_69]
      refine pk_le n (p + 2) (fun z => h) (fun z => pk_eq (p + 2) p (fun y => absurd y (by omega)) (fun y => pk_le 3 0 (fun w => absurd w (by omega)) (fun w => ⟨vp_in_nI (by omega) (by omega), ?_⟩)))
      have hc2 := hT.2.1 (p + 2)
      refine yz_cc (ch (p + 2)) (by rw [nI_clamp (by omega), hx]) (by omega) ?_
      have c5 := oh_cc_lt (ch (p + 2))
      refine pk_eq (oh_cc (ch (p + 2))) 3 (fun g => br_f (by decide) (pk_eq (p + 2) (p + 1) (fun y => absurd y (by omega)) (fun _ => h) (hy := nI_1 p))) (fun g => h)
    · rw [(oh_tc_s (n := n) (fun z => k12 (Or.inl z)) (fun z => k12 (Or.inr z)) hb).1] at h
      refine ⟨2, ?_⟩
      rw [wY_token_69]
      refine pk_le n p (fun z => absurd z (by omega)) (fun z => br_t rfl (nm_r (nI_1 _) ?_))
      rw [wY_token_69]
      refine pk_le n (p + 1) (fun z => h) (fun z => pk_eq (p + 1) p (fun y => absurd y (by omega)) (fun y => pk_le (oh_cc (ch p)) 0 (fun w => h) (fun w => ⟨vp_in_nI (by omega) (by omega), ?_⟩)))
      have hc2 := hT.2.1 (p + 1)
      refine yz_cc (ch (p + 1)) (by rw [nI_clamp (by omega), hx]) (by omega) ?_
      have c5 := oh_cc_lt (ch (p + 1))
      have c3 := @oh_cc3 (ch p)
      have c6 := @oh_cc3 (ch (p + 1))
      exact pk_eq (oh_cc (ch (p + 1))) (oh_cc (ch p)) (fun g => absurd g (by omega)) (fun g => h)
theorem yz_17 {post : Int32 → Prop} {J : Int32 → Int32 → Int32 → Prop} {x1 x4 : Int32} {ch : Nat → Nat} {n : Nat} (hT : oh_T ch n) (hx : ∀ j, ytx j = nI (ch j)) : ∀ (d p f : Nat), p + d = n → d < f → (∀ p', p' ≤ n → (p' < n → ¬ ch p' = 32) → oh_tz ch n p = oh_tz ch n p' → wY_token_42 post J x1 (nI p') x4 yfw ylp yrl yhd (nI n) yos ylt yfc yru yps yrd ykp ytx you yfa ynm yho) → wY_token_17 post J x1 x4 yfw ylp yrl yhd (nI n) yos ylt yfc yru yps yrd ykp ytx you yfa ynm yho f (nI p)
  | 0, p, 0, _, hf, _ => absurd hf (by omega)
  | 0, p, f + 1, hd, _, h => by
    have hn1 := hT.1
    rw [wY_token_17]
    exact pk_le n p (fun _ => h p (by omega) (fun z => absurd z (by omega)) rfl) (fun z => absurd z (by omega))
  | d + 1, p, 0, _, hf, _ => absurd hf (by omega)
  | d + 1, p, f + 1, hd, hf, h => by
    have hn1 := hT.1
    have hc := hT.2.1 p
    rw [wY_token_17]
    refine pk_le n p (fun z => absurd z (by omega)) (fun z => ⟨vp_in_nI (by omega) (by omega), ?_⟩)
    rw [nI_clamp (by omega), hx]
    refine pk_eq (ch p) 32 (fun g => nm_r (nI_1 _) ?_) (fun g => h p (by omega) (fun _ => g) rfl)
    exact yz_17 hT hx d (p + 1) f (by omega) (by omega) (fun p' a b c => h p' a b (by rw [oh_tz_b z g]; exact c))
theorem yz_neg {post : Int32 → Prop} {k : Int32} {x2 x4 : Int32} {f : Nat} (hf : 0 < f) (h : post (-1)) : wY_token_7 post k yfw ylp yrl yhd yts yos ylt yfc yru yps yrd ykp ytx you yfa ynm yho f x2 (-1) x4 := by
  cases f with
  | zero => exact absurd hf (by omega)
  | succ f =>
    rw [wY_token_7]
    exact br_c (fun _ => h) (fun _ => br_t oh_m1_lt h)
theorem yz_7 {post : Int32 → Prop} {ch : Nat → Nat} {n k : Nat} (hT : oh_T ch n) (hx : ∀ j, ytx j = nI (ch j)) (hn : ∀ i, i < 24 → ynm (i + 1) = lN (oh_be (oh_NS.getD i []))) (hk : k < 1000) : ∀ (d j f p c : Nat), j + d = k + 1 → d < f → p ≤ n → c < 5000 → (0 < d → post (oh_ci (oh_tk (oh_tz ch n p) (k - j)))) → (d = 0 → post (nI c)) → wY_token_7 post (nI k) yfw ylp yrl yhd (nI n) yos ylt yfc yru yps yrd ykp ytx you yfa ynm yho f (nI p) (nI c) (nI j)
  | 0, j, 0, _, _, _, hf, _, _, _, _ => absurd hf (by omega)
  | 0, j, f + 1, p, c, hd, _, _, _, _, h0 => by
    rw [wY_token_7]
    exact pk_lt k j (fun _ => h0 rfl) (fun z => absurd z (by omega))
  | d + 1, j, 0, _, _, _, hf, _, _, _, _ => absurd hf (by omega)
  | d + 1, j, f + 1, p, c, hd, hf, hp, hc, h, _ => by
    have hn1 := hT.1
    have h := h (by omega)
    rw [wY_token_7]
    refine pk_lt k j (fun z => absurd z (by omega)) (fun _ => br_f (nI_pos (by omega)) ⟨n - p + 1, ?_⟩)
    refine yz_17 hT hx (n - p) p _ (by omega) (by omega) (fun p' hp' hs he => ?_)
    rw [he] at h
    unfold wY_token_42
    refine pk_le n p' (fun z => ⟨1, ?_⟩) (fun z => ⟨vp_in_nI (by omega) (by omega), ?_⟩)
    · have e : p' = n := by omega
      subst e
      rw [oh_tz_e (Nat.le_refl _), oh_tk] at h
      rw [wY_token_69]
      refine pk_le p' p' (fun _ => ?_) (fun z => absurd z (by omega))
      unfold wY_token_123
      refine yz_of (k := 0) hT hx hn (by omega) (fun _ z => absurd z (by omega)) ?_
      refine nm_r (nI_1 j) ?_
      refine yz_7 hT hx hn hk d (j + 1) f p' 0 (by omega) (by omega) (by omega) (by omega) (fun _ => ?_) (fun _ => h)
      rw [oh_tz_e (Nat.le_refl _), oh_tk]; exact h
    · have hcp := hT.2.1 p'
      have hte := oh_te_in (ch := ch) z
      refine yz_cc (ch p') (by rw [nI_clamp (by omega), hx]) (by omega) (yz_69 hT hx z ?_)
      unfold wY_token_123
      obtain ⟨K, hK⟩ : ∃ K, oh_te ch n p' = p' + K := ⟨oh_te ch n p' - p', by omega⟩
      have hv := oh_tc_v (ch := ch) z
      have hdg : oh_cc (ch p') = 2 → K = 2 → 48 ≤ ch (p' + 1) := fun g1 g2 => by
        have ht : oh_te ch n p' = oh_run ch 2 (n - p') p' := by unfold oh_te; rw [if_neg (by omega), if_pos g1]
        exact (oh_cc2 (oh_run_in (ch := ch) (k := 2) (d := n - p') (p := p') (j := p' + 1) (by omega) (by omega))).1
      by_cases c2 : oh_tc ch p' (oh_te ch n p' - p') = 2000
      · rw [oh_tz_x z (hs z) c2] at h
        rw [hK, show p' + K - p' = K by omega] at c2
        rw [hK]
        refine yz_of (k := K) hT hx hn (by omega) hdg ?_
        rw [if_neg (by omega), c2]
        refine nm_r (nI_1 j) (yz_neg (by omega) ?_)
        have : oh_tk [2000] (k - j) = 2000 := by
          cases k - j with
          | zero => rfl
          | succ i => rfl
        rw [this] at h
        exact h
      · rw [oh_tz_c z (hs z) c2] at h
        rw [hK, show p' + K - p' = K by omega] at c2 h hv
        rw [hK]
        refine yz_of (k := K) hT hx hn (by omega) hdg ?_
        rw [if_neg (by omega), oh_ci_n c2]
        have hv1 := hv.1
        unfold oh_vc at hv1
        refine nm_r (nI_1 j) (yz_7 hT hx hn hk d (j + 1) f (p' + K) (oh_tc ch p' K) (by omega) (by omega) (by omega) (by omega) (fun hd0 => ?_) (fun hd0 => ?_))
        · rw [show k - j = (k - (j + 1)) + 1 by omega, oh_tk, if_neg c2] at h
          exact h
        · rw [show k - j = 0 by omega, oh_tk, oh_ci_n c2] at h
          exact h
theorem yz_tok {post : Int32 → Prop} {ch : Nat → Nat} {n : Nat} {x : Int32} (hT : oh_T ch n) (hx : ∀ j, ytx j = nI (ch j)) (hn : ∀ i, i < 24 → ynm (i + 1) = lN (oh_be (oh_NS.getD i []))) (k : Nat) (hk : k < 1000) (ex : x = nI k) (h : post (oh_ci (oh_tk (oh_tz ch n 0) k))) : wpY_token post (yfw, ylp, yrl, yhd, nI n, yos, ylt, yfc, yru, yps, yrd, ykp, ytx, you, yfa, ynm, yho) x := by
  subst ex
  unfold wpY_token
  exact ⟨k + 2, yz_7 hT hx hn hk (k + 1) 0 (k + 2) 0 0 (by omega) (by omega) (by omega) (by omega) (fun _ => h) (fun z => absurd z (by omega))⟩
end
end
section
/-! ===== the rule relation: X's arrays at index i hold the facts S (kind to list of pairs) ===== -/
def oh_b (x : Int64) (j : Nat) : Bool := x.toBitVec.getLsbD j
theorem oh_b_or (x y : Int64) (j : Nat) : oh_b (x ||| y) j = (oh_b x j || oh_b y j) := by unfold oh_b; rw [Int64.toBitVec_or, BitVec.getLsbD_or]
theorem oh_b_and (x y : Int64) (j : Nat) : oh_b (x &&& y) j = (oh_b x j && oh_b y j) := by unfold oh_b; rw [Int64.toBitVec_and, BitVec.getLsbD_and]
theorem oh_b_xor (x y : Int64) (j : Nat) : oh_b (x ^^^ y) j = (oh_b x j ^^ oh_b y j) := by unfold oh_b; rw [Int64.toBitVec_xor, BitVec.getLsbD_xor]
theorem oh_b_lN (n j : Nat) : oh_b (lN n) j = (decide (j < 64) && n.testBit j) := by unfold oh_b; rw [wb_tb, BitVec.getLsbD_ofNat]
theorem oh_b_0 (j : Nat) : oh_b 0 j = false := by
  have := oh_b_lN 0 j
  rw [Nat.zero_testBit, Bool.and_false] at this
  exact this
theorem oh_b_m1 {j : Nat} (h : j < 64) : oh_b (-1) j = true := by
  unfold oh_b
  have : ∀ j, j < 64 → (-1 : Int64).toBitVec.getLsbD j = true := by decide +kernel
  exact this j h
theorem oh_b_ext {x y : Int64} (h : ∀ j, j < 64 → oh_b x j = oh_b y j) : x = y := Int64.toBitVec_inj.mp (BitVec.eq_of_getLsbD_eq (fun i hi => h i hi))
theorem oh_one (b : Nat) (hb : b < 64) : (1 : Int64) <<< ((nI b).toInt64 &&& 63) = lN (2 ^ b) := by
  have := wb_shl 1 hb
  rw [Nat.one_mul] at this
  exact this
theorem oh_b_one {b j : Nat} (hb : b < 64) (hj : j < 64) : oh_b ((1 : Int64) <<< ((nI b).toInt64 &&& 63)) j = decide (j = b) := by
  rw [oh_one b hb, oh_b_lN, decide_eq_true hj, Bool.true_and, Nat.testBit_two_pow]
  by_cases z : b = j
  · rw [decide_eq_true z, decide_eq_true z.symm]
  · rw [decide_eq_false z, decide_eq_false (fun q => z q.symm)]
theorem oh_b_set {x : Int64} {b j : Nat} (hb : b < 64) (hj : j < 64) : oh_b (x ||| ((1 : Int64) <<< ((nI b).toInt64 &&& 63))) j = (oh_b x j || decide (j = b)) := by rw [oh_b_or, oh_b_one hb hj]
theorem oh_b_low {e j : Nat} (he : e < 64) (hj : j < 64) : oh_b (((1 : Int64) <<< ((nI e).toInt64 &&& 63)) - 1) j = decide (j < e) := by
  have e1 : (1 : Int64) = lN 1 := rfl
  rw [oh_one e he, e1, lN_sub Nat.one_le_two_pow, oh_b_lN, decide_eq_true hj, Bool.true_and, Nat.testBit_two_pow_sub_one]
theorem oh_b_rng {s e j : Nat} (hs : s < e) (he : e < 64) (hj : j < 64) : oh_b (((1 : Int64) <<< ((nI e).toInt64 &&& 63)) - ((1 : Int64) <<< ((nI s).toInt64 &&& 63))) j = decide (s ≤ j ∧ j < e) := by
  have e2 : 2 ^ e - 2 ^ s = (2 ^ (e - s) - 1) * 2 ^ s := by rw [Nat.sub_mul, Nat.one_mul, ← Nat.pow_add, show e - s + s = e by omega]
  rw [oh_one e he, oh_one s (by omega), lN_sub (Nat.pow_le_pow_right (by decide) (by omega)), oh_b_lN, decide_eq_true hj, Bool.true_and, e2, Nat.testBit_mul_two_pow, Nat.testBit_two_pow_sub_one]
  by_cases a : s ≤ j
  · by_cases b : j < e
    · rw [decide_eq_true a, decide_eq_true (show j - s < e - s by omega), decide_eq_true ⟨a, b⟩]; rfl
    · rw [decide_eq_false (show ¬ j - s < e - s by omega), decide_eq_false (show ¬ (s ≤ j ∧ j < e) by omega), Bool.and_false]
  · rw [decide_eq_false a, decide_eq_false (show ¬ (s ≤ j ∧ j < e) by omega), Bool.false_and]
theorem oh_b_up {s j : Nat} (hs : s < 64) (hj : j < 64) : oh_b ((-1 : Int64) <<< ((nI s).toInt64 &&& 63)) j = decide (s ≤ j) := by
  have e1 : (-1 : Int64) = lN (2 ^ 64 - 1) := by decide
  rw [e1, wb_shl _ hs, oh_b_lN, decide_eq_true hj, Bool.true_and, Nat.testBit_mul_two_pow, Nat.testBit_two_pow_sub_one, decide_eq_true (show j - s < 64 by omega), Bool.and_true]
/-! lists -/
def oh_sel (its : List (Nat × Nat × Nat)) (k : Nat) : List (Nat × Nat) := (its.filter (fun t => t.1 == k)).map (fun t => t.2)
def oh_ap (S : Nat → List (Nat × Nat)) (its : List (Nat × Nat × Nat)) : Nat → List (Nat × Nat) := fun k => S k ++ oh_sel its k
theorem oh_ap1 {S : Nat → List (Nat × Nat)} {k a b : Nat} : oh_ap S [(k, a, b)] k = S k ++ [(a, b)] := by simp [oh_ap, oh_sel]
theorem oh_apn {S : Nat → List (Nat × Nat)} {k k' a b : Nat} (h : ¬ k' = k) : oh_ap S [(k, a, b)] k' = S k' := by
  have : ¬ k = k' := fun z => h z.symm
  simp [oh_ap, oh_sel, this]
theorem oh_ap_ap (S : Nat → List (Nat × Nat)) (a b : List (Nat × Nat × Nat)) : oh_ap (oh_ap S a) b = oh_ap S (a ++ b) := by
  funext k
  simp [oh_ap, oh_sel, List.append_assoc]
theorem oh_ap_nil (S : Nat → List (Nat × Nat)) : oh_ap S [] = S := by
  funext k
  simp [oh_ap, oh_sel]
def oh_wk (x : Nat) (ab : Nat × Nat) : Bool := if ab.1 ≤ ab.2 then decide (ab.1 ≤ x ∧ x ≤ ab.2) else decide (ab.1 ≤ x ∨ x ≤ ab.2)
def oh_sp (x : Nat) (ab : Nat × Nat) : Bool := decide (ab.1 ≤ x ∧ x < ab.2)
def oh_nt (w n : Nat) (ab : Nat × Nat) : Bool := decide (ab.1 = w ∧ ab.2 = n)
def oh_dsb (S : Nat → List (Nat × Nat)) (j : Nat) : Bool := if j < 7 then (S 2).any (oh_wk j) else if j = 7 then (S 4).any (fun _ => true) else if j < 50 then (S 3).any (oh_nt ((j - 8) / 6) ((j - 8) % 6 + 1)) else false
def oh_XD (dn df dt : Nat → Int32) (i : Nat) (l : List (Nat × Nat)) : Prop := dn i = nI l.length ∧ l.length ≤ 2 ∧ ∀ j, j < l.length → df (2 * i + j) = nI (l.getD j (0, 0)).1 ∧ dt (2 * i + j) = nI (l.getD j (0, 0)).2
def oh_XP (sn sf se : Nat → Int32) (i : Nat) (l : List (Nat × Nat)) : Prop := sn i = nI l.length ∧ l.length ≤ 3 ∧ ∀ j, j < l.length → sf (3 * i + j) = nI (l.getD j (0, 0)).1 ∧ se (3 * i + j) = nI (l.getD j (0, 0)).2
theorem oh_XD_s {dn df dt : Nat → Int32} {i a b : Nat} {l : List (Nat × Nat)} (h : oh_XD dn df dt i l) (hl : l.length < 2) : oh_XD (upd dn i (nI (l.length + 1))) (upd df (2 * i + l.length) (nI a)) (upd dt (2 * i + l.length) (nI b)) i (l ++ [(a, b)]) := by
  refine ⟨by rw [pk_us, List.length_append]; rfl, by rw [List.length_append, List.length_singleton]; omega, fun j hj => ?_⟩
  rw [List.length_append, List.length_singleton] at hj
  rcases Nat.lt_or_ge j l.length with z | z
  · rw [pk_un (by omega), pk_un (by omega), oh_gA z]
    exact h.2.2 j z
  · have : j = l.length := by omega
    subst this
    rw [pk_us, pk_us]
    simp
theorem oh_XP_s {dn df dt : Nat → Int32} {i a b : Nat} {l : List (Nat × Nat)} (h : oh_XP dn df dt i l) (hl : l.length < 3) : oh_XP (upd dn i (nI (l.length + 1))) (upd df (3 * i + l.length) (nI a)) (upd dt (3 * i + l.length) (nI b)) i (l ++ [(a, b)]) := by
  refine ⟨by rw [pk_us, List.length_append]; rfl, by rw [List.length_append, List.length_singleton]; omega, fun j hj => ?_⟩
  rw [List.length_append, List.length_singleton] at hj
  rcases Nat.lt_or_ge j l.length with z | z
  · rw [pk_un (by omega), pk_un (by omega), oh_gA z]
    exact h.2.2 j z
  · have : j = l.length := by omega
    subst this
    rw [pk_us, pk_us]
    simp
def oh_XR (xki xst xdn xsn xdf xdt xsf xse : Nat → Int32) (xds xtd xtm : Nat → Int64) (i K : Nat) (S : Nat → List (Nat × Nat)) : Prop :=
  oh_XD xdn xdf xdt i (S 1) ∧ oh_XP xsn xsf xse i (S 5) ∧ (∀ j, j < 64 → oh_b (xds i) j = oh_dsb S j) ∧ (∀ j, j < 48 → oh_b (xtd i) j = (S 5).any (oh_sp j)) ∧ (∀ j, j < 48 → oh_b (xtm i) j = (S 5).any (oh_sp (j + 48))) ∧ xki i = nI K ∧ xst i = 1
def oh_so (l : List (Nat × Nat)) : Nat := match l with
  | [] => 1
  | ab :: _ => ab.1
/-- a rule that is whole -/
def oh_XF (xki xst xdn xsn xdf xdt xsf xse : Nat → Int32) (xds xtd xtm : Nat → Int64) (i : Nat) (S : Nat → List (Nat × Nat)) : Prop :=
  oh_XD xdn xdf xdt i (S 1) ∧ oh_XP xsn xsf xse i (S 5) ∧ (∀ j, j < 64 → oh_b (xds i) j = oh_dsb S j) ∧ (∀ j, j < 48 → oh_b (xtd i) j = ((S 5).isEmpty || (S 5).any (oh_sp j))) ∧ (∀ j, j < 48 → oh_b (xtm i) j = (S 5).any (oh_sp (j + 48))) ∧ (∃ K, K ≤ 2 ∧ S 0 = [(K, 0)] ∧ xki i = nI K) ∧ xst i = nI (oh_so (S 6))
def oh_AG (xki xst xdn xsn xdf xdt xsf xse : Nat → Int32) (xds xtd xtm : Nat → Int64) (xki' xst' xdn' xsn' xdf' xdt' xsf' xse' : Nat → Int32) (xds' xtd' xtm' : Nat → Int64) (i : Nat) : Prop :=
  (xki' i = xki i ∧ xst' i = xst i ∧ xdn' i = xdn i ∧ xsn' i = xsn i) ∧ (∀ j, j < 2 → xdf' (2 * i + j) = xdf (2 * i + j) ∧ xdt' (2 * i + j) = xdt (2 * i + j)) ∧ (∀ j, j < 3 → xsf' (3 * i + j) = xsf (3 * i + j) ∧ xse' (3 * i + j) = xse (3 * i + j)) ∧ xds' i = xds i ∧ xtd' i = xtd i ∧ xtm' i = xtm i
/-- all but rule i is as it was -/
def oh_FR (xki xst xdn xsn xdf xdt xsf xse : Nat → Int32) (xds xtd xtm : Nat → Int64) (xki' xst' xdn' xsn' xdf' xdt' xsf' xse' : Nat → Int32) (xds' xtd' xtm' : Nat → Int64) (i0 : Nat) : Prop := ∀ i, ¬ i = i0 → oh_AG xki xst xdn xsn xdf xdt xsf xse xds xtd xtm xki' xst' xdn' xsn' xdf' xdt' xsf' xse' xds' xtd' xtm' i
section
variable {xki xst xdn xsn xdf xdt xsf xse : Nat → Int32} {xds xtd xtm : Nat → Int64} {xki' xst' xdn' xsn' xdf' xdt' xsf' xse' : Nat → Int32} {xds' xtd' xtm' : Nat → Int64} {xki'' xst'' xdn'' xsn'' xdf'' xdt'' xsf'' xse'' : Nat → Int32} {xds'' xtd'' xtm'' : Nat → Int64} {i i0 K : Nat} {S : Nat → List (Nat × Nat)}
theorem oh_AG_r : oh_AG xki xst xdn xsn xdf xdt xsf xse xds xtd xtm xki xst xdn xsn xdf xdt xsf xse xds xtd xtm i := ⟨⟨rfl, rfl, rfl, rfl⟩, fun _ _ => ⟨rfl, rfl⟩, fun _ _ => ⟨rfl, rfl⟩, rfl, rfl, rfl⟩
theorem oh_FR_r : oh_FR xki xst xdn xsn xdf xdt xsf xse xds xtd xtm xki xst xdn xsn xdf xdt xsf xse xds xtd xtm i0 := fun _ _ => oh_AG_r
theorem oh_FR_t (h : oh_FR xki xst xdn xsn xdf xdt xsf xse xds xtd xtm xki' xst' xdn' xsn' xdf' xdt' xsf' xse' xds' xtd' xtm' i0) (k : oh_FR xki' xst' xdn' xsn' xdf' xdt' xsf' xse' xds' xtd' xtm' xki'' xst'' xdn'' xsn'' xdf'' xdt'' xsf'' xse'' xds'' xtd'' xtm'' i0) : oh_FR xki xst xdn xsn xdf xdt xsf xse xds xtd xtm xki'' xst'' xdn'' xsn'' xdf'' xdt'' xsf'' xse'' xds'' xtd'' xtm'' i0 := fun i hi => by
  obtain ⟨⟨a1, a2, a3, a4⟩, a5, a6, a7, a8, a9⟩ := h i hi
  obtain ⟨⟨b1, b2, b3, b4⟩, b5, b6, b7, b8, b9⟩ := k i hi
  exact ⟨⟨b1.trans a1, b2.trans a2, b3.trans a3, b4.trans a4⟩, fun j hj => ⟨(b5 j hj).1.trans (a5 j hj).1, (b5 j hj).2.trans (a5 j hj).2⟩, fun j hj => ⟨(b6 j hj).1.trans (a6 j hj).1, (b6 j hj).2.trans (a6 j hj).2⟩, b7.trans a7, b8.trans a8, b9.trans a9⟩
theorem oh_XF_ag (h : oh_XF xki xst xdn xsn xdf xdt xsf xse xds xtd xtm i S) (g : oh_AG xki xst xdn xsn xdf xdt xsf xse xds xtd xtm xki' xst' xdn' xsn' xdf' xdt' xsf' xse' xds' xtd' xtm' i) : oh_XF xki' xst' xdn' xsn' xdf' xdt' xsf' xse' xds' xtd' xtm' i S := by
  obtain ⟨⟨d1, d2, d3⟩, ⟨p1, p2, p3⟩, hb, ht, hm, ⟨K, k0, k1, k2⟩, hs⟩ := h
  obtain ⟨⟨a1, a2, a3, a4⟩, a5, a6, a7, a8, a9⟩ := g
  refine ⟨⟨by rw [a3]; exact d1, d2, fun j hj => ?_⟩, ⟨by rw [a4]; exact p1, p2, fun j hj => ?_⟩, by rw [a7]; exact hb, by rw [a8]; exact ht, by rw [a9]; exact hm, ⟨K, k0, k1, by rw [a1]; exact k2⟩, by rw [a2]; exact hs⟩
  · rw [(a5 j (by omega)).1, (a5 j (by omega)).2]; exact d3 j hj
  · rw [(a6 j (by omega)).1, (a6 j (by omega)).2]; exact p3 j hj
/-! single stores -/
theorem oh_FR_date {v a b : Int32} {j0 : Nat} (hj : j0 < 2) : oh_FR xki xst xdn xsn xdf xdt xsf xse xds xtd xtm xki xst (upd xdn i0 v) xsn (upd xdf (2 * i0 + j0) a) (upd xdt (2 * i0 + j0) b) xsf xse xds xtd xtm i0 := fun i hi =>
  ⟨⟨rfl, rfl, pk_un hi, rfl⟩, fun j h2 => ⟨pk_un (by omega), pk_un (by omega)⟩, fun _ _ => ⟨rfl, rfl⟩, rfl, rfl, rfl⟩
theorem oh_FR_ds (h : ∀ k, ¬ k = i0 → xds' k = xds k) : oh_FR xki xst xdn xsn xdf xdt xsf xse xds xtd xtm xki xst xdn xsn xdf xdt xsf xse xds' xtd xtm i0 := fun i hi =>
  ⟨⟨rfl, rfl, rfl, rfl⟩, fun _ _ => ⟨rfl, rfl⟩, fun _ _ => ⟨rfl, rfl⟩, h i hi, rfl, rfl⟩
theorem oh_FR_span {v a b : Int32} {t : Int64} {j0 : Nat} (hj : j0 < 3) (h : ∀ k, ¬ k = i0 → xtm' k = xtm k) : oh_FR xki xst xdn xsn xdf xdt xsf xse xds xtd xtm xki xst xdn (upd xsn i0 v) xdf xdt (upd xsf (3 * i0 + j0) a) (upd xse (3 * i0 + j0) b) xds (vp_updL xtd i0 t) xtm' i0 := fun i hi =>
  ⟨⟨rfl, rfl, rfl, pk_un hi⟩, fun _ _ => ⟨rfl, rfl⟩, fun j h2 => ⟨pk_un (by omega), pk_un (by omega)⟩, rfl, pk_uLn hi, h i hi⟩
theorem oh_FR_tm {m : Int64} : oh_FR xki xst xdn xsn xdf xdt xsf xse xds xtd xtm xki xst xdn xsn xdf xdt xsf xse xds xtd (vp_updL xtm i0 m) i0 := fun i hi =>
  ⟨⟨rfl, rfl, rfl, rfl⟩, fun _ _ => ⟨rfl, rfl⟩, fun _ _ => ⟨rfl, rfl⟩, rfl, rfl, pk_uLn hi⟩
theorem oh_FR_td {m : Int64} : oh_FR xki xst xdn xsn xdf xdt xsf xse xds xtd xtm xki xst xdn xsn xdf xdt xsf xse xds (vp_updL xtd i0 m) xtm i0 := fun i hi =>
  ⟨⟨rfl, rfl, rfl, rfl⟩, fun _ _ => ⟨rfl, rfl⟩, fun _ _ => ⟨rfl, rfl⟩, rfl, pk_uLn hi, rfl⟩
theorem oh_FR_st {v : Int32} : oh_FR xki xst xdn xsn xdf xdt xsf xse xds xtd xtm xki (upd xst i0 v) xdn xsn xdf xdt xsf xse xds xtd xtm i0 := fun i hi =>
  ⟨⟨rfl, pk_un hi, rfl, rfl⟩, fun _ _ => ⟨rfl, rfl⟩, fun _ _ => ⟨rfl, rfl⟩, rfl, rfl, rfl⟩
theorem oh_FR_new {k s d n : Int32} {a b c : Int64} : oh_FR xki xst xdn xsn xdf xdt xsf xse xds xtd xtm (upd xki i0 k) (upd xst i0 s) (upd xdn i0 d) (upd xsn i0 n) xdf xdt xsf xse (vp_updL xds i0 a) (vp_updL xtd i0 b) (vp_updL xtm i0 c) i0 := fun i hi =>
  ⟨⟨pk_un hi, pk_un hi, pk_un hi, pk_un hi⟩, fun _ _ => ⟨rfl, rfl⟩, fun _ _ => ⟨rfl, rfl⟩, pk_uLn hi, pk_uLn hi, pk_uLn hi⟩
/-! the relation through a store -/
theorem oh_XR_new {k : Nat} : oh_XR (upd xki i (nI k)) (upd xst i 1) (upd xdn i 0) (upd xsn i 0) xdf xdt xsf xse (vp_updL xds i 0) (vp_updL xtd i 0) (vp_updL xtm i 0) i k (fun _ => []) := by
  refine ⟨⟨pk_us, Nat.zero_le _, fun j hj => absurd hj (Nat.not_lt_zero _)⟩, ⟨pk_us, Nat.zero_le _, fun j hj => absurd hj (Nat.not_lt_zero _)⟩, fun j hj => ?_, fun j hj => ?_, fun j hj => ?_, pk_us, pk_us⟩
  · rw [pk_uLs, oh_b_0]
    unfold oh_dsb
    (repeat' split) <;> rfl
  · rw [pk_uLs, oh_b_0]; rfl
  · rw [pk_uLs, oh_b_0]; rfl
theorem oh_XR_date {a b : Nat} (h : oh_XR xki xst xdn xsn xdf xdt xsf xse xds xtd xtm i K S) (hl : (S 1).length < 2) : oh_XR xki xst (upd xdn i (nI ((S 1).length + 1))) xsn (upd xdf (2 * i + (S 1).length) (nI a)) (upd xdt (2 * i + (S 1).length) (nI b)) xsf xse xds xtd xtm i K (oh_ap S [(1, a, b)]) := by
  obtain ⟨hd, hp, hb, ht, hm, hk⟩ := h
  refine ⟨by rw [oh_ap1]; exact oh_XD_s hd hl, by rw [oh_apn (by decide)]; exact hp, fun j hj => ?_, by rw [oh_apn (by decide)]; exact ht, by rw [oh_apn (by decide)]; exact hm, hk⟩
  rw [hb j hj]
  unfold oh_dsb
  rw [oh_apn (by decide), oh_apn (by decide), oh_apn (by decide)]
theorem oh_XR_ds {k a b : Nat} (h : oh_XR xki xst xdn xsn xdf xdt xsf xse xds xtd xtm i K S) (hk : k = 2 ∨ k = 3 ∨ k = 4) (hv : ∀ j, j < 64 → oh_b (xds' i) j = oh_dsb (oh_ap S [(k, a, b)]) j) : oh_XR xki xst xdn xsn xdf xdt xsf xse xds' xtd xtm i K (oh_ap S [(k, a, b)]) := by
  obtain ⟨hd, hp, hb, ht, hm, hk2⟩ := h
  exact ⟨by rw [oh_apn (by omega)]; exact hd, by rw [oh_apn (by omega)]; exact hp, hv, by rw [oh_apn (by omega)]; exact ht, by rw [oh_apn (by omega)]; exact hm, hk2⟩
theorem oh_any_s {l : List (Nat × Nat)} {f : Nat × Nat → Bool} {a b : Nat} : (l ++ [(a, b)]).any f = (l.any f || f (a, b)) := by simp [List.any_append]
theorem oh_dsb_w {a b j : Nat} : oh_dsb (oh_ap S [(2, a, b)]) j = (oh_dsb S j || (decide (j < 7) && oh_wk j (a, b))) := by
  unfold oh_dsb
  rw [oh_ap1, oh_apn (by decide), oh_apn (by decide), oh_any_s]
  split
  · rename_i z; rw [decide_eq_true z, Bool.true_and]
  · rename_i z; rw [decide_eq_false z, Bool.false_and, Bool.or_false]
theorem oh_dsb_n {a b j : Nat} (ha : a ≤ 6) (h1 : 1 ≤ b) (hb : b ≤ 6) : oh_dsb (oh_ap S [(3, a, b)]) j = (oh_dsb S j || decide (j = 8 + 6 * a + (b - 1))) := by
  unfold oh_dsb
  rw [oh_ap1, oh_apn (by decide), oh_apn (by decide), oh_any_s]
  split
  · rw [decide_eq_false (by omega), Bool.or_false]
  · split
    · rw [decide_eq_false (by omega), Bool.or_false]
    · split
      · unfold oh_nt
        dsimp only
        by_cases z : j = 8 + 6 * a + (b - 1)
        · rw [decide_eq_true z, decide_eq_true (show a = (j - 8) / 6 ∧ b = (j - 8) % 6 + 1 by omega)]
        · rw [decide_eq_false z, decide_eq_false (show ¬ (a = (j - 8) / 6 ∧ b = (j - 8) % 6 + 1) by omega)]
      · rw [decide_eq_false (by omega), Bool.or_false]
theorem oh_dsb_p {j : Nat} : oh_dsb (oh_ap S [(4, 0, 0)]) j = (oh_dsb S j || decide (j = 7)) := by
  unfold oh_dsb
  rw [oh_ap1, oh_apn (by decide), oh_apn (by decide), oh_any_s]
  split
  · rw [decide_eq_false (by omega), Bool.or_false]
  · split
    · rename_i z; rw [decide_eq_true z]
    · rename_i z; rw [decide_eq_false z, Bool.or_false]
theorem oh_XR_span {a b : Nat} {t : Int64} (h : oh_XR xki xst xdn xsn xdf xdt xsf xse xds xtd xtm i K S) (hl : (S 5).length < 3) (htd : ∀ j, j < 48 → oh_b t j = (oh_b (xtd i) j || oh_sp j (a, b))) (htm : ∀ j, j < 48 → oh_b (xtm' i) j = (oh_b (xtm i) j || oh_sp (j + 48) (a, b))) : oh_XR xki xst xdn (upd xsn i (nI ((S 5).length + 1))) xdf xdt (upd xsf (3 * i + (S 5).length) (nI a)) (upd xse (3 * i + (S 5).length) (nI b)) xds (vp_updL xtd i t) xtm' i K (oh_ap S [(5, a, b)]) := by
  obtain ⟨hd, hp, hb, ht, hm, hk⟩ := h
  refine ⟨by rw [oh_apn (by decide)]; exact hd, by rw [oh_ap1]; exact oh_XP_s hp hl, fun j hj => ?_, fun j hj => ?_, fun j hj => ?_, hk⟩
  · rw [hb j hj]
    unfold oh_dsb
    rw [oh_apn (by decide), oh_apn (by decide), oh_apn (by decide)]
  · rw [pk_uLs, htd j hj, ht j hj, oh_ap1, oh_any_s]
  · rw [htm j hj, hm j hj, oh_ap1, oh_any_s]
end
/-- a run of weekdays, as X sets it -/
theorem oh_run7 : ∀ f, f < 7 → ∀ l, l < 7 → ∀ j, j < 64 → ((decide (j = f) || (List.range ((l + 7 - f) % 7 + 1)).any (fun t => decide (j = (f + t) % 7))) = (decide (j < 7) && oh_wk j (f, l))) := by decide +kernel
end
section
/-! ===== X: the readers of items ===== -/
theorem oh_kd_lt {c : Nat} (h : oh_vc c) : oh_kd c < 1000 := by
  unfold oh_vc at h; unfold oh_kd
  (repeat' split) <;> omega
theorem oh_kd77 {c : Nat} (h : oh_vc c) : oh_kd c = 77 ↔ oh_cls c = 1 := by
  rw [oh_cls1]; unfold oh_vc at h; unfold oh_kd
  (repeat' split) <;> omega
theorem oh_kd87 {c : Nat} (h : oh_vc c) : oh_kd c = 87 ↔ oh_cls c = 2 := by
  rw [oh_cls2]; unfold oh_vc at h; unfold oh_kd
  (repeat' split) <;> omega
theorem oh_kd83 {c : Nat} (h : oh_vc c) : oh_kd c = 83 ↔ oh_cls c = 4 := by
  rw [oh_cls4]; unfold oh_vc at h; unfold oh_kd
  (repeat' split) <;> omega
theorem oh_kd78 {c : Nat} (h : oh_vc c) (h2 : ¬ c = 2000) : oh_kd c = 78 ↔ oh_cls c = 3 := by
  rw [oh_cls3]; unfold oh_vc at h; unfold oh_kd
  (repeat' split) <;> omega
theorem oh_kds {c s : Nat} (h : oh_vc c) (hs : s = 44 ∨ s = 45 ∨ s = 58 ∨ s = 59 ∨ s = 91 ∨ s = 93 ∨ s = 124) : oh_kd c = s ↔ c = s := by
  unfold oh_vc at h; unfold oh_kd
  (repeat' split) <;> omega
theorem oh_TX_v {tk : Nat → Nat} {N : Nat} {xtk xtv : Nat → Int32} (hT : oh_TX tk N xtk xtv) (k : Nat) : oh_vc (tk k) ∧ ¬ tk k = 2000 := by
  rcases Nat.lt_or_ge k N with z | z
  · exact (hT.2.2 k z).1.2
  · rw [hT.2.1 k z]; exact ⟨Or.inl (by omega), by omega⟩
theorem oh_TX_lt {tk : Nat → Nat} {N : Nat} {xtk xtv : Nat → Int32} (hT : oh_TX tk N xtk xtv) {k : Nat} (h : ¬ tk k = 0) : k < N := by
  rcases Nat.lt_or_ge k N with z | z
  · exact z
  · exact absurd (hT.2.1 k z) h
theorem oh_vl1 {c : Nat} (h : oh_cls c = 1) : oh_vl c = c := by
  rw [oh_cls1] at h; unfold oh_vl; (repeat' split) <;> omega
theorem oh_vl2 {c : Nat} (h : oh_cls c = 2) : oh_vl c = c - 13 := by
  rw [oh_cls2] at h; unfold oh_vl; (repeat' split) <;> omega
theorem oh_vl3 {c : Nat} (h : oh_cls c = 3) : oh_vl c = c - 1000 := by
  rw [oh_cls3] at h; unfold oh_vl; (repeat' split) <;> omega
theorem oh_vl4 {c : Nat} (h : oh_cls c = 4) : oh_vl c = (c - 21) % 3 := by
  rw [oh_cls4] at h; unfold oh_vl; (repeat' split) <;> omega
theorem oh_c3 {c : Nat} (h : oh_vc c) (h3 : oh_cls c = 3) : 1000 ≤ c ∧ c < 1100 := by
  rw [oh_cls3] at h3; unfold oh_vc at h; omega
theorem oh_mlx : ∀ m, m < 13 → 1 ≤ m → ¬ m = 2 → 30 + (m + m / 8) % 2 = (if m = 4 ∨ m = 6 ∨ m = 9 ∨ m = 11 then 30 else 31) := by decide
section
variable {xfw xlp xdy xrl xhz xhc xts xos xpd xtc xcu xbk xrt : Int32} {xdc xho xtx xou xtk xtv xki xst xdn xsn xdf xdt xsf xse : Nat → Int32} {xnm xds xtd xtm : Nat → Int64} {tk : Nat → Nat} {N : Nat}
theorem xl_lk {A B : Prop} {p j : Nat} (s : Nat) (hs : s < 1000) (hT : oh_TX tk N xtk xtv) (hp : p ≤ 200) (hj : j ≤ 2) (h1 : oh_kd (tk (p + j)) = s → A) (h0 : ¬ oh_kd (tk (p + j)) = s → B) : wpX_look (fun r => (r = nI s → A) ∧ (¬ r = nI s → B)) (xfw, xlp, xdy, xrl, xhz, xhc, xts, xos, xpd, nI (N + 1), nI (p + 1), xbk, xrt, xdc, xho, xtx, xou, xnm, xtk, xtv, xki, xst, xdn, xsn, xdf, xdt, xsf, xse, xds, xtd, xtm) (nI j) := by
  have hN := hT.1
  have hv := oh_kd_lt (oh_TX_v hT (p + j)).1
  have key : (nI (oh_kd (tk (p + j))) = nI s → A) ∧ (¬ nI (oh_kd (tk (p + j))) = nI s → B) := pk_eq (oh_kd (tk (p + j))) s h1 h0
  unfold wpX_look
  dsimp only
  rw [nI_add]
  refine pk_le (N + 1) (p + 1 + j) (fun a => ?_) (fun a => ⟨vp_in_nI (by omega) (by omega), ?_⟩)
  · rw [hT.2.1 (p + j) (by omega)] at key
    exact key
  · rw [nI_clamp (by omega), show p + 1 + j = p + j + 1 by omega, (hT.2.2 (p + j) (by omega)).2.1]
    exact key
theorem xl_take {post : Int32 → SX → Prop} {p : Nat} (hT : oh_TX tk N xtk xtv) (hp : p < N) (h : post (nI (oh_vl (tk p))) (xfw, xlp, xdy, xrl, xhz, xhc, xts, xos, xpd, nI (N + 1), nI (p + 1 + 1), xbk, xrt, xdc, xho, xtx, xou, xnm, xtk, xtv, xki, xst, xdn, xsn, xdf, xdt, xsf, xse, xds, xtd, xtm)) : wpX_take post (xfw, xlp, xdy, xrl, xhz, xhc, xts, xos, xpd, nI (N + 1), nI (p + 1), xbk, xrt, xdc, xho, xtx, xou, xnm, xtk, xtv, xki, xst, xdn, xsn, xdf, xdt, xsf, xse, xds, xtd, xtm) := by
  have hN := hT.1
  unfold wpX_take
  dsimp only
  refine pk_le (N + 1) (p + 1) (fun a => absurd a (by omega)) (fun a => nm_r (nI_1 _) ⟨vp_in_nI (by omega) (by omega), ?_⟩)
  rw [nI_clamp (by omega), (hT.2.2 p hp).2.2]
  exact h
theorem xl_acc {post : Int32 → SX → Prop} {p : Nat} (s : Nat) (hs : s = 44 ∨ s = 45 ∨ s = 58 ∨ s = 59 ∨ s = 91 ∨ s = 93 ∨ s = 124) (hT : oh_TX tk N xtk xtv) (hp : p ≤ 200) (h1 : tk p = s → post 1 (xfw, xlp, xdy, xrl, xhz, xhc, xts, xos, xpd, nI (N + 1), nI (p + 1 + 1), xbk, xrt, xdc, xho, xtx, xou, xnm, xtk, xtv, xki, xst, xdn, xsn, xdf, xdt, xsf, xse, xds, xtd, xtm)) (h0 : ¬ tk p = s → post 0 (xfw, xlp, xdy, xrl, xhz, xhc, xts, xos, xpd, nI (N + 1), nI (p + 1), xbk, xrt, xdc, xho, xtx, xou, xnm, xtk, xtv, xki, xst, xdn, xsn, xdf, xdt, xsf, xse, xds, xtd, xtm)) : wpX_accept post (xfw, xlp, xdy, xrl, xhz, xhc, xts, xos, xpd, nI (N + 1), nI (p + 1), xbk, xrt, xdc, xho, xtx, xou, xnm, xtk, xtv, xki, xst, xdn, xsn, xdf, xdt, xsf, xse, xds, xtd, xtm) (nI s) := by
  have hv := (oh_TX_v hT p).1
  unfold wpX_accept
  dsimp only
  refine xl_lk (j := 0) s (by omega) hT hp (by omega) (fun a => nm_r (nI_1 _) (h1 ((oh_kds hv hs).mp a))) (fun a => h0 (fun z => a ((oh_kds hv hs).mpr z)))
theorem xl_num {post : Int32 → SX → Prop} {p : Nat} (hT : oh_TX tk N xtk xtv) (hp : p ≤ 200) (h1 : oh_cls (tk p) = 3 → post (nI (tk p - 1000)) (xfw, xlp, xdy, xrl, xhz, xhc, xts, xos, xpd, nI (N + 1), nI (p + 1 + 1), xbk, xrt, xdc, xho, xtx, xou, xnm, xtk, xtv, xki, xst, xdn, xsn, xdf, xdt, xsf, xse, xds, xtd, xtm)) (h0 : ¬ oh_cls (tk p) = 3 → post 100 (xfw, xlp, xdy, xrl, xhz, xhc, xts, xos, xpd, nI (N + 1), nI (p + 1), xbk, xrt, xdc, xho, xtx, xou, xnm, xtk, xtv, xki, xst, xdn, xsn, xdf, xdt, xsf, xse, xds, xtd, xtm)) : wpX_number post (xfw, xlp, xdy, xrl, xhz, xhc, xts, xos, xpd, nI (N + 1), nI (p + 1), xbk, xrt, xdc, xho, xtx, xou, xnm, xtk, xtv, xki, xst, xdn, xsn, xdf, xdt, xsf, xse, xds, xtd, xtm) := by
  have hv := oh_TX_v hT p
  unfold wpX_number
  dsimp only
  refine xl_lk (j := 0) 78 (by omega) hT hp (by omega) (fun a => ?_) (fun a => h0 (fun z => a ((oh_kd78 hv.1 hv.2).mpr z)))
  have c3 := (oh_kd78 hv.1 hv.2).mp a
  have := h1 c3
  rw [← oh_vl3 c3] at this
  exact xl_take hT (oh_TX_lt hT (by have := oh_c3 hv.1 c3; omega)) this
theorem xl_dom {post : Int32 → SX → Prop} {p : Nat} (hT : oh_TX tk N xtk xtv) (hp : p ≤ 200) (h1 : oh_cls (tk p) = 3 ∧ ¬ tk (p + 1) = 58 → post (nI (tk p - 1000)) (xfw, xlp, xdy, xrl, xhz, xhc, xts, xos, xpd, nI (N + 1), nI (p + 1 + 1), xbk, xrt, xdc, xho, xtx, xou, xnm, xtk, xtv, xki, xst, xdn, xsn, xdf, xdt, xsf, xse, xds, xtd, xtm)) (h0 : ¬ (oh_cls (tk p) = 3 ∧ ¬ tk (p + 1) = 58) → post (-2) (xfw, xlp, xdy, xrl, xhz, xhc, xts, xos, xpd, nI (N + 1), nI (p + 1), xbk, xrt, xdc, xho, xtx, xou, xnm, xtk, xtv, xki, xst, xdn, xsn, xdf, xdt, xsf, xse, xds, xtd, xtm)) : wpX_readDayOfMonth post (xfw, xlp, xdy, xrl, xhz, xhc, xts, xos, xpd, nI (N + 1), nI (p + 1), xbk, xrt, xdc, xho, xtx, xou, xnm, xtk, xtv, xki, xst, xdn, xsn, xdf, xdt, xsf, xse, xds, xtd, xtm) := by
  have hv := oh_TX_v hT p
  have hv1 := oh_TX_v hT (p + 1)
  unfold wpX_readDayOfMonth
  dsimp only
  refine xl_lk (j := 0) 78 (by omega) hT hp (by omega) (fun a => ?_) (fun a => h0 (fun z => a ((oh_kd78 hv.1 hv.2).mpr z.1)))
  have c3 := (oh_kd78 hv.1 hv.2).mp a
  refine xl_lk (j := 1) 58 (by omega) hT hp (by omega) (fun b => h0 (fun z => z.2 ((oh_kds hv1.1 (by omega)).mp b))) (fun b => ?_)
  have := h1 ⟨c3, fun z => b ((oh_kds hv1.1 (by omega)).mpr z)⟩
  rw [← oh_vl3 c3] at this
  exact xl_take hT (oh_TX_lt hT (by have := oh_c3 hv.1 c3; omega)) this
theorem xl_ml {post : Int32 → Prop} {x y : Int32} (m lp : Nat) (hx : x = nI m) (hy : y = nI lp) (h1 : 1 ≤ m) (h2 : m ≤ 12) (hl : lp ≤ 1) (h : post (nI (oh_ml m lp))) : wpX_monthLength post (xfw, xlp, xdy, xrl, xhz, xhc, xts, xos, xpd, xtc, xcu, xbk, xrt, xdc, xho, xtx, xou, xnm, xtk, xtv, xki, xst, xdn, xsn, xdf, xdt, xsf, xse, xds, xtd, xtm) x y := by
  subst hx hy
  unfold wpX_monthLength
  dsimp only
  refine pk_eq m 2 (fun a => ?_) (fun a => ⟨by decide, by decide, ?_⟩)
  · rw [show oh_ml m lp = 28 + lp by unfold oh_ml; rw [if_pos a]] at h
    rw [show (28 : Int32) + nI lp = nI (28 + lp) from nI_add 28 lp]
    exact h
  · have e1 : nI m + nI m / 8 = nI (m + m / 8) := by
      rw [show nI m / 8 = nI (m / 8) from pk_div (a := m) (d := 8) (by omega) (by omega) (by omega), nI_add]
    have e2 : nI m + nI m / 8 - (nI m + nI m / 8) / 2 * 2 = nI ((m + m / 8) % 2) := oh_rem (m + m / 8) 2 e1 rfl (by omega) (by omega) (by omega)
    rw [e2, show (30 : Int32) + nI ((m + m / 8) % 2) = nI (30 + (m + m / 8) % 2) from nI_add 30 _]
    rw [show oh_ml m lp = 30 + (m + m / 8) % 2 by unfold oh_ml; rw [if_neg a, oh_mlx m (by omega) h1 a]] at h
    exact h
theorem xl_isDate {A B : Prop} {x y z : Int32} (m d lp : Nat) (hx : x = nI m) (hy : y = nI d) (hz : z = nI lp) (h1 : 1 ≤ m) (h2 : m ≤ 12) (hd : d ≤ 1000) (hl : lp ≤ 1) (hA : 1 ≤ d ∧ d ≤ oh_ml m lp → A) (hB : ¬ (1 ≤ d ∧ d ≤ oh_ml m lp) → B) : wpX_isDate (fun r => (r = 0 → B) ∧ (¬ r = 0 → A)) (xfw, xlp, xdy, xrl, xhz, xhc, xts, xos, xpd, xtc, xcu, xbk, xrt, xdc, xho, xtx, xou, xnm, xtk, xtv, xki, xst, xdn, xsn, xdf, xdt, xsf, xse, xds, xtd, xtm) x y z := by
  subst hx hy hz
  have hm := oh_ml_in m lp hl
  unfold wpX_isDate
  dsimp only
  refine pk_lt m 1 (fun a => absurd a (by omega)) (fun _ => pk_lt 12 m (fun a => absurd a (by omega)) (fun _ => pk_lt d 1 (fun a => br_t rfl (hB (by omega))) (fun a => xl_ml m lp rfl rfl h1 h2 hl ?_)))
  exact pk_lt (oh_ml m lp) d (fun b => br_t rfl (hB (by omega))) (fun b => br_f (by decide) (hA (by omega)))
/-- dates: the store and the check -/
theorem xl_124 {post : Int32 → SX → Prop} {i K m d m2 d2 : Nat} {S : Nat → List (Nat × Nat)} (hi : i < 12) (hX : oh_XR xki xst xdn xsn xdf xdt xsf xse xds xtd xtm i K S) (hl : (S 1).length < 2) (hm : 1 ≤ m ∧ m ≤ 12) (hm2 : 1 ≤ m2 ∧ m2 ≤ 12) (hd : d ≤ 1000) (hd2 : d2 ≤ 1000)
    (h1 : ∀ (xki' xst' xdn' xsn' xdf' xdt' xsf' xse' : Nat → Int32) (xds' xtd' xtm' : Nat → Int64), 1 ≤ d ∧ d ≤ oh_ml m 1 ∧ 1 ≤ d2 ∧ d2 ≤ oh_ml m2 1 → oh_XR xki' xst' xdn' xsn' xdf' xdt' xsf' xse' xds' xtd' xtm' i K (oh_ap S [(1, 32 * m + d, 32 * m2 + d2)]) → oh_FR xki xst xdn xsn xdf xdt xsf xse xds xtd xtm xki' xst' xdn' xsn' xdf' xdt' xsf' xse' xds' xtd' xtm' i → post 1 (xfw, xlp, xdy, xrl, xhz, xhc, xts, xos, xpd, xtc, xcu, xbk, xrt, xdc, xho, xtx, xou, xnm, xtk, xtv, xki', xst', xdn', xsn', xdf', xdt', xsf', xse', xds', xtd', xtm'))
    (h0 : ∀ (xki' xst' xdn' xsn' xdf' xdt' xsf' xse' : Nat → Int32) (xds' xtd' xtm' : Nat → Int64), ¬ (1 ≤ d ∧ d ≤ oh_ml m 1 ∧ 1 ≤ d2 ∧ d2 ≤ oh_ml m2 1) → oh_FR xki xst xdn xsn xdf xdt xsf xse xds xtd xtm xki' xst' xdn' xsn' xdf' xdt' xsf' xse' xds' xtd' xtm' i → post 0 (xfw, xlp, xdy, xrl, xhz, xhc, xts, xos, xpd, xtc, xcu, xbk, xrt, xdc, xho, xtx, xou, xnm, xtk, xtv, xki', xst', xdn', xsn', xdf', xdt', xsf', xse', xds', xtd', xtm')) : wX_readDate_124 post (nI i) (nI m) (nI d) (nI m2) (nI d2) xfw xlp xdy xrl xhz xhc xts xos xpd xtc xcu xbk xrt xdc xho xtx xou xnm xtk xtv xki xst xdn xsn xdf xdt xsf xse xds xtd xtm := by
  have hc := nI_clamp (n := i) (by omega)
  have hdn := hX.1.1
  have e8 : nI i * 2 + nI (S 1).length = nI (2 * i + (S 1).length) := by
    rw [show nI i * 2 = nI (i * 2) from pk_mul i 2, nI_add, Nat.mul_comm]
  have ea : (32 : Int32) * nI m + nI d = nI (32 * m + d) := by rw [show (32 : Int32) * nI m = nI (32 * m) from pk_mul 32 m, nI_add]
  have eb : (32 : Int32) * nI m2 + nI d2 = nI (32 * m2 + d2) := by rw [show (32 : Int32) * nI m2 = nI (32 * m2) from pk_mul 32 m2, nI_add]
  unfold wX_readDate_124
  rw [hc, hdn, nI_1, e8, ea, eb]
  refine ⟨vp_in_nI (by omega) (by omega), vp_in_nI (by omega) (by omega), nm_e (nm_e ⟨vp_in_nI (by omega) (by omega), ?_⟩)⟩
  rw [nI_clamp (by omega)]
  refine nm_e ⟨vp_in_nI (by omega) (by omega), nm_e ?_⟩
  have fr := oh_FR_date (xki := xki) (xst := xst) (xdn := xdn) (xsn := xsn) (xdf := xdf) (xdt := xdt) (xsf := xsf) (xse := xse) (xds := xds) (xtd := xtd) (xtm := xtm) (i0 := i) (v := nI ((S 1).length + 1)) (a := nI (32 * m + d)) (b := nI (32 * m2 + d2)) hl
  refine xl_isDate m d 1 rfl rfl rfl hm.1 hm.2 hd (by omega) (fun a => ?_) (fun a => h0 _ _ _ _ _ _ _ _ _ _ _ (fun z => a ⟨z.1, z.2.1⟩) fr)
  refine xl_isDate m2 d2 1 rfl rfl rfl hm2.1 hm2.2 hd2 (by omega) (fun b => ?_) (fun b => h0 _ _ _ _ _ _ _ _ _ _ _ (fun z => b z.2.2) fr)
  exact h1 _ _ _ _ _ _ _ _ _ _ _ ⟨a.1, a.2, b.1, b.2⟩ (oh_XR_date hX hl) fr
theorem oh_nI_ne2 {n : Nat} (h : n < 2 ^ 31) : ¬ nI n = (-2 : Int32) := fun q => by
  have := congrArg Int32.toInt q
  rw [nI_toInt (by omega)] at this
  have e : (-2 : Int32).toInt = -2 := by decide
  rw [e] at this
  omega
/-- a day that stands, or none -/
def oh_dO (b : Prop) (d : Nat) (x : Int32) : Prop := (b ∧ x = nI d) ∨ (¬ b ∧ x = -2)
theorem xl_98 {post : Int32 → SX → Prop} {i K m m2 e1 e2 : Nat} {x y : Int32} {b1 b2 : Prop} {S : Nat → List (Nat × Nat)} (hi : i < 12) (hX : oh_XR xki xst xdn xsn xdf xdt xsf xse xds xtd xtm i K S) (hl : (S 1).length < 2) (hm : 1 ≤ m ∧ m ≤ 12) (hm2 : 1 ≤ m2 ∧ m2 ≤ 12) (hx : oh_dO b1 e1 x) (hy : oh_dO b2 e2 y) (hd : e1 ≤ 1000) (hd2 : e2 ≤ 1000) (d d2 : Nat) (k1 : b1 → d = e1) (k2 : ¬ b1 → d = 1) (k3 : b2 → d2 = e2) (k4 : ¬ b2 → d2 = oh_ml m2 1)
    (h1 : ∀ (xki' xst' xdn' xsn' xdf' xdt' xsf' xse' : Nat → Int32) (xds' xtd' xtm' : Nat → Int64), 1 ≤ d ∧ d ≤ oh_ml m 1 ∧ 1 ≤ d2 ∧ d2 ≤ oh_ml m2 1 → oh_XR xki' xst' xdn' xsn' xdf' xdt' xsf' xse' xds' xtd' xtm' i K (oh_ap S [(1, 32 * m + d, 32 * m2 + d2)]) → oh_FR xki xst xdn xsn xdf xdt xsf xse xds xtd xtm xki' xst' xdn' xsn' xdf' xdt' xsf' xse' xds' xtd' xtm' i → post 1 (xfw, xlp, xdy, xrl, xhz, xhc, xts, xos, xpd, xtc, xcu, xbk, xrt, xdc, xho, xtx, xou, xnm, xtk, xtv, xki', xst', xdn', xsn', xdf', xdt', xsf', xse', xds', xtd', xtm'))
    (h0 : ∀ (xki' xst' xdn' xsn' xdf' xdt' xsf' xse' : Nat → Int32) (xds' xtd' xtm' : Nat → Int64), ¬ (1 ≤ d ∧ d ≤ oh_ml m 1 ∧ 1 ≤ d2 ∧ d2 ≤ oh_ml m2 1) → oh_FR xki xst xdn xsn xdf xdt xsf xse xds xtd xtm xki' xst' xdn' xsn' xdf' xdt' xsf' xse' xds' xtd' xtm' i → post 0 (xfw, xlp, xdy, xrl, xhz, xhc, xts, xos, xpd, xtc, xcu, xbk, xrt, xdc, xho, xtx, xou, xnm, xtk, xtv, xki', xst', xdn', xsn', xdf', xdt', xsf', xse', xds', xtd', xtm')) : wX_readDate_98 post (nI i) (nI m) x (nI m2) y xfw xlp xdy xrl xhz xhc xts xos xpd xtc xcu xbk xrt xdc xho xtx xou xnm xtk xtv xki xst xdn xsn xdf xdt xsf xse xds xtd xtm := by
  have key : ∀ z : Int32, z = nI d → d ≤ 1000 → wX_readDate_108 post (nI i) (nI m) z (nI m2) y xfw xlp xdy xrl xhz xhc xts xos xpd xtc xcu xbk xrt xdc xho xtx xou xnm xtk xtv xki xst xdn xsn xdf xdt xsf xse xds xtd xtm := by
    intro z hz hdd
    subst hz
    unfold wX_readDate_108
    rcases hy with ⟨a, b⟩ | ⟨a, b⟩
    · subst b
      rw [← k3 a]
      have := k3 a
      exact br_f (oh_nI_ne2 (by omega)) (xl_124 hi hX hl hm hm2 hdd (by omega) h1 h0)
    · subst b
      refine br_t rfl (xl_ml m2 1 rfl rfl hm2.1 hm2.2 (by omega) ?_)
      have := oh_ml_in m2 1 (by omega)
      rw [← k4 a]
      have := k4 a
      exact xl_124 hi hX hl hm hm2 hdd (by omega) h1 h0
  unfold wX_readDate_98
  rcases hx with ⟨a, b⟩ | ⟨a, b⟩
  · subst b
    have := k1 a
    exact br_f (oh_nI_ne2 (by omega)) (key _ (by rw [k1 a]) (by omega))
  · subst b
    have := k2 a
    exact br_t rfl (key 1 (by rw [k2 a]; rfl) (by omega))
theorem oh_ok_c {tk : Nat → Nat} {N : Nat} {xtk xtv : Nat → Int32} (hT : oh_TX tk N xtk xtv) (k : Nat) : tk k - 1000 ≤ 1000 := by
  have := (oh_TX_v hT k).1
  unfold oh_vc at this
  omega
theorem xl_R3 {post : Int32 → SX → Prop} {i K p : Nat} {x : Int32} {S : Nat → List (Nat × Nat)} (hi : i < 12) (hT : oh_TX tk N xtk xtv) (hp : oh_cls (tk p) = 1) (hX : oh_XR xki xst xdn xsn xdf xdt xsf xse xds xtd xtm i K S) (hl : (S 1).length < 2) (hx : oh_dO (oh_cls (tk (p + 1)) = 3 ∧ ¬ tk (p + 1 + 1) = 58) (tk (p + 1) - 1000) x) (hq : ¬ tk (oh_qa tk (p + 1)) = 45)
    (h1 : ∀ it q (xki' xst' xdn' xsn' xdf' xdt' xsf' xse' : Nat → Int32) (xds' xtd' xtm' : Nat → Int64), oh_rM tk p = some (it, q) → oh_XR xki' xst' xdn' xsn' xdf' xdt' xsf' xse' xds' xtd' xtm' i K (oh_ap S [it]) → oh_FR xki xst xdn xsn xdf xdt xsf xse xds xtd xtm xki' xst' xdn' xsn' xdf' xdt' xsf' xse' xds' xtd' xtm' i → post 1 (xfw, xlp, xdy, xrl, xhz, xhc, xts, xos, xpd, nI (N + 1), nI (q + 1), xbk, xrt, xdc, xho, xtx, xou, xnm, xtk, xtv, xki', xst', xdn', xsn', xdf', xdt', xsf', xse', xds', xtd', xtm'))
    (h0 : ∀ c (xki' xst' xdn' xsn' xdf' xdt' xsf' xse' : Nat → Int32) (xds' xtd' xtm' : Nat → Int64), oh_rM tk p = none → oh_FR xki xst xdn xsn xdf xdt xsf xse xds xtd xtm xki' xst' xdn' xsn' xdf' xdt' xsf' xse' xds' xtd' xtm' i → post 0 (xfw, xlp, xdy, xrl, xhz, xhc, xts, xos, xpd, nI (N + 1), c, xbk, xrt, xdc, xho, xtx, xou, xnm, xtk, xtv, xki', xst', xdn', xsn', xdf', xdt', xsf', xse', xds', xtd', xtm')) : wX_readDate_37 post (nI i) (nI (tk p)) x 0 xfw xlp xdy xrl xhz xhc xts xos xpd (nI (N + 1)) (nI (oh_qa tk (p + 1) + 1)) xbk xrt xdc xho xtx xou xnm xtk xtv xki xst xdn xsn xdf xdt xsf xse xds xtd xtm := by
  have hm := oh_cls1.mp hp
  unfold wX_readDate_37 wX_readDate_38 wX_readDate_58 wX_readDate_71
  refine br_t rfl (br_t rfl (br_t rfl (br_t rfl ?_)))
  refine xl_98 hi hX hl hm hm hx hx (oh_ok_c hT _) (oh_ok_c hT _) (oh_dM tk (p + 1) 1) (oh_dM tk (p + 1) (oh_ml (tk p) 1)) (fun z => if_pos z) (fun z => if_neg z) (fun z => if_pos z) (fun z => if_neg z) ?_ ?_
  · intro _ _ _ _ _ _ _ _ _ _ _ hc hR hF
    refine h1 _ _ _ _ _ _ _ _ _ _ _ _ _ ?_ hR hF
    unfold oh_rM oh_fin
    rw [if_neg hq, if_pos hc]
  · intro _ _ _ _ _ _ _ _ _ _ _ hc hF
    refine h0 _ _ _ _ _ _ _ _ _ _ _ _ ?_ hF
    unfold oh_rM oh_fin
    rw [if_neg hq, if_neg hc]
theorem xl_R2 {post : Int32 → SX → Prop} {i K p : Nat} {x : Int32} {S : Nat → List (Nat × Nat)} (hi : i < 12) (hT : oh_TX tk N xtk xtv) (hp : oh_cls (tk p) = 1) (hX : oh_XR xki xst xdn xsn xdf xdt xsf xse xds xtd xtm i K S) (hl : (S 1).length < 2) (hx : oh_dO (oh_cls (tk (p + 1)) = 3 ∧ ¬ tk (p + 1 + 1) = 58) (tk (p + 1) - 1000) x) (hqp : oh_qa tk (p + 1) ≤ 190) (hq : tk (oh_qa tk (p + 1)) = 45) (hn : ¬ oh_cls (tk (oh_qa tk (p + 1) + 1)) = 1)
    (h1 : ∀ it q (xki' xst' xdn' xsn' xdf' xdt' xsf' xse' : Nat → Int32) (xds' xtd' xtm' : Nat → Int64), oh_rM tk p = some (it, q) → oh_XR xki' xst' xdn' xsn' xdf' xdt' xsf' xse' xds' xtd' xtm' i K (oh_ap S [it]) → oh_FR xki xst xdn xsn xdf xdt xsf xse xds xtd xtm xki' xst' xdn' xsn' xdf' xdt' xsf' xse' xds' xtd' xtm' i → post 1 (xfw, xlp, xdy, xrl, xhz, xhc, xts, xos, xpd, nI (N + 1), nI (q + 1), xbk, xrt, xdc, xho, xtx, xou, xnm, xtk, xtv, xki', xst', xdn', xsn', xdf', xdt', xsf', xse', xds', xtd', xtm'))
    (h0 : ∀ c (xki' xst' xdn' xsn' xdf' xdt' xsf' xse' : Nat → Int32) (xds' xtd' xtm' : Nat → Int64), oh_rM tk p = none → oh_FR xki xst xdn xsn xdf xdt xsf xse xds xtd xtm xki' xst' xdn' xsn' xdf' xdt' xsf' xse' xds' xtd' xtm' i → post 0 (xfw, xlp, xdy, xrl, xhz, xhc, xts, xos, xpd, nI (N + 1), c, xbk, xrt, xdc, xho, xtx, xou, xnm, xtk, xtv, xki', xst', xdn', xsn', xdf', xdt', xsf', xse', xds', xtd', xtm')) : wX_readDate_37 post (nI i) (nI (tk p)) x 1 xfw xlp xdy xrl xhz xhc xts xos xpd (nI (N + 1)) (nI (oh_qa tk (p + 1) + 1 + 1)) xbk xrt xdc xho xtx xou xnm xtk xtv xki xst xdn xsn xdf xdt xsf xse xds xtd xtm := by
  have hm := oh_cls1.mp hp
  unfold wX_readDate_37 wX_readDate_38 wX_readDate_58 wX_readDate_71
  refine br_f (by decide) (br_t rfl ?_)
  rcases hx with ⟨hb, hx⟩ | ⟨hb, hx⟩
  · subst hx
    have hb2 := oh_ok_c hT (p + 1)
    refine br_f (oh_nI_ne2 (by omega)) (br_t rfl (br_t rfl (br_f (by decide) ?_)))
    refine xl_num hT (by omega) (fun c3 => ?_) (fun c3 => ?_)
    · refine xl_98 (b1 := True) (b2 := True) hi hX hl hm hm (Or.inl ⟨trivial, rfl⟩) (Or.inl ⟨trivial, rfl⟩) (oh_ok_c hT _) (oh_ok_c hT _) (oh_dM tk (p + 1) 1) (tk (oh_qa tk (p + 1) + 1) - 1000) (fun _ => if_pos hb) (fun z => absurd trivial z) (fun _ => rfl) (fun z => absurd trivial z) ?_ ?_
      · intro _ _ _ _ _ _ _ _ _ _ _ hc hR hF
        refine h1 _ _ _ _ _ _ _ _ _ _ _ _ _ ?_ hR hF
        unfold oh_rM oh_fin
        rw [if_pos hq, if_neg hn, if_pos ⟨hb, c3⟩, if_pos hc]
      · intro _ _ _ _ _ _ _ _ _ _ _ hc hF
        refine h0 _ _ _ _ _ _ _ _ _ _ _ _ ?_ hF
        unfold oh_rM oh_fin
        rw [if_pos hq, if_neg hn, if_pos ⟨hb, c3⟩, if_neg hc]
    · refine xl_98 (b1 := True) (b2 := True) (e2 := 100) hi hX hl hm hm (Or.inl ⟨trivial, rfl⟩) (Or.inl ⟨trivial, rfl⟩) (oh_ok_c hT _) (by omega) (oh_dM tk (p + 1) 1) 100 (fun _ => if_pos hb) (fun z => absurd trivial z) (fun _ => rfl) (fun z => absurd trivial z) ?_ ?_
      · intro _ _ _ _ _ _ _ _ _ _ _ hc hR hF
        have := oh_ml_in (tk p) 1 (by omega)
        exact absurd hc.2.2.2 (by omega)
      · intro _ _ _ _ _ _ _ _ _ _ _ hc hF
        refine h0 _ _ _ _ _ _ _ _ _ _ _ _ ?_ hF
        unfold oh_rM
        rw [if_pos hq, if_neg hn, if_neg (fun z => c3 z.2)]
  · subst hx
    refine br_t rfl (h0 _ _ _ _ _ _ _ _ _ _ _ _ ?_ oh_FR_r)
    unfold oh_rM
    rw [if_pos hq, if_neg hn, if_neg (fun z => hb z.1)]
theorem xl_R1 {post : Int32 → SX → Prop} {i K p : Nat} {x : Int32} {S : Nat → List (Nat × Nat)} (hi : i < 12) (hT : oh_TX tk N xtk xtv) (hp : oh_cls (tk p) = 1) (hX : oh_XR xki xst xdn xsn xdf xdt xsf xse xds xtd xtm i K S) (hl : (S 1).length < 2) (hx : oh_dO (oh_cls (tk (p + 1)) = 3 ∧ ¬ tk (p + 1 + 1) = 58) (tk (p + 1) - 1000) x) (hqp : oh_qa tk (p + 1) ≤ 190) (hq : tk (oh_qa tk (p + 1)) = 45) (hn : oh_cls (tk (oh_qa tk (p + 1) + 1)) = 1)
    (h1 : ∀ it q (xki' xst' xdn' xsn' xdf' xdt' xsf' xse' : Nat → Int32) (xds' xtd' xtm' : Nat → Int64), oh_rM tk p = some (it, q) → oh_XR xki' xst' xdn' xsn' xdf' xdt' xsf' xse' xds' xtd' xtm' i K (oh_ap S [it]) → oh_FR xki xst xdn xsn xdf xdt xsf xse xds xtd xtm xki' xst' xdn' xsn' xdf' xdt' xsf' xse' xds' xtd' xtm' i → post 1 (xfw, xlp, xdy, xrl, xhz, xhc, xts, xos, xpd, nI (N + 1), nI (q + 1), xbk, xrt, xdc, xho, xtx, xou, xnm, xtk, xtv, xki', xst', xdn', xsn', xdf', xdt', xsf', xse', xds', xtd', xtm'))
    (h0 : ∀ c (xki' xst' xdn' xsn' xdf' xdt' xsf' xse' : Nat → Int32) (xds' xtd' xtm' : Nat → Int64), oh_rM tk p = none → oh_FR xki xst xdn xsn xdf xdt xsf xse xds xtd xtm xki' xst' xdn' xsn' xdf' xdt' xsf' xse' xds' xtd' xtm' i → post 0 (xfw, xlp, xdy, xrl, xhz, xhc, xts, xos, xpd, nI (N + 1), c, xbk, xrt, xdc, xho, xtx, xou, xnm, xtk, xtv, xki', xst', xdn', xsn', xdf', xdt', xsf', xse', xds', xtd', xtm')) : wX_readDate_38 post (nI i) (nI (tk p)) x 1 1 xfw xlp xdy xrl xhz xhc xts xos xpd (nI (N + 1)) (nI (oh_qa tk (p + 1) + 1 + 1)) xbk xrt xdc xho xtx xou xnm xtk xtv xki xst xdn xsn xdf xdt xsf xse xds xtd xtm := by
  have hm := oh_cls1.mp hp
  have hm2 := oh_cls1.mp hn
  unfold wX_readDate_38 wX_readDate_58
  refine br_f (by decide) (br_f (by decide) (br_f (by decide) ?_))
  refine xl_take hT (oh_TX_lt hT (by omega)) ?_
  rw [oh_vl1 hn]
  show wX_readDate_71 post _ _ _ _ _ _ xfw xlp xdy xrl xhz xhc xts xos xpd (nI (N + 1)) (nI (oh_qa tk (p + 1) + 1 + 1 + 1)) xbk xrt xdc xho xtx xou xnm xtk xtv xki xst xdn xsn xdf xdt xsf xse xds xtd xtm
  unfold wX_readDate_71
  refine br_f (by decide) ?_
  refine xl_dom (p := oh_qa tk (p + 1) + 1 + 1) hT (by omega) (fun b => ?_) (fun b => ?_)
  · refine xl_98 (b2 := True) hi hX hl hm hm2 hx (Or.inl ⟨trivial, rfl⟩) (oh_ok_c hT _) (oh_ok_c hT _) (oh_dM tk (p + 1) 1) (tk (oh_qa tk (p + 1) + 1 + 1) - 1000) (fun z => if_pos z) (fun z => if_neg z) (fun _ => rfl) (fun z => absurd trivial z) ?_ ?_
    · intro _ _ _ _ _ _ _ _ _ _ _ hc hR hF
      refine h1 _ (oh_qa tk (p + 1) + 1 + 1 + 1) _ _ _ _ _ _ _ _ _ _ _ ?_ hR hF
      unfold oh_rM
      rw [if_pos hq, if_pos hn]
      unfold oh_fin
      rw [show oh_dM tk (oh_qa tk (p + 1) + 2) (oh_ml (tk (oh_qa tk (p + 1) + 1)) 1) = tk (oh_qa tk (p + 1) + 1 + 1) - 1000 from if_pos b, if_pos hc, show oh_qa tk (oh_qa tk (p + 1) + 2) = oh_qa tk (p + 1) + 2 + 1 from if_pos b]
    · intro _ _ _ _ _ _ _ _ _ _ _ hc hF
      refine h0 _ _ _ _ _ _ _ _ _ _ _ _ ?_ hF
      unfold oh_rM
      rw [if_pos hq, if_pos hn]
      unfold oh_fin
      rw [show oh_dM tk (oh_qa tk (p + 1) + 2) (oh_ml (tk (oh_qa tk (p + 1) + 1)) 1) = tk (oh_qa tk (p + 1) + 1 + 1) - 1000 from if_pos b, if_neg hc]
  · refine xl_98 (b2 := False) (e2 := 0) hi hX hl hm hm2 hx (Or.inr ⟨id, rfl⟩) (oh_ok_c hT _) (by omega) (oh_dM tk (p + 1) 1) (oh_ml (tk (oh_qa tk (p + 1) + 1)) 1) (fun z => if_pos z) (fun z => if_neg z) (fun z => absurd z id) (fun _ => rfl) ?_ ?_
    · intro _ _ _ _ _ _ _ _ _ _ _ hc hR hF
      refine h1 _ (oh_qa tk (p + 1) + 1 + 1) _ _ _ _ _ _ _ _ _ _ _ ?_ hR hF
      unfold oh_rM
      rw [if_pos hq, if_pos hn]
      unfold oh_fin
      rw [show oh_dM tk (oh_qa tk (p + 1) + 2) (oh_ml (tk (oh_qa tk (p + 1) + 1)) 1) = oh_ml (tk (oh_qa tk (p + 1) + 1)) 1 from if_neg b, if_pos hc, show oh_qa tk (oh_qa tk (p + 1) + 2) = oh_qa tk (p + 1) + 2 from if_neg b]
    · intro _ _ _ _ _ _ _ _ _ _ _ hc hF
      refine h0 _ _ _ _ _ _ _ _ _ _ _ _ ?_ hF
      unfold oh_rM
      rw [if_pos hq, if_pos hn]
      unfold oh_fin
      rw [show oh_dM tk (oh_qa tk (p + 1) + 2) (oh_ml (tk (oh_qa tk (p + 1) + 1)) 1) = oh_ml (tk (oh_qa tk (p + 1) + 1)) 1 from if_neg b, if_neg hc]
theorem xl_date {post : Int32 → SX → Prop} {i K p : Nat} {S : Nat → List (Nat × Nat)} (hi : i < 12) (hT : oh_TX tk N xtk xtv) (hp : oh_cls (tk p) = 1) (hX : oh_XR xki xst xdn xsn xdf xdt xsf xse xds xtd xtm i K S) (hl : (S 1).length < 2)
    (h1 : ∀ it q (xki' xst' xdn' xsn' xdf' xdt' xsf' xse' : Nat → Int32) (xds' xtd' xtm' : Nat → Int64), oh_rM tk p = some (it, q) → oh_XR xki' xst' xdn' xsn' xdf' xdt' xsf' xse' xds' xtd' xtm' i K (oh_ap S [it]) → oh_FR xki xst xdn xsn xdf xdt xsf xse xds xtd xtm xki' xst' xdn' xsn' xdf' xdt' xsf' xse' xds' xtd' xtm' i → post 1 (xfw, xlp, xdy, xrl, xhz, xhc, xts, xos, xpd, nI (N + 1), nI (q + 1), xbk, xrt, xdc, xho, xtx, xou, xnm, xtk, xtv, xki', xst', xdn', xsn', xdf', xdt', xsf', xse', xds', xtd', xtm'))
    (h0 : ∀ c (xki' xst' xdn' xsn' xdf' xdt' xsf' xse' : Nat → Int32) (xds' xtd' xtm' : Nat → Int64), oh_rM tk p = none → oh_FR xki xst xdn xsn xdf xdt xsf xse xds xtd xtm xki' xst' xdn' xsn' xdf' xdt' xsf' xse' xds' xtd' xtm' i → post 0 (xfw, xlp, xdy, xrl, xhz, xhc, xts, xos, xpd, nI (N + 1), c, xbk, xrt, xdc, xho, xtx, xou, xnm, xtk, xtv, xki', xst', xdn', xsn', xdf', xdt', xsf', xse', xds', xtd', xtm')) : wpX_readDate post (xfw, xlp, xdy, xrl, xhz, xhc, xts, xos, xpd, nI (N + 1), nI (p + 1), xbk, xrt, xdc, xho, xtx, xou, xnm, xtk, xtv, xki, xst, xdn, xsn, xdf, xdt, xsf, xse, xds, xtd, xtm) (nI i) := by
  have hN := hT.1
  have hm := oh_cls1.mp hp
  have hpN := oh_TX_lt hT (k := p) (by omega)
  unfold wpX_readDate
  dsimp only
  refine xl_take hT hpN ?_
  rw [oh_vl1 hp]
  refine xl_dom (p := p + 1) hT (by omega) (fun b => ?_) (fun b => ?_)
  · have hq : oh_qa tk (p + 1) = p + 1 + 1 := if_pos b
    have hx : oh_dO (oh_cls (tk (p + 1)) = 3 ∧ ¬ tk (p + 1 + 1) = 58) (tk (p + 1) - 1000) (nI (tk (p + 1) - 1000)) := Or.inl ⟨b, rfl⟩
    rw [← hq]
    refine xl_acc 45 (by omega) hT (by omega) (fun a => br_f (by decide) ?_) (fun a => br_t rfl (xl_R3 hi hT hp hX hl hx a h1 h0))
    have hv := (oh_TX_v hT (oh_qa tk (p + 1) + 1)).1
    refine xl_lk (p := oh_qa tk (p + 1) + 1) (j := 0) 77 (by omega) hT (by omega) (by omega) (fun g => ?_) (fun g => ?_)
    · exact xl_R1 hi hT hp hX hl hx (by omega) a ((oh_kd77 hv).mp g) h1 h0
    · exact xl_R2 hi hT hp hX hl hx (by omega) a (fun z => g ((oh_kd77 hv).mpr z)) h1 h0
  · have hq : oh_qa tk (p + 1) = p + 1 := if_neg b
    have hx : oh_dO (oh_cls (tk (p + 1)) = 3 ∧ ¬ tk (p + 1 + 1) = 58) (tk (p + 1) - 1000) (-2) := Or.inr ⟨b, rfl⟩
    have e : nI (p + 1 + 1) = nI (oh_qa tk (p + 1) + 1) := by rw [hq]
    rw [e]
    refine xl_acc 45 (by omega) hT (by omega) (fun a => br_f (by decide) ?_) (fun a => br_t rfl (xl_R3 hi hT hp hX hl hx a h1 h0))
    have hv := (oh_TX_v hT (oh_qa tk (p + 1) + 1)).1
    refine xl_lk (p := oh_qa tk (p + 1) + 1) (j := 0) 77 (by omega) hT (by omega) (by omega) (fun g => ?_) (fun g => ?_)
    · exact xl_R1 hi hT hp hX hl hx (by omega) a ((oh_kd77 hv).mp g) h1 h0
    · exact xl_R2 hi hT hp hX hl hx (by omega) a (fun z => g ((oh_kd77 hv).mpr z)) h1 h0
end
end
section
/-! ===== X: weekdays and spans ===== -/
section
variable {xfw xlp xdy xrl xhz xhc xts xos xpd xtc xcu xbk xrt : Int32} {xdc xho xtx xou xtk xtv xki xst xdn xsn xdf xdt xsf xse : Nat → Int32} {xnm xds xtd xtm : Nat → Int64} {tk : Nat → Nat} {N : Nat}
theorem xl_n45 {post : Int32 → SX → Prop} {i K w v fe lim : Nat} {S : Nat → List (Nat × Nat)} (hi : i < 12) (hX : oh_XR xki xst xdn xsn xdf xdt xsf xse xds xtd xtm i K S) (hw : w ≤ 6) (hv1 : 1 ≤ v) (hv : v ≤ 1000) (hfe : (fe = 0 ∧ lim = 5) ∨ (fe = 1 ∧ lim = 1))
    (h1 : v ≤ lim → ∀ (xki' xst' xdn' xsn' xdf' xdt' xsf' xse' : Nat → Int32) (xds' xtd' xtm' : Nat → Int64), oh_XR xki' xst' xdn' xsn' xdf' xdt' xsf' xse' xds' xtd' xtm' i K (oh_ap S [(3, w, if fe = 0 then v else 6)]) → oh_FR xki xst xdn xsn xdf xdt xsf xse xds xtd xtm xki' xst' xdn' xsn' xdf' xdt' xsf' xse' xds' xtd' xtm' i → post 1 (xfw, xlp, xdy, xrl, xhz, xhc, xts, xos, xpd, xtc, xcu, xbk, xrt, xdc, xho, xtx, xou, xnm, xtk, xtv, xki', xst', xdn', xsn', xdf', xdt', xsf', xse', xds', xtd', xtm'))
    (h0 : ¬ v ≤ lim → post 0 (xfw, xlp, xdy, xrl, xhz, xhc, xts, xos, xpd, xtc, xcu, xbk, xrt, xdc, xho, xtx, xou, xnm, xtk, xtv, xki, xst, xdn, xsn, xdf, xdt, xsf, xse, xds, xtd, xtm)) : wX_readNth_45 post (nI i) (nI w) (nI fe) (nI v) (nI lim) (nI v) xfw xlp xdy xrl xhz xhc xts xos xpd xtc xcu xbk xrt xdc xho xtx xou xnm xtk xtv xki xst xdn xsn xdf xdt xsf xse xds xtd xtm := by
  have hc := nI_clamp (n := i) (by omega)
  unfold wX_readNth_45
  refine pk_le v lim (fun a => ⟨vp_in_nI (by omega) (by omega), ?_⟩) (fun a => h0 (by omega))
  have e6 : (8 : Int32) + 6 * nI w = nI (8 + 6 * w) := by rw [show (6 : Int32) * nI w = nI (6 * w) from pk_mul 6 w]; exact nI_add 8 _
  have h1 := h1 a
  rw [hc]
  refine pk_eq fe 0 (fun b => ⟨vp_in_nI (by omega) (by omega), ?_⟩) (fun b => ⟨vp_in_nI (by omega) (by omega), ?_⟩)
  · have e7 : (8 : Int32) + 6 * nI w + (nI v - 1) = nI (8 + 6 * w + (v - 1)) := by
      rw [e6, show nI v - 1 = nI (v - 1) from pk_sub (a := v) (b := 1) hv1, nI_add]
    rw [e7]
    rw [if_pos b] at h1
    refine nm_e (h1 _ _ _ _ _ _ _ _ _ _ _ (oh_XR_ds hX (Or.inr (Or.inl rfl)) (fun j hj => ?_)) (oh_FR_ds (fun k hk => pk_uLn hk)))
    rw [pk_uLs, oh_b_set (by omega) hj, oh_dsb_n hw hv1 (by omega), hX.2.2.1 j hj]
  · have e7 : (8 : Int32) + 6 * nI w + 5 = nI (8 + 6 * w + (6 - 1)) := by
      rw [e6]; exact nI_add _ 5
    rw [e7]
    rw [if_neg b] at h1
    refine nm_e (h1 _ _ _ _ _ _ _ _ _ _ _ (oh_XR_ds hX (Or.inr (Or.inl rfl)) (fun j hj => ?_)) (oh_FR_ds (fun k hk => pk_uLn hk)))
    rw [pk_uLs, oh_b_set (by omega) hj, oh_dsb_n hw (by omega) (by omega), hX.2.2.1 j hj]
theorem xl_nth {post : Int32 → SX → Prop} {i K p : Nat} {S : Nat → List (Nat × Nat)} (hi : i < 12) (hT : oh_TX tk N xtk xtv) (hp : oh_cls (tk p) = 2) (hX : oh_XR xki xst xdn xsn xdf xdt xsf xse xds xtd xtm i K S) (h91 : tk (p + 1) = 91)
    (h1 : ∀ it q (xki' xst' xdn' xsn' xdf' xdt' xsf' xse' : Nat → Int32) (xds' xtd' xtm' : Nat → Int64), oh_rW tk p = some (it, q) → oh_XR xki' xst' xdn' xsn' xdf' xdt' xsf' xse' xds' xtd' xtm' i K (oh_ap S [it]) → oh_FR xki xst xdn xsn xdf xdt xsf xse xds xtd xtm xki' xst' xdn' xsn' xdf' xdt' xsf' xse' xds' xtd' xtm' i → post 1 (xfw, xlp, xdy, xrl, xhz, xhc, xts, xos, xpd, nI (N + 1), nI (q + 1), xbk, xrt, xdc, xho, xtx, xou, xnm, xtk, xtv, xki', xst', xdn', xsn', xdf', xdt', xsf', xse', xds', xtd', xtm'))
    (h0 : ∀ c (xki' xst' xdn' xsn' xdf' xdt' xsf' xse' : Nat → Int32) (xds' xtd' xtm' : Nat → Int64), oh_rW tk p = none → oh_FR xki xst xdn xsn xdf xdt xsf xse xds xtd xtm xki' xst' xdn' xsn' xdf' xdt' xsf' xse' xds' xtd' xtm' i → post 0 (xfw, xlp, xdy, xrl, xhz, xhc, xts, xos, xpd, nI (N + 1), c, xbk, xrt, xdc, xho, xtx, xou, xnm, xtk, xtv, xki', xst', xdn', xsn', xdf', xdt', xsf', xse', xds', xtd', xtm')) : wpX_readNth post (xfw, xlp, xdy, xrl, xhz, xhc, xts, xos, xpd, nI (N + 1), nI (p + 2 + 1), xbk, xrt, xdc, xho, xtx, xou, xnm, xtk, xtv, xki, xst, xdn, xsn, xdf, xdt, xsf, xse, xds, xtd, xtm) (nI i) (nI (tk p - 13)) := by
  have hN := hT.1
  have hw := oh_cls2.mp hp
  have hpN := oh_TX_lt hT (k := p) (by omega)
  have hrW : oh_rW tk p = if tk (p + 2) = 45 then (if oh_cls (tk (p + 2 + 1)) = 3 ∧ tk (p + 2 + 1 + 1) = 93 ∧ tk p - 13 ≤ 6 ∧ tk (p + 2 + 1) = 1001 then some ((3, tk p - 13, 6), p + 5) else none)
    else if oh_cls (tk (p + 2)) = 3 ∧ tk (p + 2 + 1) = 93 ∧ tk p - 13 ≤ 6 ∧ 1001 ≤ tk (p + 2) ∧ tk (p + 2) ≤ 1005 then some ((3, tk p - 13, tk (p + 2) - 1000), p + 4) else none := by unfold oh_rW; exact if_pos h91
  have hr1 : oh_rW tk p = none → ∀ c, post 0 (xfw, xlp, xdy, xrl, xhz, xhc, xts, xos, xpd, nI (N + 1), c, xbk, xrt, xdc, xho, xtx, xou, xnm, xtk, xtv, xki, xst, xdn, xsn, xdf, xdt, xsf, xse, xds, xtd, xtm) := fun z c => h0 c _ _ _ _ _ _ _ _ _ _ _ z oh_FR_r
  unfold wpX_readNth
  dsimp only
  refine xl_acc 45 (by omega) hT (by omega) (fun a => ?_) (fun a => ?_)
  · rw [if_pos a] at hrW
    dsimp only
    refine xl_num (p := p + 2 + 1) hT (by omega) (fun c3 => ?_) (fun c3 => ?_)
    · have hb := oh_c3 (oh_TX_v hT _).1 c3
      dsimp only
      refine xl_acc (p := p + 2 + 1 + 1) 93 (by omega) hT (by omega) (fun b => ?_) (fun b => ?_)
      · dsimp only
        refine br_f (by decide) ?_
        refine pk_lt 6 (tk p - 13) (fun g => hr1 (by rw [hrW, if_neg (fun z => absurd z.2.2.1 (by omega))]) _) (fun g => ?_)
        refine pk_lt (tk (p + 2 + 1) - 1000) 1 (fun g2 => hr1 (by rw [hrW, if_neg (fun z => absurd z.2.2.2 (by omega))]) _) (fun g2 => ?_)
        refine br_f (by decide) ?_
        refine xl_n45 (fe := 1) (lim := 1) hi hX (by omega) (by omega) (by omega) (Or.inr ⟨rfl, rfl⟩) (fun g3 => ?_) (fun g3 => hr1 (by rw [hrW, if_neg (fun z => absurd z.2.2.2 (by omega))]) _)
        intro _ _ _ _ _ _ _ _ _ _ _ hR hF
        exact h1 (3, tk p - 13, 6) (p + 5) _ _ _ _ _ _ _ _ _ _ _ (by rw [hrW, if_pos ⟨c3, b, by omega, by omega⟩]) hR hF
      · dsimp only
        exact br_t rfl (hr1 (by rw [hrW, if_neg (fun z => b z.2.1)]) _)
    · have hno := hr1 (by rw [hrW, if_neg (fun z => c3 z.1)])
      dsimp only
      refine xl_acc (p := p + 2 + 1) 93 (by omega) hT (by omega) (fun b => ?_) (fun b => ?_)
      · dsimp only
        refine br_f (by decide) ?_
        refine pk_lt 6 (tk p - 13) (fun g => hno _) (fun g => ?_)
        refine br_f (by decide) (br_f (by decide) ?_)
        exact xl_n45 (v := 100) (fe := 1) (lim := 1) hi hX (by omega) (by omega) (by omega) (Or.inr ⟨rfl, rfl⟩) (fun g3 => absurd g3 (by omega)) (fun _ => hno _)
      · dsimp only
        exact br_t rfl (hno _)
  · rw [if_neg a] at hrW
    dsimp only
    refine xl_num (p := p + 2) hT (by omega) (fun c3 => ?_) (fun c3 => ?_)
    · have hb := oh_c3 (oh_TX_v hT _).1 c3
      dsimp only
      refine xl_acc (p := p + 2 + 1) 93 (by omega) hT (by omega) (fun b => ?_) (fun b => ?_)
      · dsimp only
        refine br_f (by decide) ?_
        refine pk_lt 6 (tk p - 13) (fun g => hr1 (by rw [hrW, if_neg (fun z => absurd z.2.2.1 (by omega))]) _) (fun g => ?_)
        refine pk_lt (tk (p + 2) - 1000) 1 (fun g2 => hr1 (by rw [hrW, if_neg (fun z => absurd z.2.2.2.1 (by omega))]) _) (fun g2 => ?_)
        refine br_t rfl ?_
        refine xl_n45 (fe := 0) (lim := 5) hi hX (by omega) (by omega) (by omega) (Or.inl ⟨rfl, rfl⟩) (fun g3 => ?_) (fun g3 => hr1 (by rw [hrW, if_neg (fun z => absurd z.2.2.2.2 (by omega))]) _)
        intro _ _ _ _ _ _ _ _ _ _ _ hR hF
        exact h1 (3, tk p - 13, tk (p + 2) - 1000) (p + 4) _ _ _ _ _ _ _ _ _ _ _ (by rw [hrW, if_pos ⟨c3, b, by omega, by omega, by omega⟩]) hR hF
      · dsimp only
        exact br_t rfl (hr1 (by rw [hrW, if_neg (fun z => b z.2.1)]) _)
    · have hno := hr1 (by rw [hrW, if_neg (fun z => c3 z.1)])
      dsimp only
      refine xl_acc (p := p + 2) 93 (by omega) hT (by omega) (fun b => ?_) (fun b => ?_)
      · dsimp only
        refine br_f (by decide) ?_
        refine pk_lt 6 (tk p - 13) (fun g => hno _) (fun g => ?_)
        refine br_f (by decide) (br_t rfl ?_)
        exact xl_n45 (v := 100) (fe := 0) (lim := 5) hi hX (by omega) (by omega) (by omega) (Or.inl ⟨rfl, rfl⟩) (fun g3 => absurd g3 (by omega)) (fun _ => hno _)
      · dsimp only
        exact br_t rfl (hno _)
theorem oh_cnt7 {f l : Nat} (hf : f ≤ 7) (hl : l ≤ 7) : (nI l - nI f + 7) - (nI l - nI f + 7) / 7 * 7 = nI ((l + 7 - f) % 7) := by
  have e : nI l - nI f + 7 = nI (l + 7 - f) := by
    rw [← pk_sub (a := l + 7) (b := f) (by omega), ← nI_add]
    show nI l - nI f + nI 7 = nI l + nI 7 - nI f
    generalize nI l = a
    generalize nI f = b
    generalize nI 7 = c
    grind
  exact oh_rem (l + 7 - f) 7 e rfl (by omega) (by omega) (by omega)
theorem xl_67 {post : Int32 → SX → Prop} {i f l : Nat} {base : Nat → Bool} (hi : i < 12) (hf : f ≤ 7) (hl : l ≤ 7)
    (h : ∀ ds' : Nat → Int64, (∀ k, ¬ k = i → ds' k = xds k) → (∀ j, j < 64 → oh_b (ds' i) j = (base j || (List.range ((l + 7 - f) % 7 + 1)).any (fun t => decide (j = (f + t) % 7)))) → (f < 7 ∧ l < 7 → post 1 (xfw, xlp, xdy, xrl, xhz, xhc, xts, xos, xpd, xtc, xcu, xbk, xrt, xdc, xho, xtx, xou, xnm, xtk, xtv, xki, xst, xdn, xsn, xdf, xdt, xsf, xse, ds', xtd, xtm)) ∧ (¬ (f < 7 ∧ l < 7) → post 0 (xfw, xlp, xdy, xrl, xhz, xhc, xts, xos, xpd, xtc, xcu, xbk, xrt, xdc, xho, xtx, xou, xnm, xtk, xtv, xki, xst, xdn, xsn, xdf, xdt, xsf, xse, ds', xtd, xtm))) : ∀ (d n fu : Nat) (ds' : Nat → Int64), n + d = (l + 7 - f) % 7 + 1 → d < fu → (∀ k, ¬ k = i → ds' k = xds k) → (∀ j, j < 64 → oh_b (ds' i) j = (base j || (List.range n).any (fun t => decide (j = (f + t) % 7)))) → wX_readDay_67 post (nI i) (nI f) (nI l) xfw xlp xdy xrl xhz xhc xts xos xpd xtc xcu xbk xrt fu (nI n) xdc xho xtx xou xnm xtk xtv xki xst xdn xsn xdf xdt xsf xse ds' xtd xtm
  | 0, n, 0, _, _, hf, _, _ => absurd hf (by omega)
  | 0, n, fu + 1, ds', hd, _, hk, hj => by
    rw [wX_readDay_67, oh_cnt7 hf hl]
    have hn : n = (l + 7 - f) % 7 + 1 := by omega
    rw [hn] at hj
    have hh := h ds' hk hj
    refine ⟨by decide, pk_lt ((l + 7 - f) % 7) n (fun _ => ?_) (fun a => absurd a (by omega))⟩
    exact pk_le 7 f (fun a => hh.2 (by omega)) (fun a => pk_le 7 l (fun b => hh.2 (by omega)) (fun b => hh.1 (by omega)))
  | d + 1, n, 0, _, _, hf, _, _ => absurd hf (by omega)
  | d + 1, n, fu + 1, ds', hd, hfu, hk, hj => by
    rw [wX_readDay_67, oh_cnt7 hf hl]
    have hc := nI_clamp (n := i) (by omega)
    refine ⟨by decide, pk_lt ((l + 7 - f) % 7) n (fun a => absurd a (by omega)) (fun _ => ⟨vp_in_nI (by omega) (by omega), by decide, vp_in_nI (by omega) (by omega), ?_⟩)⟩
    have e : nI f + nI n - (nI f + nI n) / 7 * 7 = nI ((f + n) % 7) := oh_rem (f + n) 7 (nI_add f n) rfl (by omega) (by omega) (by omega)
    rw [e, hc]
    refine nm_e (nm_r (nI_1 n) ?_)
    refine xl_67 hi hf hl h d (n + 1) fu _ (by omega) (by omega) (fun k hki => by rw [pk_uLn hki]; exact hk k hki) (fun j hj64 => ?_)
    rw [pk_uLs, oh_b_set (by omega) hj64, hj j hj64, List.range_succ, List.any_append, Bool.or_assoc]
    simp
theorem xl_day {post : Int32 → SX → Prop} {i K p : Nat} {S : Nat → List (Nat × Nat)} (hi : i < 12) (hT : oh_TX tk N xtk xtv) (hp : oh_cls (tk p) = 2) (hX : oh_XR xki xst xdn xsn xdf xdt xsf xse xds xtd xtm i K S)
    (h1 : ∀ it q (xki' xst' xdn' xsn' xdf' xdt' xsf' xse' : Nat → Int32) (xds' xtd' xtm' : Nat → Int64), oh_rW tk p = some (it, q) → oh_XR xki' xst' xdn' xsn' xdf' xdt' xsf' xse' xds' xtd' xtm' i K (oh_ap S [it]) → oh_FR xki xst xdn xsn xdf xdt xsf xse xds xtd xtm xki' xst' xdn' xsn' xdf' xdt' xsf' xse' xds' xtd' xtm' i → post 1 (xfw, xlp, xdy, xrl, xhz, xhc, xts, xos, xpd, nI (N + 1), nI (q + 1), xbk, xrt, xdc, xho, xtx, xou, xnm, xtk, xtv, xki', xst', xdn', xsn', xdf', xdt', xsf', xse', xds', xtd', xtm'))
    (h0 : ∀ c (xki' xst' xdn' xsn' xdf' xdt' xsf' xse' : Nat → Int32) (xds' xtd' xtm' : Nat → Int64), oh_rW tk p = none → oh_FR xki xst xdn xsn xdf xdt xsf xse xds xtd xtm xki' xst' xdn' xsn' xdf' xdt' xsf' xse' xds' xtd' xtm' i → post 0 (xfw, xlp, xdy, xrl, xhz, xhc, xts, xos, xpd, nI (N + 1), c, xbk, xrt, xdc, xho, xtx, xou, xnm, xtk, xtv, xki', xst', xdn', xsn', xdf', xdt', xsf', xse', xds', xtd', xtm')) : wpX_readDay post (xfw, xlp, xdy, xrl, xhz, xhc, xts, xos, xpd, nI (N + 1), nI (p + 1), xbk, xrt, xdc, xho, xtx, xou, xnm, xtk, xtv, xki, xst, xdn, xsn, xdf, xdt, xsf, xse, xds, xtd, xtm) (nI i) := by
  have hN := hT.1
  have hw := oh_cls2.mp hp
  have hpN := oh_TX_lt hT (k := p) (by omega)
  have hc := nI_clamp (n := i) (by omega)
  unfold wpX_readDay
  dsimp only
  refine xl_take hT hpN ?_
  rw [oh_vl2 hp]
  dsimp only
  refine xl_acc (p := p + 1) 91 (by omega) hT (by omega) (fun a => ?_) (fun a => ?_)
  · dsimp only
    refine br_f (by decide) ?_
    refine xl_nth hi hT hp hX a ?_ ?_
    · intro it q _ _ _ _ _ _ _ _ _ _ _ e hR hF
      exact ⟨narrow_b1, h1 it q _ _ _ _ _ _ _ _ _ _ _ e hR hF⟩
    · intro c _ _ _ _ _ _ _ _ _ _ _ e hF
      exact ⟨narrow_b0, h0 c _ _ _ _ _ _ _ _ _ _ _ e hF⟩
  · dsimp only
    refine br_t rfl ⟨vp_in_nI (by omega) (by omega), vp_in_nI (by omega) (by omega), ?_⟩
    rw [hc]
    have hb0 : ∀ j, j < 64 → oh_b (xds i ||| ((1 : Int64) <<< ((nI (tk p - 13)).toInt64 &&& 63))) j = (oh_dsb S j || decide (j = tk p - 13)) := fun j hj => by rw [oh_b_set (by omega) hj, hX.2.2.1 j hj]
    refine nm_e ?_
    revert hb0
    generalize xds i ||| ((1 : Int64) <<< ((nI (tk p - 13)).toInt64 &&& 63)) = v
    intro hb0
    have hrun : ∀ l : Nat, l ≤ 7 → ∀ ds' : Nat → Int64, (∀ j, j < 64 → oh_b (ds' i) j = ((oh_dsb S j || decide (j = tk p - 13)) || (List.range ((l + 7 - (tk p - 13)) % 7 + 1)).any (fun t => decide (j = (tk p - 13 + t) % 7)))) → tk p - 13 < 7 ∧ l < 7 → oh_XR xki xst xdn xsn xdf xdt xsf xse ds' xtd xtm i K (oh_ap S [(2, tk p - 13, l)]) := by
      intro l hl ds' hj hz
      refine oh_XR_ds hX (Or.inl rfl) (fun j hj64 => ?_)
      rw [hj j hj64, Bool.or_assoc, oh_run7 _ hz.1 l hz.2 j hj64, oh_dsb_w]
    have hfr : ∀ ds' : Nat → Int64, (∀ k, ¬ k = i → ds' k = vp_updL xds i v k) → oh_FR xki xst xdn xsn xdf xdt xsf xse xds xtd xtm xki xst xdn xsn xdf xdt xsf xse ds' xtd xtm i := fun ds' hk => oh_FR_ds (fun k hki => by rw [hk k hki, pk_uLn hki])
    refine xl_acc (p := p + 1) 45 (by omega) hT (by omega) (fun b => ?_) (fun b => ?_)
    · have hrW : oh_rW tk p = if tk p - 13 ≤ 6 ∧ 13 ≤ tk (p + 2) ∧ tk (p + 2) ≤ 19 then some ((2, tk p - 13, tk (p + 2) - 13), p + 3) else none := by
        unfold oh_rW; rw [if_neg a, if_pos b]
      have hv2 := (oh_TX_v hT (p + 2)).1
      dsimp only
      refine br_f (by decide) ?_
      refine xl_lk (p := p + 2) (j := 0) 87 (by omega) hT (by omega) (by omega) (fun g => ?_) (fun g => ?_)
      · have g2 : oh_cls (tk (p + 2)) = 2 := (oh_kd87 hv2).mp g
        have g3 := oh_cls2.mp g2
        refine xl_take (p := p + 2) hT (oh_TX_lt hT (by omega)) ?_
        rw [oh_vl2 g2]
        dsimp only
        refine ⟨9, ?_⟩
        refine xl_67 (f := tk p - 13) (l := tk (p + 2) - 13) hi (by omega) (by omega) (base := fun j => oh_dsb S j || decide (j = tk p - 13)) ?_ ((tk (p + 2) - 13 + 7 - (tk p - 13)) % 7 + 1) 0 9 (vp_updL xds i v) (by omega) (by omega) (fun _ _ => rfl) (fun j hj => ?_)
        · intro ds' hk hj
          refine ⟨fun z => ?_, fun z => ?_⟩
          · exact h1 _ (p + 3) _ _ _ _ _ _ _ _ _ _ _ (by rw [hrW, if_pos (by omega)]) (hrun _ (by omega) ds' hj z) (hfr ds' hk)
          · exact h0 _ _ _ _ _ _ _ _ _ _ _ _ (by rw [hrW, if_neg (by omega)]) (hfr ds' hk)
        · rw [pk_uLs, hb0 j hj]; simp
      · have g2 : ¬ oh_cls (tk (p + 2)) = 2 := fun z => g ((oh_kd87 hv2).mpr z)
        rw [oh_cls2] at g2
        refine ⟨9, ?_⟩
        refine xl_67 (f := tk p - 13) (l := 7) hi (by omega) (by omega) (base := fun j => oh_dsb S j || decide (j = tk p - 13)) ?_ ((7 + 7 - (tk p - 13)) % 7 + 1) 0 9 (vp_updL xds i v) (by omega) (by omega) (fun _ _ => rfl) (fun j hj => ?_)
        · intro ds' hk hj
          refine ⟨fun z => absurd z.2 (by omega), fun z => ?_⟩
          exact h0 _ _ _ _ _ _ _ _ _ _ _ _ (by rw [hrW, if_neg (by omega)]) (hfr ds' hk)
        · rw [pk_uLs, hb0 j hj]; simp
    · dsimp only
      refine br_t rfl ?_
      by_cases g : tk p - 13 = 7
      · refine h1 (4, 0, 0) (p + 1) _ _ _ _ _ _ _ _ _ _ _ (by unfold oh_rW; rw [if_neg a, if_neg b, if_pos g]) (oh_XR_ds hX (Or.inr (Or.inr rfl)) (fun j hj => ?_)) (oh_FR_ds (fun k hk => pk_uLn hk))
        rw [pk_uLs, hb0 j hj, oh_dsb_p, g]
      · refine h1 (2, tk p - 13, tk p - 13) (p + 1) _ _ _ _ _ _ _ _ _ _ _ (by unfold oh_rW; rw [if_neg a, if_neg b, if_neg g]) (oh_XR_ds hX (Or.inl rfl) (fun j hj => ?_)) (oh_FR_ds (fun k hk => pk_uLn hk))
        rw [pk_uLs, hb0 j hj, oh_dsb_w]
        have e : (decide (j < 7) && oh_wk j (tk p - 13, tk p - 13)) = decide (j = tk p - 13) := by
          unfold oh_wk
          dsimp only
          rw [if_pos (Nat.le_refl _)]
          by_cases z : j = tk p - 13
          · rw [decide_eq_true z, decide_eq_true (show j < 7 by omega), decide_eq_true (show tk p - 13 ≤ j ∧ j ≤ tk p - 13 by omega)]; rfl
          · rw [decide_eq_false z, decide_eq_false (show ¬ (tk p - 13 ≤ j ∧ j ≤ tk p - 13) by omega), Bool.and_false]
        rw [e]
/-! times -/
theorem oh_nI_neg {n : Nat} (h : n < 2 ^ 31) : ¬ nI n = (-1 : Int32) := fun q => by
  have := congrArg Int32.toInt q
  rw [nI_toInt (by omega)] at this
  have e : (-1 : Int32).toInt = -1 := by decide
  rw [e] at this
  omega
theorem xl_23 {post : Int32 → SX → Prop} {lat h m : Nat} (hl : lat ≤ 48) (hh : h ≤ 100) (hm : m ≤ 100) (h1 : (m = 0 ∨ m = 30) → 2 * h + m / 30 ≤ lat → post (nI (2 * h + m / 30)) (xfw, xlp, xdy, xrl, xhz, xhc, xts, xos, xpd, xtc, xcu, xbk, xrt, xdc, xho, xtx, xou, xnm, xtk, xtv, xki, xst, xdn, xsn, xdf, xdt, xsf, xse, xds, xtd, xtm)) (h0 : ¬ ((m = 0 ∨ m = 30) ∧ 2 * h + m / 30 ≤ lat) → post (-1) (xfw, xlp, xdy, xrl, xhz, xhc, xts, xos, xpd, xtc, xcu, xbk, xrt, xdc, xho, xtx, xou, xnm, xtk, xtv, xki, xst, xdn, xsn, xdf, xdt, xsf, xse, xds, xtd, xtm)) : wX_readTime_23 post (nI lat) (nI h) (nI m) xfw xlp xdy xrl xhz xhc xts xos xpd xtc xcu xbk xrt xdc xho xtx xou xnm xtk xtv xki xst xdn xsn xdf xdt xsf xse xds xtd xtm := by
  unfold wX_readTime_23 wX_readTime_44
  have e : (2 : Int32) * nI h + nI m / 30 = nI (2 * h + m / 30) := by
    rw [show (2 : Int32) * nI h = nI (2 * h) from pk_mul 2 h, show nI m / 30 = nI (m / 30) from pk_div (a := m) (d := 30) (by omega) (by omega) (by omega), nI_add]
  refine ⟨by decide, nm_r e ?_⟩
  refine pk_eq m 0 (fun a => pk_lt lat (2 * h + m / 30) (fun b => h0 (by omega)) (fun b => h1 (by omega) (by omega))) (fun a => pk_eq m 30 (fun a2 => pk_lt lat (2 * h + m / 30) (fun b => h0 (by omega)) (fun b => h1 (by omega) (by omega))) (fun a2 => h0 (by omega)))
theorem xl_time {post : Int32 → SX → Prop} {p lat : Nat} (hT : oh_TX tk N xtk xtv) (hp : p ≤ 190) (hl : lat ≤ 48)
    (h1 : oh_cls (tk p) = 3 ∧ tk (p + 1) = 58 ∧ (tk (p + 2) = 1000 ∨ tk (p + 2) = 1030) ∧ oh_ti tk p ≤ lat → post (nI (oh_ti tk p)) (xfw, xlp, xdy, xrl, xhz, xhc, xts, xos, xpd, nI (N + 1), nI (p + 3 + 1), xbk, xrt, xdc, xho, xtx, xou, xnm, xtk, xtv, xki, xst, xdn, xsn, xdf, xdt, xsf, xse, xds, xtd, xtm))
    (h0 : ¬ (oh_cls (tk p) = 3 ∧ tk (p + 1) = 58 ∧ (tk (p + 2) = 1000 ∨ tk (p + 2) = 1030) ∧ oh_ti tk p ≤ lat) → ∀ q, q ≤ p + 3 → post (-1) (xfw, xlp, xdy, xrl, xhz, xhc, xts, xos, xpd, nI (N + 1), nI (q + 1), xbk, xrt, xdc, xho, xtx, xou, xnm, xtk, xtv, xki, xst, xdn, xsn, xdf, xdt, xsf, xse, xds, xtd, xtm)) : wpX_readTime post (xfw, xlp, xdy, xrl, xhz, xhc, xts, xos, xpd, nI (N + 1), nI (p + 1), xbk, xrt, xdc, xho, xtx, xou, xnm, xtk, xtv, xki, xst, xdn, xsn, xdf, xdt, xsf, xse, xds, xtd, xtm) (nI lat) := by
  have hv0 := (oh_TX_v hT p).1
  have hv1 := (oh_TX_v hT (p + 1)).1
  have hv2 := (oh_TX_v hT (p + 2)).1
  unfold wpX_readTime
  dsimp only
  refine xl_num hT (by omega) (fun c3 => ?_) (fun c3 => ?_)
  · have hb := oh_c3 hv0 c3
    dsimp only
    refine xl_acc (p := p + 1) 58 (by omega) hT (by omega) (fun a => ?_) (fun a => ?_)
    · dsimp only
      refine br_f (by decide) ?_
      refine xl_num (p := p + 2) hT (by omega) (fun d3 => ?_) (fun d3 => ?_)
      · have hb2 := oh_c3 hv2 d3
        refine xl_23 (lat := lat) (h := tk p - 1000) (m := tk (p + 2) - 1000) hl (by omega) (by omega) (fun z y => ?_) (fun z => ?_)
        · exact h1 ⟨c3, a, by omega, y⟩
        · exact h0 (fun y => z ⟨by omega, y.2.2.2⟩) (p + 3) (by omega)
      · rw [oh_cls3] at d3
        refine xl_23 (lat := lat) (h := tk p - 1000) (m := 100) hl (by omega) (by omega) (fun z y => absurd z (by omega)) (fun z => h0 (fun y => ?_) (p + 2) (by omega))
        omega
    · dsimp only
      refine br_t rfl ?_
      refine xl_23 (lat := lat) (h := tk p - 1000) (m := 100) hl (by omega) (by omega) (fun z y => absurd z (by omega)) (fun z => h0 (fun y => a y.2.1) (p + 1) (by omega))
  · have hno := h0 (fun y => c3 y.1)
    dsimp only
    refine xl_acc (p := p) 58 (by omega) hT (by omega) (fun a => ?_) (fun a => ?_)
    · dsimp only
      refine br_f (by decide) ?_
      refine xl_num (p := p + 1) hT (by omega) (fun d3 => ?_) (fun d3 => ?_)
      · have hb2 := oh_c3 hv1 d3
        exact xl_23 (lat := lat) (h := 100) (m := tk (p + 1) - 1000) hl (by omega) (by omega) (fun z y => absurd y (by omega)) (fun z => hno (p + 2) (by omega))
      · exact xl_23 (lat := lat) (h := 100) (m := 100) hl (by omega) (by omega) (fun z y => absurd z (by omega)) (fun z => hno (p + 1) (by omega))
    · dsimp only
      refine br_t rfl ?_
      exact xl_23 (lat := lat) (h := 100) (m := 100) hl (by omega) (by omega) (fun z y => absurd z (by omega)) (fun z => hno p (by omega))
theorem xl_52 {post : Int32 → SX → Prop} {i K s e : Nat} {S : Nat → List (Nat × Nat)} (hi : i < 12) (hX : oh_XR xki xst xdn xsn xdf xdt xsf xse xds xtd xtm i K S) (hl : (S 5).length < 3) (hs : s ≤ 47) (hse : s < e) (he : e ≤ 95)
    (h1 : ∀ (xki' xst' xdn' xsn' xdf' xdt' xsf' xse' : Nat → Int32) (xds' xtd' xtm' : Nat → Int64), oh_XR xki' xst' xdn' xsn' xdf' xdt' xsf' xse' xds' xtd' xtm' i K (oh_ap S [(5, s, e)]) → oh_FR xki xst xdn xsn xdf xdt xsf xse xds xtd xtm xki' xst' xdn' xsn' xdf' xdt' xsf' xse' xds' xtd' xtm' i → post 1 (xfw, xlp, xdy, xrl, xhz, xhc, xts, xos, xpd, xtc, xcu, xbk, xrt, xdc, xho, xtx, xou, xnm, xtk, xtv, xki', xst', xdn', xsn', xdf', xdt', xsf', xse', xds', xtd', xtm')) : wX_readSpan_52 post (nI i) (nI s) (nI e) xfw xlp xdy xrl xhz xhc xts xos xpd xtc xcu xbk xrt xdc xho xtx xou xnm xtk xtv xki xst xdn xsn xdf xdt xsf xse xds xtd xtm := by
  have hc := nI_clamp (n := i) (by omega)
  have hsn := hX.2.1.1
  have e4 : nI i * 3 + nI (S 5).length = nI (3 * i + (S 5).length) := by
    rw [show nI i * 3 = nI (i * 3) from pk_mul i 3, nI_add, Nat.mul_comm]
  have key : ∀ mask : Int64, (∀ j, j < 48 → oh_b mask j = oh_sp j (s, e)) → wX_readSpan_113 post (nI i) (nI e) mask (xtd i) (nI i) xfw xlp xdy xrl xhz xhc xts xos xpd xtc xcu xbk xrt xdc xho xtx xou xnm xtk xtv xki xst xdn (upd xsn i (nI ((S 5).length + 1))) xdf xdt (upd xsf (3 * i + (S 5).length) (nI s)) (upd xse (3 * i + (S 5).length) (nI e)) xds xtd xtm := by
    intro mask hmask
    unfold wX_readSpan_113
    rw [hc]
    refine ⟨vp_in_nI (by omega) (by omega), nm_e ?_⟩
    have htd : ∀ j, j < 48 → oh_b (xtd i ||| mask) j = (oh_b (xtd i) j || oh_sp j (s, e)) := fun j hj => by rw [oh_b_or, hmask j hj]
    refine pk_le e 48 (fun a => ?_) (fun a => ⟨vp_in_nI (by omega) (by omega), vp_in_nI (by omega) (by omega), ?_⟩)
    · refine h1 _ _ _ _ _ _ _ _ _ _ _ (oh_XR_span hX hl htd (fun j hj => ?_)) (oh_FR_span hl (fun _ _ => rfl))
      have : oh_sp (j + 48) (s, e) = false := decide_eq_false (by dsimp only; omega)
      rw [this, Bool.or_false]
    · have e5 : nI e - 48 = nI (e - 48) := pk_sub (a := e) (b := 48) (by omega)
      rw [e5]
      refine nm_e (h1 _ _ _ _ _ _ _ _ _ _ _ (oh_XR_span hX hl htd (fun j hj => ?_)) (oh_FR_span hl (fun k hk => pk_uLn hk)))
      rw [pk_uLs, oh_b_or, oh_b_low (by omega) (by omega)]
      have : oh_sp (j + 48) (s, e) = decide (j < e - 48) := by
        unfold oh_sp
        dsimp only
        by_cases z : j < e - 48
        · rw [decide_eq_true z, decide_eq_true (show s ≤ j + 48 ∧ j + 48 < e by omega)]
        · rw [decide_eq_false z, decide_eq_false (show ¬ (s ≤ j + 48 ∧ j + 48 < e) by omega)]
      rw [this]
  unfold wX_readSpan_52
  rw [hc, hsn, nI_1, e4]
  refine ⟨vp_in_nI (by omega) (by omega), vp_in_nI (by omega) (by omega), nm_e (nm_e ⟨vp_in_nI (by omega) (by omega), ?_⟩)⟩
  rw [nI_clamp (by omega)]
  refine nm_e ⟨vp_in_nI (by omega) (by omega), nm_e ⟨vp_in_nI (by omega) (by omega), ?_⟩⟩
  refine pk_le 48 e (fun a => key _ (fun j hj => ?_)) (fun a => key _ (fun j hj => ?_))
  · rw [oh_b_up (by omega) (by omega)]
    unfold oh_sp
    dsimp only
    by_cases z : s ≤ j
    · rw [decide_eq_true z, decide_eq_true (show s ≤ j ∧ j < e by omega)]
    · rw [decide_eq_false z, decide_eq_false (show ¬ (s ≤ j ∧ j < e) by omega)]
  · rw [oh_b_rng hse (by omega) (by omega)]
    rfl
theorem xl_26n {post : Int32 → SX → Prop} {x y z : Int32} (h : post 0 (xfw, xlp, xdy, xrl, xhz, xhc, xts, xos, xpd, xtc, xcu, xbk, xrt, xdc, xho, xtx, xou, xnm, xtk, xtv, xki, xst, xdn, xsn, xdf, xdt, xsf, xse, xds, xtd, xtm)) (hxy : y < 0 ∨ ¬ 0 ≤ z) : wX_readSpan_26 post x y z xfw xlp xdy xrl xhz xhc xts xos xpd xtc xcu xbk xrt xdc xho xtx xou xnm xtk xtv xki xst xdn xsn xdf xdt xsf xse xds xtd xtm := by
  unfold wX_readSpan_26
  rcases hxy with a | a
  · exact br_t a h
  · exact br_c (fun _ => h) (fun _ => br_f a h)
theorem xl_26 {post : Int32 → SX → Prop} {i K s e : Nat} {S : Nat → List (Nat × Nat)} (hi : i < 12) (hX : oh_XR xki xst xdn xsn xdf xdt xsf xse xds xtd xtm i K S) (hl : (S 5).length < 3) (hs : s ≤ 47) (he : e ≤ 48)
    (h1 : ∀ (xki' xst' xdn' xsn' xdf' xdt' xsf' xse' : Nat → Int32) (xds' xtd' xtm' : Nat → Int64), oh_XR xki' xst' xdn' xsn' xdf' xdt' xsf' xse' xds' xtd' xtm' i K (oh_ap S [(5, s, oh_e1 s e)]) → oh_FR xki xst xdn xsn xdf xdt xsf xse xds xtd xtm xki' xst' xdn' xsn' xdf' xdt' xsf' xse' xds' xtd' xtm' i → post 1 (xfw, xlp, xdy, xrl, xhz, xhc, xts, xos, xpd, xtc, xcu, xbk, xrt, xdc, xho, xtx, xou, xnm, xtk, xtv, xki', xst', xdn', xsn', xdf', xdt', xsf', xse', xds', xtd', xtm')) : wX_readSpan_26 post (nI i) (nI s) (nI e) xfw xlp xdy xrl xhz xhc xts xos xpd xtc xcu xbk xrt xdc xho xtx xou xnm xtk xtv xki xst xdn xsn xdf xdt xsf xse xds xtd xtm := by
  have h44 : ∀ g, (if e = 0 then 48 else e) = g → g ≤ 48 → wX_readSpan_44 post (nI i) (nI s) (nI g) xfw xlp xdy xrl xhz xhc xts xos xpd xtc xcu xbk xrt xdc xho xtx xou xnm xtk xtv xki xst xdn xsn xdf xdt xsf xse xds xtd xtm := by
    intro g hg hg2
    unfold oh_e1 at h1
    rw [hg] at h1
    unfold wX_readSpan_44
    refine pk_lt s g (fun a => ?_) (fun a => ?_)
    · rw [if_neg (by omega)] at h1
      exact xl_52 hi hX hl hs (by omega) (by omega) h1
    · rw [if_pos (by omega)] at h1
      refine nm_r (e' := nI (g + 48)) (nI_add g 48) ?_
      exact xl_52 hi hX hl hs (by omega) (by omega) h1
  unfold wX_readSpan_26
  refine br_f (nI_pos (by omega)) (br_t (nI_pos' (by omega)) ?_)
  exact pk_eq e 0 (fun a => h44 48 (if_pos a) (by omega)) (fun a => h44 e (if_neg a) (by omega))
theorem xl_span {post : Int32 → SX → Prop} {i K p : Nat} {S : Nat → List (Nat × Nat)} (hi : i < 12) (hT : oh_TX tk N xtk xtv) (hp : p ≤ 150) (hX : oh_XR xki xst xdn xsn xdf xdt xsf xse xds xtd xtm i K S) (hl : (S 5).length < 3)
    (h1 : ∀ it q (xki' xst' xdn' xsn' xdf' xdt' xsf' xse' : Nat → Int32) (xds' xtd' xtm' : Nat → Int64), oh_rN tk p = some (it, q) → oh_XR xki' xst' xdn' xsn' xdf' xdt' xsf' xse' xds' xtd' xtm' i K (oh_ap S [it]) → oh_FR xki xst xdn xsn xdf xdt xsf xse xds xtd xtm xki' xst' xdn' xsn' xdf' xdt' xsf' xse' xds' xtd' xtm' i → post 1 (xfw, xlp, xdy, xrl, xhz, xhc, xts, xos, xpd, nI (N + 1), nI (q + 1), xbk, xrt, xdc, xho, xtx, xou, xnm, xtk, xtv, xki', xst', xdn', xsn', xdf', xdt', xsf', xse', xds', xtd', xtm'))
    (h0 : ∀ c (xki' xst' xdn' xsn' xdf' xdt' xsf' xse' : Nat → Int32) (xds' xtd' xtm' : Nat → Int64), oh_rN tk p = none → oh_FR xki xst xdn xsn xdf xdt xsf xse xds xtd xtm xki' xst' xdn' xsn' xdf' xdt' xsf' xse' xds' xtd' xtm' i → post 0 (xfw, xlp, xdy, xrl, xhz, xhc, xts, xos, xpd, nI (N + 1), c, xbk, xrt, xdc, xho, xtx, xou, xnm, xtk, xtv, xki', xst', xdn', xsn', xdf', xdt', xsf', xse', xds', xtd', xtm')) : wpX_readSpan post (xfw, xlp, xdy, xrl, xhz, xhc, xts, xos, xpd, nI (N + 1), nI (p + 1), xbk, xrt, xdc, xho, xtx, xou, xnm, xtk, xtv, xki, xst, xdn, xsn, xdf, xdt, xsf, xse, xds, xtd, xtm) (nI i) := by
  have hr1 : oh_rN tk p = none → ∀ c, post 0 (xfw, xlp, xdy, xrl, xhz, xhc, xts, xos, xpd, nI (N + 1), c, xbk, xrt, xdc, xho, xtx, xou, xnm, xtk, xtv, xki, xst, xdn, xsn, xdf, xdt, xsf, xse, xds, xtd, xtm) := fun z c => h0 c _ _ _ _ _ _ _ _ _ _ _ z oh_FR_r
  have hm1 : ¬ (0 : Int32) ≤ -1 := by decide
  unfold wpX_readSpan
  dsimp only
  refine xl_time (lat := 47) hT (by omega) (by omega) (fun g => ?_) (fun g q hq => ?_)
  · dsimp only
    refine xl_acc (p := p + 3) 45 (by omega) hT (by omega) (fun a => ?_) (fun a => ?_)
    · dsimp only
      refine br_f (by decide) ?_
      refine xl_time (p := p + 4) (lat := 48) hT (by omega) (by omega) (fun g2 => ?_) (fun g2 q hq => ?_)
      · dsimp only
        refine xl_26 hi hX hl g.2.2.2 g2.2.2.2 ?_
        intro _ _ _ _ _ _ _ _ _ _ _ hR hF
        exact h1 _ (p + 7) _ _ _ _ _ _ _ _ _ _ _ (by unfold oh_rN; rw [if_pos ⟨g, a, g2⟩]) hR hF
      · dsimp only
        refine xl_26n (hr1 ?_ _) (Or.inr hm1)
        unfold oh_rN; rw [if_neg (fun z => g2 z.2.2)]
    · dsimp only
      refine br_t rfl (xl_26n (hr1 ?_ _) (Or.inr hm1))
      unfold oh_rN; rw [if_neg (fun z => a z.2.1)]
  · have hno := hr1 (by unfold oh_rN; rw [if_neg (fun z => g z.1)])
    dsimp only
    refine xl_acc (p := q) 45 (by omega) hT (by omega) (fun a => ?_) (fun a => ?_)
    · dsimp only
      refine br_f (by decide) ?_
      exact xl_time (p := q + 1) (lat := 48) hT (by omega) (by omega) (fun _ => xl_26n (hno _) (Or.inl oh_m1_lt)) (fun _ q hq => xl_26n (hno _) (Or.inl oh_m1_lt))
    · dsimp only
      exact br_t rfl (xl_26n (hno _) (Or.inl oh_m1_lt))
end
end
section
/-! ===== X: lists (printed by gen10.py) ===== -/
section
variable {xfw xlp xdy xrl xhz xhc xts xos xpd xtc xcu xbk xrt : Int32} {xdc xho xtx xou xtk xtv xki xst xdn xsn xdf xdt xsf xse : Nat → Int32} {xnm xds xtd xtm : Nat → Int64} {tk : Nat → Nat} {N : Nat}
theorem xl_listM {post : Int32 → SX → Prop} {i K : Nat} (hi : i < 12) (hT : oh_TX tk N xtk xtv) : ∀ (l n fu p : Nat) (S : Nat → List (Nat × Nat)) (xki xst xdn xsn xdf xdt xsf xse : Nat → Int32) (xds xtd xtm : Nat → Int64), n + l = 2 → l + 2 ≤ fu → oh_cls (tk p) = 1 → oh_XR xki xst xdn xsn xdf xdt xsf xse xds xtd xtm i K S → (S 1).length = n →
    (∀ its q (xki' xst' xdn' xsn' xdf' xdt' xsf' xse' : Nat → Int32) (xds' xtd' xtm' : Nat → Int64), oh_pl tk 1 l p = some (its, q) → oh_XR xki' xst' xdn' xsn' xdf' xdt' xsf' xse' xds' xtd' xtm' i K (oh_ap S its) → oh_FR xki xst xdn xsn xdf xdt xsf xse xds xtd xtm xki' xst' xdn' xsn' xdf' xdt' xsf' xse' xds' xtd' xtm' i → post 1 (xfw, xlp, xdy, xrl, xhz, xhc, xts, xos, xpd, nI (N + 1), nI (q + 1), xbk, xrt, xdc, xho, xtx, xou, xnm, xtk, xtv, xki', xst', xdn', xsn', xdf', xdt', xsf', xse', xds', xtd', xtm')) →
    (∀ c (xki' xst' xdn' xsn' xdf' xdt' xsf' xse' : Nat → Int32) (xds' xtd' xtm' : Nat → Int64), oh_pl tk 1 l p = none → oh_FR xki xst xdn xsn xdf xdt xsf xse xds xtd xtm xki' xst' xdn' xsn' xdf' xdt' xsf' xse' xds' xtd' xtm' i → post 0 (xfw, xlp, xdy, xrl, xhz, xhc, xts, xos, xpd, nI (N + 1), c, xbk, xrt, xdc, xho, xtx, xou, xnm, xtk, xtv, xki', xst', xdn', xsn', xdf', xdt', xsf', xse', xds', xtd', xtm')) → wX_readList_19 post (nI i) 77 2 fu 1 (nI n) xfw xlp xdy xrl xhz xhc xts xos xpd (nI (N + 1)) (nI (p + 1)) xbk xrt xdc xho xtx xou xnm xtk xtv xki xst xdn xsn xdf xdt xsf xse xds xtd xtm
  | l, n, 0, p, S, _, _, _, _, _, _, _, _, _, _, _, _, hf, _, _, _, _, _ => absurd hf (by omega)
  | 0, n, fu + 1, p, S, _, _, _, _, _, _, _, _, _, _, _, hl, hf, hc, hX, hS, h1, h0 => by
    have hN := hT.1
    rw [wX_readList_19]
    refine br_f (by decide) ?_
    refine pk_le 2 n (fun a => ?_) (fun a => absurd a (by omega))
    unfold wX_readList_103
    exact br_f (by decide) (h0 _ _ _ _ _ _ _ _ _ _ _ _ rfl oh_FR_r)
  | l + 1, n, fu + 1, p, S, _, _, _, _, _, _, _, _, _, _, _, hl, hf, hc, hX, hS, h1, h0 => by
    have hN := hT.1
    have hE : oh_E tk N 0 := ⟨fun k hk => Or.inl (hT.2.1 k hk), Or.inl rfl⟩
    have hpN : p < N := oh_TX_lt hT (fun z => by rw [z] at hc; exact absurd hc (by decide))
    have fu1 : ∃ g, fu = g + 1 := ⟨fu - 1, by omega⟩
    rw [wX_readList_19]
    refine br_f (by decide) ?_
    refine pk_le 2 n (fun a => absurd a (by omega)) (fun a => ?_)
    refine br_t rfl ?_
    refine xl_date hi hT hc hX (by omega) ?_ ?_
    · intro it q _ _ _ _ _ _ _ _ _ _ _ he hR hF
      have hrd : oh_rd tk 1 p = some (it, q) := he
      have hin := oh_rd_in hE (by omega) hc hrd
      have hvq := (oh_TX_v hT (q + 1)).1
      dsimp only
      unfold wX_readList_63
      refine br_f (by decide) ?_
      have h100 : ¬ (tk q = 44 ∧ oh_cls (tk (q + 1)) = 1) → ∀ x5 : Int32, wX_readList_19 post (nI i) 77 2 fu 0 x5 xfw xlp xdy xrl xhz xhc xts xos xpd (nI (N + 1)) (nI (q + 1)) xbk xrt xdc xho xtx xou xnm xtk xtv _ _ _ _ _ _ _ _ _ _ _ := fun hm x5 => by
        obtain ⟨g, rfl⟩ := fu1
        rw [wX_readList_19]
        refine br_t rfl ?_
        unfold wX_readList_103
        exact br_t rfl (h1 _ _ _ _ _ _ _ _ _ _ _ _ _ (oh_pl_e hrd hm) hR hF)
      refine xl_lk (p := q) (j := 1) 77 (by omega) hT (by omega) (by omega) (fun g => ?_) (fun g => ?_)
      · have g2 := (oh_kd77 hvq).mp g
        refine xl_acc (p := q) 44 (by omega) hT (by omega) (fun b => ?_) (fun b => ?_)
        · dsimp only
          refine br_f (by decide) (nm_r (nI_1 n) ?_)
          refine xl_listM hi hT l (n + 1) fu (q + 1) (oh_ap S [it]) _ _ _ _ _ _ _ _ _ _ _ (by omega) (by omega) g2 hR (by have h11 : it.1 = 1 := (oh_rM_in hE hc he).2.2.1; obtain ⟨k, a, b⟩ := it; cases h11; rw [oh_ap1, List.length_append, List.length_singleton]; exact congrArg (· + 1) hS) ?_ ?_
          · intro its q' _ _ _ _ _ _ _ _ _ _ _ e2 hR2 hF2
            refine h1 (it :: its) q' _ _ _ _ _ _ _ _ _ _ _ ?_ ?_ (oh_FR_t hF hF2)
            · rw [oh_pl_s hrd ⟨b, g2⟩, e2]; rfl
            · rw [oh_ap_ap] at hR2; exact hR2
          · intro c _ _ _ _ _ _ _ _ _ _ _ e2 hF2
            refine h0 c _ _ _ _ _ _ _ _ _ _ _ ?_ (oh_FR_t hF hF2)
            rw [oh_pl_s hrd ⟨b, g2⟩, e2]; rfl
        · dsimp only
          exact br_t rfl (nm_e (h100 (fun z => b z.1) _))
      · exact nm_e (h100 (fun z => g ((oh_kd77 hvq).mpr z.2)) _)
    · intro c _ _ _ _ _ _ _ _ _ _ _ he hF
      dsimp only
      unfold wX_readList_63
      exact br_t rfl (h0 _ _ _ _ _ _ _ _ _ _ _ _ (oh_pl_n (show oh_rd tk 1 p = none from he)) hF)
theorem xl_rlM {post : Int32 → SX → Prop} {i K p : Nat} {S : Nat → List (Nat × Nat)} (hi : i < 12) (hp : p ≤ N) (hT : oh_TX tk N xtk xtv) (hX : oh_XR xki xst xdn xsn xdf xdt xsf xse xds xtd xtm i K S) (hS : (S 1).length = 0)
    (h1 : ∀ its q (xki' xst' xdn' xsn' xdf' xdt' xsf' xse' : Nat → Int32) (xds' xtd' xtm' : Nat → Int64), oh_po tk 1 2 p = some (its, q) → oh_XR xki' xst' xdn' xsn' xdf' xdt' xsf' xse' xds' xtd' xtm' i K (oh_ap S its) → oh_FR xki xst xdn xsn xdf xdt xsf xse xds xtd xtm xki' xst' xdn' xsn' xdf' xdt' xsf' xse' xds' xtd' xtm' i → post 1 (xfw, xlp, xdy, xrl, xhz, xhc, xts, xos, xpd, nI (N + 1), nI (q + 1), xbk, xrt, xdc, xho, xtx, xou, xnm, xtk, xtv, xki', xst', xdn', xsn', xdf', xdt', xsf', xse', xds', xtd', xtm'))
    (h0 : ∀ c (xki' xst' xdn' xsn' xdf' xdt' xsf' xse' : Nat → Int32) (xds' xtd' xtm' : Nat → Int64), oh_po tk 1 2 p = none → oh_FR xki xst xdn xsn xdf xdt xsf xse xds xtd xtm xki' xst' xdn' xsn' xdf' xdt' xsf' xse' xds' xtd' xtm' i → post 0 (xfw, xlp, xdy, xrl, xhz, xhc, xts, xos, xpd, nI (N + 1), c, xbk, xrt, xdc, xho, xtx, xou, xnm, xtk, xtv, xki', xst', xdn', xsn', xdf', xdt', xsf', xse', xds', xtd', xtm')) : wpX_readList post (xfw, xlp, xdy, xrl, xhz, xhc, xts, xos, xpd, nI (N + 1), nI (p + 1), xbk, xrt, xdc, xho, xtx, xou, xnm, xtk, xtv, xki, xst, xdn, xsn, xdf, xdt, xsf, xse, xds, xtd, xtm) (nI i) 77 2 := by
  have hN := hT.1
  have hv := oh_TX_v hT p
  unfold wpX_readList
  dsimp only
  refine xl_lk (j := 0) 77 (by omega) hT (by omega) (by omega) (fun g => ?_) (fun g => ?_)
  · have g2 : oh_cls (tk p) = 1 := (oh_kd77 hv.1).mp g
    have e : oh_po tk 1 2 p = oh_pl tk 1 2 p := if_pos g2
    rw [e] at h1 h0
    exact ⟨2 + 2, xl_listM hi hT 2 0 (2 + 2) p S _ _ _ _ _ _ _ _ _ _ _ (by omega) (by omega) g2 hX hS h1 h0⟩
  · have g2 : ¬ oh_cls (tk p) = 1 := fun z => g ((oh_kd77 hv.1).mpr z)
    refine ⟨1, ?_⟩
    rw [wX_readList_19]
    refine br_t rfl ?_
    unfold wX_readList_103
    refine br_t rfl (h1 [] p _ _ _ _ _ _ _ _ _ _ _ (if_neg g2) ?_ oh_FR_r)
    rw [oh_ap_nil]; exact hX
theorem xl_listW {post : Int32 → SX → Prop} {i K : Nat} (hi : i < 12) (hT : oh_TX tk N xtk xtv) : ∀ (l n fu p : Nat) (S : Nat → List (Nat × Nat)) (xki xst xdn xsn xdf xdt xsf xse : Nat → Int32) (xds xtd xtm : Nat → Int64), n + l = N + 1 → l + 2 ≤ fu → oh_cls (tk p) = 2 → oh_XR xki xst xdn xsn xdf xdt xsf xse xds xtd xtm i K S → 
    (∀ its q (xki' xst' xdn' xsn' xdf' xdt' xsf' xse' : Nat → Int32) (xds' xtd' xtm' : Nat → Int64), oh_pl tk 2 l p = some (its, q) → oh_XR xki' xst' xdn' xsn' xdf' xdt' xsf' xse' xds' xtd' xtm' i K (oh_ap S its) → oh_FR xki xst xdn xsn xdf xdt xsf xse xds xtd xtm xki' xst' xdn' xsn' xdf' xdt' xsf' xse' xds' xtd' xtm' i → post 1 (xfw, xlp, xdy, xrl, xhz, xhc, xts, xos, xpd, nI (N + 1), nI (q + 1), xbk, xrt, xdc, xho, xtx, xou, xnm, xtk, xtv, xki', xst', xdn', xsn', xdf', xdt', xsf', xse', xds', xtd', xtm')) →
    (∀ c (xki' xst' xdn' xsn' xdf' xdt' xsf' xse' : Nat → Int32) (xds' xtd' xtm' : Nat → Int64), oh_pl tk 2 l p = none → oh_FR xki xst xdn xsn xdf xdt xsf xse xds xtd xtm xki' xst' xdn' xsn' xdf' xdt' xsf' xse' xds' xtd' xtm' i → post 0 (xfw, xlp, xdy, xrl, xhz, xhc, xts, xos, xpd, nI (N + 1), c, xbk, xrt, xdc, xho, xtx, xou, xnm, xtk, xtv, xki', xst', xdn', xsn', xdf', xdt', xsf', xse', xds', xtd', xtm')) → wX_readList_19 post (nI i) 87 (nI (N + 1)) fu 1 (nI n) xfw xlp xdy xrl xhz xhc xts xos xpd (nI (N + 1)) (nI (p + 1)) xbk xrt xdc xho xtx xou xnm xtk xtv xki xst xdn xsn xdf xdt xsf xse xds xtd xtm
  | l, n, 0, p, S, _, _, _, _, _, _, _, _, _, _, _, _, hf, _, _, _, _ => absurd hf (by omega)
  | 0, n, fu + 1, p, S, _, _, _, _, _, _, _, _, _, _, _, hl, hf, hc, hX, h1, h0 => by
    have hN := hT.1
    rw [wX_readList_19]
    refine br_f (by decide) ?_
    refine pk_le (N + 1) n (fun a => ?_) (fun a => absurd a (by omega))
    unfold wX_readList_103
    exact br_f (by decide) (h0 _ _ _ _ _ _ _ _ _ _ _ _ rfl oh_FR_r)
  | l + 1, n, fu + 1, p, S, _, _, _, _, _, _, _, _, _, _, _, hl, hf, hc, hX, h1, h0 => by
    have hN := hT.1
    have hE : oh_E tk N 0 := ⟨fun k hk => Or.inl (hT.2.1 k hk), Or.inl rfl⟩
    have hpN : p < N := oh_TX_lt hT (fun z => by rw [z] at hc; exact absurd hc (by decide))
    have fu1 : ∃ g, fu = g + 1 := ⟨fu - 1, by omega⟩
    rw [wX_readList_19]
    refine br_f (by decide) ?_
    refine pk_le (N + 1) n (fun a => absurd a (by omega)) (fun a => ?_)
    refine br_f (by decide) (br_t rfl ?_)
    refine xl_day hi hT hc hX ?_ ?_
    · intro it q _ _ _ _ _ _ _ _ _ _ _ he hR hF
      have hrd : oh_rd tk 2 p = some (it, q) := he
      have hin := oh_rd_in hE (by omega) hc hrd
      have hvq := (oh_TX_v hT (q + 1)).1
      dsimp only
      unfold wX_readList_63
      refine br_f (by decide) ?_
      have h100 : ¬ (tk q = 44 ∧ oh_cls (tk (q + 1)) = 2) → ∀ x5 : Int32, wX_readList_19 post (nI i) 87 (nI (N + 1)) fu 0 x5 xfw xlp xdy xrl xhz xhc xts xos xpd (nI (N + 1)) (nI (q + 1)) xbk xrt xdc xho xtx xou xnm xtk xtv _ _ _ _ _ _ _ _ _ _ _ := fun hm x5 => by
        obtain ⟨g, rfl⟩ := fu1
        rw [wX_readList_19]
        refine br_t rfl ?_
        unfold wX_readList_103
        exact br_t rfl (h1 _ _ _ _ _ _ _ _ _ _ _ _ _ (oh_pl_e hrd hm) hR hF)
      refine xl_lk (p := q) (j := 1) 87 (by omega) hT (by omega) (by omega) (fun g => ?_) (fun g => ?_)
      · have g2 := (oh_kd87 hvq).mp g
        refine xl_acc (p := q) 44 (by omega) hT (by omega) (fun b => ?_) (fun b => ?_)
        · dsimp only
          refine br_f (by decide) (nm_r (nI_1 n) ?_)
          refine xl_listW hi hT l (n + 1) fu (q + 1) (oh_ap S [it]) _ _ _ _ _ _ _ _ _ _ _ (by omega) (by omega) g2 hR  ?_ ?_
          · intro its q' _ _ _ _ _ _ _ _ _ _ _ e2 hR2 hF2
            refine h1 (it :: its) q' _ _ _ _ _ _ _ _ _ _ _ ?_ ?_ (oh_FR_t hF hF2)
            · rw [oh_pl_s hrd ⟨b, g2⟩, e2]; rfl
            · rw [oh_ap_ap] at hR2; exact hR2
          · intro c _ _ _ _ _ _ _ _ _ _ _ e2 hF2
            refine h0 c _ _ _ _ _ _ _ _ _ _ _ ?_ (oh_FR_t hF hF2)
            rw [oh_pl_s hrd ⟨b, g2⟩, e2]; rfl
        · dsimp only
          exact br_t rfl (nm_e (h100 (fun z => b z.1) _))
      · exact nm_e (h100 (fun z => g ((oh_kd87 hvq).mpr z.2)) _)
    · intro c _ _ _ _ _ _ _ _ _ _ _ he hF
      dsimp only
      unfold wX_readList_63
      exact br_t rfl (h0 _ _ _ _ _ _ _ _ _ _ _ _ (oh_pl_n (show oh_rd tk 2 p = none from he)) hF)
theorem xl_rlW {post : Int32 → SX → Prop} {i K p : Nat} {S : Nat → List (Nat × Nat)} (hi : i < 12) (hp : p ≤ N) (hT : oh_TX tk N xtk xtv) (hX : oh_XR xki xst xdn xsn xdf xdt xsf xse xds xtd xtm i K S) 
    (h1 : ∀ its q (xki' xst' xdn' xsn' xdf' xdt' xsf' xse' : Nat → Int32) (xds' xtd' xtm' : Nat → Int64), oh_po tk 2 (N + 1) p = some (its, q) → oh_XR xki' xst' xdn' xsn' xdf' xdt' xsf' xse' xds' xtd' xtm' i K (oh_ap S its) → oh_FR xki xst xdn xsn xdf xdt xsf xse xds xtd xtm xki' xst' xdn' xsn' xdf' xdt' xsf' xse' xds' xtd' xtm' i → post 1 (xfw, xlp, xdy, xrl, xhz, xhc, xts, xos, xpd, nI (N + 1), nI (q + 1), xbk, xrt, xdc, xho, xtx, xou, xnm, xtk, xtv, xki', xst', xdn', xsn', xdf', xdt', xsf', xse', xds', xtd', xtm'))
    (h0 : ∀ c (xki' xst' xdn' xsn' xdf' xdt' xsf' xse' : Nat → Int32) (xds' xtd' xtm' : Nat → Int64), oh_po tk 2 (N + 1) p = none → oh_FR xki xst xdn xsn xdf xdt xsf xse xds xtd xtm xki' xst' xdn' xsn' xdf' xdt' xsf' xse' xds' xtd' xtm' i → post 0 (xfw, xlp, xdy, xrl, xhz, xhc, xts, xos, xpd, nI (N + 1), c, xbk, xrt, xdc, xho, xtx, xou, xnm, xtk, xtv, xki', xst', xdn', xsn', xdf', xdt', xsf', xse', xds', xtd', xtm')) : wpX_readList post (xfw, xlp, xdy, xrl, xhz, xhc, xts, xos, xpd, nI (N + 1), nI (p + 1), xbk, xrt, xdc, xho, xtx, xou, xnm, xtk, xtv, xki, xst, xdn, xsn, xdf, xdt, xsf, xse, xds, xtd, xtm) (nI i) 87 (nI (N + 1)) := by
  have hN := hT.1
  have hv := oh_TX_v hT p
  unfold wpX_readList
  dsimp only
  refine xl_lk (j := 0) 87 (by omega) hT (by omega) (by omega) (fun g => ?_) (fun g => ?_)
  · have g2 : oh_cls (tk p) = 2 := (oh_kd87 hv.1).mp g
    have e : oh_po tk 2 (N + 1) p = oh_pl tk 2 (N + 1) p := if_pos g2
    rw [e] at h1 h0
    exact ⟨(N + 1) + 2, xl_listW hi hT (N + 1) 0 ((N + 1) + 2) p S _ _ _ _ _ _ _ _ _ _ _ (by omega) (by omega) g2 hX  h1 h0⟩
  · have g2 : ¬ oh_cls (tk p) = 2 := fun z => g ((oh_kd87 hv.1).mpr z)
    refine ⟨1, ?_⟩
    rw [wX_readList_19]
    refine br_t rfl ?_
    unfold wX_readList_103
    refine br_t rfl (h1 [] p _ _ _ _ _ _ _ _ _ _ _ (if_neg g2) ?_ oh_FR_r)
    rw [oh_ap_nil]; exact hX
theorem xl_listN {post : Int32 → SX → Prop} {i K : Nat} (hi : i < 12) (hT : oh_TX tk N xtk xtv) : ∀ (l n fu p : Nat) (S : Nat → List (Nat × Nat)) (xki xst xdn xsn xdf xdt xsf xse : Nat → Int32) (xds xtd xtm : Nat → Int64), n + l = 3 → l + 2 ≤ fu → oh_cls (tk p) = 3 → oh_XR xki xst xdn xsn xdf xdt xsf xse xds xtd xtm i K S → (S 5).length = n →
    (∀ its q (xki' xst' xdn' xsn' xdf' xdt' xsf' xse' : Nat → Int32) (xds' xtd' xtm' : Nat → Int64), oh_pl tk 3 l p = some (its, q) → oh_XR xki' xst' xdn' xsn' xdf' xdt' xsf' xse' xds' xtd' xtm' i K (oh_ap S its) → oh_FR xki xst xdn xsn xdf xdt xsf xse xds xtd xtm xki' xst' xdn' xsn' xdf' xdt' xsf' xse' xds' xtd' xtm' i → post 1 (xfw, xlp, xdy, xrl, xhz, xhc, xts, xos, xpd, nI (N + 1), nI (q + 1), xbk, xrt, xdc, xho, xtx, xou, xnm, xtk, xtv, xki', xst', xdn', xsn', xdf', xdt', xsf', xse', xds', xtd', xtm')) →
    (∀ c (xki' xst' xdn' xsn' xdf' xdt' xsf' xse' : Nat → Int32) (xds' xtd' xtm' : Nat → Int64), oh_pl tk 3 l p = none → oh_FR xki xst xdn xsn xdf xdt xsf xse xds xtd xtm xki' xst' xdn' xsn' xdf' xdt' xsf' xse' xds' xtd' xtm' i → post 0 (xfw, xlp, xdy, xrl, xhz, xhc, xts, xos, xpd, nI (N + 1), c, xbk, xrt, xdc, xho, xtx, xou, xnm, xtk, xtv, xki', xst', xdn', xsn', xdf', xdt', xsf', xse', xds', xtd', xtm')) → wX_readList_19 post (nI i) 78 3 fu 1 (nI n) xfw xlp xdy xrl xhz xhc xts xos xpd (nI (N + 1)) (nI (p + 1)) xbk xrt xdc xho xtx xou xnm xtk xtv xki xst xdn xsn xdf xdt xsf xse xds xtd xtm
  | l, n, 0, p, S, _, _, _, _, _, _, _, _, _, _, _, _, hf, _, _, _, _, _ => absurd hf (by omega)
  | 0, n, fu + 1, p, S, _, _, _, _, _, _, _, _, _, _, _, hl, hf, hc, hX, hS, h1, h0 => by
    have hN := hT.1
    rw [wX_readList_19]
    refine br_f (by decide) ?_
    refine pk_le 3 n (fun a => ?_) (fun a => absurd a (by omega))
    unfold wX_readList_103
    exact br_f (by decide) (h0 _ _ _ _ _ _ _ _ _ _ _ _ rfl oh_FR_r)
  | l + 1, n, fu + 1, p, S, _, _, _, _, _, _, _, _, _, _, _, hl, hf, hc, hX, hS, h1, h0 => by
    have hN := hT.1
    have hE : oh_E tk N 0 := ⟨fun k hk => Or.inl (hT.2.1 k hk), Or.inl rfl⟩
    have hpN : p < N := oh_TX_lt hT (fun z => by rw [z] at hc; exact absurd hc (by decide))
    have fu1 : ∃ g, fu = g + 1 := ⟨fu - 1, by omega⟩
    rw [wX_readList_19]
    refine br_f (by decide) ?_
    refine pk_le 3 n (fun a => absurd a (by omega)) (fun a => ?_)
    refine br_f (by decide) (br_f (by decide) ?_)
    refine xl_span hi hT (by omega) hX (by omega) ?_ ?_
    · intro it q _ _ _ _ _ _ _ _ _ _ _ he hR hF
      have hrd : oh_rd tk 3 p = some (it, q) := he
      have hin := oh_rd_in hE (by omega) hc hrd
      have hvq := (oh_TX_v hT (q + 1)).1
      dsimp only
      unfold wX_readList_63
      refine br_f (by decide) ?_
      have h100 : ¬ (tk q = 44 ∧ oh_cls (tk (q + 1)) = 3) → ∀ x5 : Int32, wX_readList_19 post (nI i) 78 3 fu 0 x5 xfw xlp xdy xrl xhz xhc xts xos xpd (nI (N + 1)) (nI (q + 1)) xbk xrt xdc xho xtx xou xnm xtk xtv _ _ _ _ _ _ _ _ _ _ _ := fun hm x5 => by
        obtain ⟨g, rfl⟩ := fu1
        rw [wX_readList_19]
        refine br_t rfl ?_
        unfold wX_readList_103
        exact br_t rfl (h1 _ _ _ _ _ _ _ _ _ _ _ _ _ (oh_pl_e hrd hm) hR hF)
      refine xl_lk (p := q) (j := 1) 78 (by omega) hT (by omega) (by omega) (fun g => ?_) (fun g => ?_)
      · have g2 := (oh_kd78 hvq (oh_TX_v hT (q + 1)).2).mp g
        refine xl_acc (p := q) 44 (by omega) hT (by omega) (fun b => ?_) (fun b => ?_)
        · dsimp only
          refine br_f (by decide) (nm_r (nI_1 n) ?_)
          refine xl_listN hi hT l (n + 1) fu (q + 1) (oh_ap S [it]) _ _ _ _ _ _ _ _ _ _ _ (by omega) (by omega) g2 hR (by have h11 : it.1 = 5 := (oh_rN_in hE he).2.2.1; obtain ⟨k, a, b⟩ := it; cases h11; rw [oh_ap1, List.length_append, List.length_singleton]; exact congrArg (· + 1) hS) ?_ ?_
          · intro its q' _ _ _ _ _ _ _ _ _ _ _ e2 hR2 hF2
            refine h1 (it :: its) q' _ _ _ _ _ _ _ _ _ _ _ ?_ ?_ (oh_FR_t hF hF2)
            · rw [oh_pl_s hrd ⟨b, g2⟩, e2]; rfl
            · rw [oh_ap_ap] at hR2; exact hR2
          · intro c _ _ _ _ _ _ _ _ _ _ _ e2 hF2
            refine h0 c _ _ _ _ _ _ _ _ _ _ _ ?_ (oh_FR_t hF hF2)
            rw [oh_pl_s hrd ⟨b, g2⟩, e2]; rfl
        · dsimp only
          exact br_t rfl (nm_e (h100 (fun z => b z.1) _))
      · exact nm_e (h100 (fun z => g ((oh_kd78 hvq (oh_TX_v hT (q + 1)).2).mpr z.2)) _)
    · intro c _ _ _ _ _ _ _ _ _ _ _ he hF
      dsimp only
      unfold wX_readList_63
      exact br_t rfl (h0 _ _ _ _ _ _ _ _ _ _ _ _ (oh_pl_n (show oh_rd tk 3 p = none from he)) hF)
theorem xl_rlN {post : Int32 → SX → Prop} {i K p : Nat} {S : Nat → List (Nat × Nat)} (hi : i < 12) (hp : p ≤ N) (hT : oh_TX tk N xtk xtv) (hX : oh_XR xki xst xdn xsn xdf xdt xsf xse xds xtd xtm i K S) (hS : (S 5).length = 0)
    (h1 : ∀ its q (xki' xst' xdn' xsn' xdf' xdt' xsf' xse' : Nat → Int32) (xds' xtd' xtm' : Nat → Int64), oh_po tk 3 3 p = some (its, q) → oh_XR xki' xst' xdn' xsn' xdf' xdt' xsf' xse' xds' xtd' xtm' i K (oh_ap S its) → oh_FR xki xst xdn xsn xdf xdt xsf xse xds xtd xtm xki' xst' xdn' xsn' xdf' xdt' xsf' xse' xds' xtd' xtm' i → post 1 (xfw, xlp, xdy, xrl, xhz, xhc, xts, xos, xpd, nI (N + 1), nI (q + 1), xbk, xrt, xdc, xho, xtx, xou, xnm, xtk, xtv, xki', xst', xdn', xsn', xdf', xdt', xsf', xse', xds', xtd', xtm'))
    (h0 : ∀ c (xki' xst' xdn' xsn' xdf' xdt' xsf' xse' : Nat → Int32) (xds' xtd' xtm' : Nat → Int64), oh_po tk 3 3 p = none → oh_FR xki xst xdn xsn xdf xdt xsf xse xds xtd xtm xki' xst' xdn' xsn' xdf' xdt' xsf' xse' xds' xtd' xtm' i → post 0 (xfw, xlp, xdy, xrl, xhz, xhc, xts, xos, xpd, nI (N + 1), c, xbk, xrt, xdc, xho, xtx, xou, xnm, xtk, xtv, xki', xst', xdn', xsn', xdf', xdt', xsf', xse', xds', xtd', xtm')) : wpX_readList post (xfw, xlp, xdy, xrl, xhz, xhc, xts, xos, xpd, nI (N + 1), nI (p + 1), xbk, xrt, xdc, xho, xtx, xou, xnm, xtk, xtv, xki, xst, xdn, xsn, xdf, xdt, xsf, xse, xds, xtd, xtm) (nI i) 78 3 := by
  have hN := hT.1
  have hv := oh_TX_v hT p
  unfold wpX_readList
  dsimp only
  refine xl_lk (j := 0) 78 (by omega) hT (by omega) (by omega) (fun g => ?_) (fun g => ?_)
  · have g2 : oh_cls (tk p) = 3 := (oh_kd78 hv.1 hv.2).mp g
    have e : oh_po tk 3 3 p = oh_pl tk 3 3 p := if_pos g2
    rw [e] at h1 h0
    exact ⟨3 + 2, xl_listN hi hT 3 0 (3 + 2) p S _ _ _ _ _ _ _ _ _ _ _ (by omega) (by omega) g2 hX hS h1 h0⟩
  · have g2 : ¬ oh_cls (tk p) = 3 := fun z => g ((oh_kd78 hv.1 hv.2).mpr z)
    refine ⟨1, ?_⟩
    rw [wX_readList_19]
    refine br_t rfl ?_
    unfold wX_readList_103
    refine br_t rfl (h1 [] p _ _ _ _ _ _ _ _ _ _ _ (if_neg g2) ?_ oh_FR_r)
    rw [oh_ap_nil]; exact hX
end
end
section
/-! ===== X: rules and parse ===== -/
def oh_sY (FL : List (Nat × Nat × Nat × Nat)) (r k : Nat) : List (Nat × Nat) := (FL.filter (fun f => f.1 == r && f.2.1 == k)).map (fun f => f.2.2)
theorem oh_sY_app (A B : List (Nat × Nat × Nat × Nat)) (r k : Nat) : oh_sY (A ++ B) r k = oh_sY A r k ++ oh_sY B r k := by simp [oh_sY]
theorem oh_sY_fs (c kd : Nat) (its : List (Nat × Nat × Nat)) : oh_sY (oh_fs c kd its) c = oh_sel ((0, kd, 0) :: its) := by
  funext k
  unfold oh_sY oh_fs oh_sel
  rw [List.filter_map, List.map_map]
  have : ((fun f : Nat × Nat × Nat × Nat => f.1 == c && f.2.1 == k) ∘ fun t : Nat × Nat × Nat => (c, t)) = fun t => t.1 == k := by
    funext t
    simp
  rw [this]
  rfl
theorem oh_sY_no {A : List (Nat × Nat × Nat × Nat)} {r : Nat} (h : ∀ f, f ∈ A → ¬ f.1 = r) : oh_sY A r = fun _ => [] := by
  funext k
  unfold oh_sY
  rw [List.filter_eq_nil_iff.mpr (fun f hf => by simp [h f hf])]
  rfl
theorem oh_sel_no {l : List (Nat × Nat × Nat)} {k : Nat} (h : ∀ t, t ∈ l → ¬ t.1 = k) : oh_sel l k = [] := by
  unfold oh_sel
  rw [List.filter_eq_nil_iff.mpr (fun f hf => by simp [h f hf])]
  rfl
theorem oh_sel_app (A B : List (Nat × Nat × Nat)) (k : Nat) : oh_sel (A ++ B) k = oh_sel A k ++ oh_sel B k := by simp [oh_sel]
theorem oh_sel_0 (K : Nat) (l : List (Nat × Nat × Nat)) {k : Nat} (h : ¬ k = 0) : oh_sel ((0, K, 0) :: l) k = oh_sel l k := by
  have : ¬ 0 = k := fun z => h z.symm
  simp [oh_sel, this]
theorem oh_dsb_c {S T : Nat → List (Nat × Nat)} (h2 : S 2 = T 2) (h3 : S 3 = T 3) (h4 : S 4 = T 4) (j : Nat) : oh_dsb S j = oh_dsb T j := by
  unfold oh_dsb; rw [h2, h3, h4]
section
variable {xki xst xdn xsn xdf xdt xsf xse : Nat → Int32} {xds xtd xtm : Nat → Int64} {xki' xst' xdn' xsn' xdf' xdt' xsf' xse' : Nat → Int32} {xds' xtd' xtm' : Nat → Int64} {i K : Nat}
theorem oh_XF_mk {its st : List (Nat × Nat × Nat)} (hX : oh_XR xki xst xdn xsn xdf xdt xsf xse xds xtd xtm i K (oh_ap (fun _ => []) its)) (hK : K ≤ 2) (hi : ∀ t, t ∈ its → 1 ≤ t.1 ∧ t.1 ≤ 5) (hst : ∀ t, t ∈ st → t.1 = 6) (htd : ∀ j, j < 48 → oh_b (xtd' i) j = ((oh_sel its 5).isEmpty || (oh_sel its 5).any (oh_sp j))) (hs : xst' i = nI (oh_so (oh_sel st 6))) : oh_XF xki xst' xdn xsn xdf xdt xsf xse xds xtd' xtm i (oh_sel ((0, K, 0) :: (its ++ st))) := by
  obtain ⟨hd, hp, hb, ht, hm, hk, _⟩ := hX
  have e : ∀ k, oh_ap (fun _ => []) its k = oh_sel its k := fun k => List.nil_append _
  have e2 : ∀ k, 1 ≤ k → k ≤ 5 → oh_sel ((0, K, 0) :: (its ++ st)) k = oh_sel its k := fun k h1 h5 => by
    rw [oh_sel_0 _ _ (by omega), oh_sel_app, oh_sel_no (l := st) (fun t ht => by rw [hst t ht]; omega), List.append_nil]
  rw [e] at hd hp
  refine ⟨by rw [e2 1 (by omega) (by omega)]; exact hd, by rw [e2 5 (by omega) (by omega)]; exact hp, fun j hj => ?_, by rw [e2 5 (by omega) (by omega)]; exact htd, fun j hj => ?_, ⟨K, hK, ?_, hk⟩, ?_⟩
  · rw [hb j hj]
    exact oh_dsb_c ((e 2).trans (e2 2 (by omega) (by omega)).symm) ((e 3).trans (e2 3 (by omega) (by omega)).symm) ((e 4).trans (e2 4 (by omega) (by omega)).symm) j
  · rw [hm j hj, e, e2 5 (by omega) (by omega)]
  · have : oh_sel (its ++ st) 0 = [] := oh_sel_no (fun t ht => by
      rcases List.mem_append.mp ht with z | z
      · have := hi t z; omega
      · rw [hst t z]; omega)
    have e3 : oh_sel ((0, K, 0) :: (its ++ st)) 0 = (K, 0) :: oh_sel (its ++ st) 0 := by simp [oh_sel]
    rw [e3, this]
  · rw [hs, oh_sel_0 _ _ (by omega), oh_sel_app, oh_sel_no (l := its) (fun t ht => by have := hi t ht; omega), List.nil_append]
end
section
variable {xfw xlp xdy xrl xhz xhc xts xos xpd xtc xcu xbk xrt : Int32} {xdc xho xtx xou xtk xtv xki xst xdn xsn xdf xdt xsf xse : Nat → Int32} {xnm xds xtd xtm : Nat → Int64} {tk : Nat → Nat} {N : Nat}
theorem xl_93f {post : Int32 → SX → Prop} {i : Nat} {b : Int32} (hi : i < 12) (h0 : ∀ (xki' xst' xdn' xsn' xdf' xdt' xsf' xse' : Nat → Int32) (xds' xtd' xtm' : Nat → Int64), oh_FR xki xst xdn xsn xdf xdt xsf xse xds xtd xtm xki' xst' xdn' xsn' xdf' xdt' xsf' xse' xds' xtd' xtm' i → post 0 (xfw, xlp, xdy, xrl, xhz, xhc, xts, xos, xpd, xtc, xcu, xbk, xrt, xdc, xho, xtx, xou, xnm, xtk, xtv, xki', xst', xdn', xsn', xdf', xdt', xsf', xse', xds', xtd', xtm')) : wX_readRule_92 post (nI i) b xfw xlp xdy xrl xhz xhc xts xos xpd xtc xcu xbk xrt xdc xho xtx xou xnm xtk xtv xki xst xdn xsn xdf xdt xsf xse xds xtd xtm := by
  have hc := nI_clamp (n := i) (by omega)
  unfold wX_readRule_92 wX_readRule_93 wX_readRule_112 wX_readRule_136
  rw [hc]
  refine ⟨vp_in_nI (by omega) (by omega), br_c (fun _ => ⟨vp_in_nI (by omega) (by omega), nm_e (br_t rfl (br_t rfl (h0 _ _ _ _ _ _ _ _ _ _ _ oh_FR_td)))⟩) (fun _ => br_t rfl (br_t rfl (h0 _ _ _ _ _ _ _ _ _ _ _ oh_FR_r)))⟩
theorem xl_112 {post : Int32 → SX → Prop} {i s q : Nat} (hi : i < 12) (hs : s ≤ N) (hT : oh_TX tk N xtk xtv) (hsq : s ≤ q) (hq : q ≤ N)
    (h1 : ∀ xst' : Nat → Int32, ¬ (oh_ps tk q).2 = s → (xst' i = nI (oh_so (oh_sel (oh_ps tk q).1 6)) ∨ (oh_ps tk q).1 = [] ∧ xst' = xst) → oh_FR xki xst xdn xsn xdf xdt xsf xse xds xtd xtm xki xst' xdn xsn xdf xdt xsf xse xds xtd xtm i → post 1 (xfw, xlp, xdy, xrl, xhz, xhc, xts, xos, xpd, nI (N + 1), nI ((oh_ps tk q).2 + 1), xbk, xrt, xdc, xho, xtx, xou, xnm, xtk, xtv, xki, xst', xdn, xsn, xdf, xdt, xsf, xse, xds, xtd, xtm))
    (h0 : ∀ c (xki' xst' xdn' xsn' xdf' xdt' xsf' xse' : Nat → Int32) (xds' xtd' xtm' : Nat → Int64), (oh_ps tk q).2 = s → oh_FR xki xst xdn xsn xdf xdt xsf xse xds xtd xtm xki' xst' xdn' xsn' xdf' xdt' xsf' xse' xds' xtd' xtm' i → post 0 (xfw, xlp, xdy, xrl, xhz, xhc, xts, xos, xpd, nI (N + 1), c, xbk, xrt, xdc, xho, xtx, xou, xnm, xtk, xtv, xki', xst', xdn', xsn', xdf', xdt', xsf', xse', xds', xtd', xtm')) : wX_readRule_112 post (nI i) (nI (s + 1)) 1 xfw xlp xdy xrl xhz xhc xts xos xpd (nI (N + 1)) (nI (q + 1)) xbk xrt xdc xho xtx xou xnm xtk xtv xki xst xdn xsn xdf xdt xsf xse xds xtd xtm := by
  have hN := hT.1
  have hc := nI_clamp (n := i) (by omega)
  have hv := oh_TX_v hT q
  unfold wX_readRule_112
  refine br_f (by decide) ?_
  refine xl_lk (j := 0) 83 (by omega) hT (by omega) (by omega) (fun g => ?_) (fun g => ?_)
  · have g2 : oh_cls (tk q) = 4 := (oh_kd83 hv.1).mp g
    have g3 := oh_cls4.mp g2
    have e : oh_ps tk q = ([(6, (tk q - 21) % 3, 0)], q + 1) := if_pos g2
    rw [e] at h1 h0
    refine xl_take hT (oh_TX_lt hT (by omega)) ?_
    rw [oh_vl4 g2]
    dsimp only
    rw [hc]
    refine ⟨vp_in_nI (by omega) (by omega), nm_e ?_⟩
    unfold wX_readRule_136
    refine br_f (by decide) ?_
    refine pk_le (q + 1 + 1) (s + 1) (fun a => absurd a (by omega)) (fun a => ?_)
    exact h1 _ (by dsimp only; omega) (Or.inl (by rw [pk_us]; rfl)) oh_FR_st
  · have g2 : ¬ oh_cls (tk q) = 4 := fun z => g ((oh_kd83 hv.1).mpr z)
    have e : oh_ps tk q = ([], q) := if_neg g2
    rw [e] at h1 h0
    unfold wX_readRule_136
    refine br_f (by decide) ?_
    refine pk_le (q + 1) (s + 1) (fun a => ?_) (fun a => ?_)
    · exact h0 _ _ _ _ _ _ _ _ _ _ _ _ (by dsimp only; omega) oh_FR_r
    · exact h1 xst (by dsimp only; omega) (Or.inr ⟨rfl, rfl⟩) oh_FR_r
theorem xl_93 {post : Int32 → SX → Prop} {i K s q : Nat} {its : List (Nat × Nat × Nat)} (hi : i < 12) (hs : s ≤ N) (hT : oh_TX tk N xtk xtv) (hsq : s ≤ q) (hq : q ≤ N) (hK : K ≤ 2) (hX : oh_XR xki xst xdn xsn xdf xdt xsf xse xds xtd xtm i K (oh_ap (fun _ => []) its)) (hit : ∀ t, t ∈ its → 1 ≤ t.1 ∧ t.1 ≤ 5)
    (h1 : ∀ (xki' xst' xdn' xsn' xdf' xdt' xsf' xse' : Nat → Int32) (xds' xtd' xtm' : Nat → Int64), ¬ (oh_ps tk q).2 = s → oh_XF xki' xst' xdn' xsn' xdf' xdt' xsf' xse' xds' xtd' xtm' i (oh_sel ((0, K, 0) :: (its ++ (oh_ps tk q).1))) → oh_FR xki xst xdn xsn xdf xdt xsf xse xds xtd xtm xki' xst' xdn' xsn' xdf' xdt' xsf' xse' xds' xtd' xtm' i → post 1 (xfw, xlp, xdy, xrl, xhz, xhc, xts, xos, xpd, nI (N + 1), nI ((oh_ps tk q).2 + 1), xbk, xrt, xdc, xho, xtx, xou, xnm, xtk, xtv, xki', xst', xdn', xsn', xdf', xdt', xsf', xse', xds', xtd', xtm'))
    (h0 : ∀ c (xki' xst' xdn' xsn' xdf' xdt' xsf' xse' : Nat → Int32) (xds' xtd' xtm' : Nat → Int64), (oh_ps tk q).2 = s → oh_FR xki xst xdn xsn xdf xdt xsf xse xds xtd xtm xki' xst' xdn' xsn' xdf' xdt' xsf' xse' xds' xtd' xtm' i → post 0 (xfw, xlp, xdy, xrl, xhz, xhc, xts, xos, xpd, nI (N + 1), c, xbk, xrt, xdc, xho, xtx, xou, xnm, xtk, xtv, xki', xst', xdn', xsn', xdf', xdt', xsf', xse', xds', xtd', xtm')) : wX_readRule_93 post (nI i) (nI (s + 1)) 1 xfw xlp xdy xrl xhz xhc xts xos xpd (nI (N + 1)) (nI (q + 1)) xbk xrt xdc xho xtx xou xnm xtk xtv xki xst xdn xsn xdf xdt xsf xse xds xtd xtm := by
  have hN := hT.1
  have hc := nI_clamp (n := i) (by omega)
  have e5 : oh_ap (fun _ => []) its 5 = oh_sel its 5 := List.nil_append _
  have hsn := hX.2.1.1
  have hs3 := hX.2.1.2.1
  have hst6 : ∀ t, t ∈ (oh_ps tk q).1 → t.1 = 6 := fun t ht => by
    unfold oh_ps at ht
    split at ht
    · rw [List.mem_singleton.mp ht]
    · exact absurd ht List.not_mem_nil
  have htd := hX.2.2.2.1
  have hxs : ∀ xst' : Nat → Int32, (xst' i = nI (oh_so (oh_sel (oh_ps tk q).1 6)) ∨ (oh_ps tk q).1 = [] ∧ xst' = xst) → xst' i = nI (oh_so (oh_sel (oh_ps tk q).1 6)) := fun xst' z => by
    rcases z with z | z
    · exact z
    · rw [z.1, z.2]; exact hX.2.2.2.2.2.2
  rw [e5] at hsn hs3 htd
  unfold wX_readRule_93
  rw [hc, hsn]
  refine ⟨vp_in_nI (by omega) (by omega), pk_eq (oh_sel its 5).length 0 (fun a => ⟨vp_in_nI (by omega) (by omega), nm_e ?_⟩) (fun a => ?_)⟩
  · refine xl_112 hi hs hT hsq hq (fun xst' z y f => ?_) ?_
    · refine h1 _ _ _ _ _ _ _ _ _ _ _ z (oh_XF_mk (xtd' := vp_updL xtd i (-1)) hX hK hit hst6 (fun j hj => ?_) (hxs xst' y)) (oh_FR_t oh_FR_td f)
      rw [pk_uLs, oh_b_m1 (by omega), List.eq_nil_of_length_eq_zero a]
      rfl
    · intro c _ _ _ _ _ _ _ _ _ _ _ z f
      exact h0 c _ _ _ _ _ _ _ _ _ _ _ z (oh_FR_t oh_FR_td f)
  · refine xl_112 hi hs hT hsq hq (fun xst' z y f => ?_) h0
    refine h1 _ _ _ _ _ _ _ _ _ _ _ z (oh_XF_mk (xtd' := xtd) hX hK hit hst6 (fun j hj => ?_) (hxs xst' y)) f
    rw [htd j hj]
    cases hl : oh_sel its 5 with
    | nil => rw [hl] at a; exact absurd rfl a
    | cons x t => rfl
theorem xl_clear {post : SX → Prop} {i : Nat} (hi : i < 12) (h : post (xfw, xlp, xdy, xrl, xhz, xhc, xts, xos, xpd, xtc, xcu, xbk, xrt, xdc, xho, xtx, xou, xnm, xtk, xtv, xki, upd xst i 1, upd xdn i 0, upd xsn i 0, xdf, xdt, xsf, xse, vp_updL xds i 0, vp_updL xtd i 0, vp_updL xtm i 0)) : wpX_clearRule post (xfw, xlp, xdy, xrl, xhz, xhc, xts, xos, xpd, xtc, xcu, xbk, xrt, xdc, xho, xtx, xou, xnm, xtk, xtv, xki, xst, xdn, xsn, xdf, xdt, xsf, xse, xds, xtd, xtm) (nI i) := by
  have hc := nI_clamp (n := i) (by omega)
  have hv : vp_in (nI i) 12 := vp_in_nI (by omega) (by omega)
  unfold wpX_clearRule
  dsimp only
  rw [hc]
  exact ⟨hv, nm_e ⟨hv, nm_e ⟨hv, nm_e ⟨hv, nm_e ⟨hv, nm_e ⟨hv, nm_e h⟩⟩⟩⟩⟩⟩
theorem xl_32 {post : Int32 → SX → Prop} {i K s : Nat} (hi : i < 12) (hs : s ≤ N) (hK : K ≤ 2) (hT : oh_TX tk N xtk xtv)
    (htk : ∀ (xki' xst' xdn' xsn' xdf' xdt' xsf' xse' : Nat → Int32) (xds' xtd' xtm' : Nat → Int64) (post' : Int32 → SX → Prop), post' (nI K) (xfw, xlp, xdy, xrl, xhz, xhc, xts, xos, xpd, nI (N + 1), nI (s + 1), xbk, xrt, xdc, xho, xtx, xou, xnm, xtk, xtv, xki', xst', xdn', xsn', xdf', xdt', xsf', xse', xds', xtd', xtm') → wpX_take post' (xfw, xlp, xdy, xrl, xhz, xhc, xts, xos, xpd, nI (N + 1), xcu, xbk, xrt, xdc, xho, xtx, xou, xnm, xtk, xtv, xki', xst', xdn', xsn', xdf', xdt', xsf', xse', xds', xtd', xtm'))
    (h1 : ∀ its q (xki' xst' xdn' xsn' xdf' xdt' xsf' xse' : Nat → Int32) (xds' xtd' xtm' : Nat → Int64), oh_pr tk N s = some (its, q) → oh_XF xki' xst' xdn' xsn' xdf' xdt' xsf' xse' xds' xtd' xtm' i (oh_sel ((0, K, 0) :: its)) → oh_FR xki xst xdn xsn xdf xdt xsf xse xds xtd xtm xki' xst' xdn' xsn' xdf' xdt' xsf' xse' xds' xtd' xtm' i → post 1 (xfw, xlp, xdy, xrl, xhz, xhc, xts, xos, xpd, nI (N + 1), nI (q + 1), xbk, xrt, xdc, xho, xtx, xou, xnm, xtk, xtv, xki', xst', xdn', xsn', xdf', xdt', xsf', xse', xds', xtd', xtm'))
    (h0 : ∀ c (xki' xst' xdn' xsn' xdf' xdt' xsf' xse' : Nat → Int32) (xds' xtd' xtm' : Nat → Int64), oh_pr tk N s = none → oh_FR xki xst xdn xsn xdf xdt xsf xse xds xtd xtm xki' xst' xdn' xsn' xdf' xdt' xsf' xse' xds' xtd' xtm' i → post 0 (xfw, xlp, xdy, xrl, xhz, xhc, xts, xos, xpd, nI (N + 1), c, xbk, xrt, xdc, xho, xtx, xou, xnm, xtk, xtv, xki', xst', xdn', xsn', xdf', xdt', xsf', xse', xds', xtd', xtm')) : wX_readRule_32 post (nI i) xfw xlp xdy xrl xhz xhc xts xos xpd (nI (N + 1)) xcu xbk xrt xdc xho xtx xou xnm xtk xtv xki xst xdn xsn xdf xdt xsf xse xds xtd xtm := by
  have hc := nI_clamp (n := i) (by omega)
  have hE : oh_E tk N 0 := ⟨fun k hk => Or.inl (hT.2.1 k hk), Or.inl rfl⟩
  unfold wX_readRule_32
  refine xl_clear hi ?_
  dsimp only
  refine htk _ _ _ _ _ _ _ _ _ _ _ _ ?_
  dsimp only
  rw [hc]
  refine ⟨vp_in_nI (by omega) (by omega), nm_e ?_⟩
  have hR0 := oh_XR_new (xki := xki) (xst := xst) (xdn := xdn) (xsn := xsn) (xdf := xdf) (xdt := xdt) (xsf := xsf) (xse := xse) (xds := xds) (xtd := xtd) (xtm := xtm) (i := i) (k := K)
  have hF0 := oh_FR_new (xki := xki) (xst := xst) (xdn := xdn) (xsn := xsn) (xdf := xdf) (xdt := xdt) (xsf := xsf) (xse := xse) (xds := xds) (xtd := xtd) (xtm := xtm) (i0 := i) (k := nI K) (s := 1) (d := 0) (n := 0) (a := 0) (b := 0) (c := 0)
  refine xl_rlM hi hs hT hR0 rfl ?_ ?_
  · intro i1 q1 _ _ _ _ _ _ _ _ _ _ _ e1 hR1 hF1
    have a1 := oh_po_in hE (by omega) hs e1
    dsimp only
    refine br_f (by decide) ?_
    refine xl_rlW hi a1.2.1 hT hR1 ?_ ?_
    · intro i2 q2 _ _ _ _ _ _ _ _ _ _ _ e2 hR2 hF2
      have a2 := oh_po_in hE (by omega) a1.2.1 e2
      rw [oh_ap_ap] at hR2
      dsimp only
      refine br_f (by decide) ?_
      have k1 : ∀ t, t ∈ i1 → t.1 = 1 := fun t ht => by have := (a1.2.2.2 t ht).1; unfold oh_pk at this; omega
      have k2 : ∀ t, t ∈ i2 → t.1 = 2 ∨ t.1 = 3 ∨ t.1 = 4 := fun t ht => by have := (a2.2.2.2 t ht).1; unfold oh_pk at this; omega
      refine xl_rlN hi a2.2.1 hT hR2 ?_ ?_ ?_
      · have : oh_ap (fun _ => []) (i1 ++ i2) 5 = [] := by
          show [] ++ oh_sel (i1 ++ i2) 5 = []
          rw [List.nil_append]
          refine oh_sel_no (fun t ht => ?_)
          rcases List.mem_append.mp ht with z | z
          · have := k1 t z; omega
          · have := k2 t z; omega
        rw [this]; rfl
      · intro i3 q3 _ _ _ _ _ _ _ _ _ _ _ e3 hR3 hF3
        have a3 := oh_po_in hE (by omega) a2.2.1 e3
        have k3 : ∀ t, t ∈ i3 → t.1 = 5 := fun t ht => by have := (a3.2.2.2 t ht).1; unfold oh_pk at this; omega
        rw [oh_ap_ap] at hR3
        dsimp only
        refine br_f (by decide) ?_
        have hF := oh_FR_t hF0 (oh_FR_t hF1 (oh_FR_t hF2 hF3))
        have hpr : oh_pr tk N s = if (oh_ps tk q3).2 = s then none else some (i1 ++ (i2 ++ (i3 ++ (oh_ps tk q3).1)), (oh_ps tk q3).2) := by
          unfold oh_pr; rw [e1]; dsimp only [Option.bind_some]; rw [e2]; dsimp only [Option.bind_some]; rw [e3]; rfl
        refine xl_93 hi hs hT (by omega) a3.2.1 hK hR3 (fun t ht => ?_) ?_ ?_
        · rcases List.mem_append.mp ht with z | z
          · rcases List.mem_append.mp z with y | y
            · have := k1 t y; omega
            · have := k2 t y; omega
          · have := k3 t z; omega
        · intro _ _ _ _ _ _ _ _ _ _ _ hn hXF hF4
          refine h1 _ _ _ _ _ _ _ _ _ _ _ _ _ (by rw [hpr, if_neg hn]) ?_ (oh_FR_t hF hF4)
          rw [List.append_assoc, List.append_assoc] at hXF
          exact hXF
        · intro c _ _ _ _ _ _ _ _ _ _ _ hn hF4
          exact h0 _ _ _ _ _ _ _ _ _ _ _ _ (by rw [hpr, if_pos hn]) (oh_FR_t hF hF4)
      · intro c _ _ _ _ _ _ _ _ _ _ _ e3 hF3
        dsimp only
        refine br_t rfl (xl_93f hi ?_)
        intro _ _ _ _ _ _ _ _ _ _ _ hF4
        refine h0 _ _ _ _ _ _ _ _ _ _ _ _ ?_ (oh_FR_t hF0 (oh_FR_t hF1 (oh_FR_t hF2 (oh_FR_t hF3 hF4))))
        unfold oh_pr; rw [e1]; dsimp only [Option.bind_some]; rw [e2]; dsimp only [Option.bind_some]; rw [e3]; rfl
    · intro c _ _ _ _ _ _ _ _ _ _ _ e2 hF2
      dsimp only
      refine br_t rfl (xl_93f hi ?_)
      intro _ _ _ _ _ _ _ _ _ _ _ hF4
      refine h0 _ _ _ _ _ _ _ _ _ _ _ _ ?_ (oh_FR_t hF0 (oh_FR_t hF1 (oh_FR_t hF2 hF4)))
      unfold oh_pr; rw [e1]; dsimp only [Option.bind_some]; rw [e2]; rfl
  · intro c _ _ _ _ _ _ _ _ _ _ _ e1 hF1
    dsimp only
    refine br_t rfl (xl_93f hi ?_)
    intro _ _ _ _ _ _ _ _ _ _ _ hF4
    refine h0 _ _ _ _ _ _ _ _ _ _ _ _ ?_ (oh_FR_t hF0 (oh_FR_t hF1 hF4))
    unfold oh_pr; rw [e1]; rfl
end
end
section
/-! ===== X: parse ===== -/
def oh_FO (xki xst xdn xsn xdf xdt xsf xse : Nat → Int32) (xds xtd xtm : Nat → Int64) (xki' xst' xdn' xsn' xdf' xdt' xsf' xse' : Nat → Int32) (xds' xtd' xtm' : Nat → Int64) (fb : Nat) : Prop := ∀ i, ¬ (fb ≤ i ∧ i < fb + 6) → oh_AG xki xst xdn xsn xdf xdt xsf xse xds xtd xtm xki' xst' xdn' xsn' xdf' xdt' xsf' xse' xds' xtd' xtm' i
def oh_nx (tk : Nat → Nat) (N l c q : Nat) : Option (Nat × List (Nat × Nat × Nat × Nat)) := if tk q = 0 then some (c, []) else if tk q = 59 ∨ tk q = 44 ∨ tk q = 124 then oh_pp tk N l c (oh_vl (tk q)) (q + 1) else none
theorem oh_pp_nx (tk : Nat → Nat) (N l c kd p : Nat) : oh_pp tk N (l + 1) c kd p = (oh_pr tk N p).bind fun v => (oh_nx tk N l (c + 1) v.2).map (fun w => (w.1, oh_fs c kd v.1 ++ w.2)) := by
  rw [oh_pp]
  congr 1
  funext v
  unfold oh_nx
  by_cases h0 : tk v.2 = 0
  · rw [if_pos h0, if_pos h0]
    simp
  · rw [if_neg h0, if_neg h0]
    by_cases h1 : tk v.2 = 59 ∨ tk v.2 = 44 ∨ tk v.2 = 124
    · rw [if_pos h1, if_pos h1]
    · rw [if_neg h1, if_neg h1]; rfl
section
variable {xki xst xdn xsn xdf xdt xsf xse : Nat → Int32} {xds xtd xtm : Nat → Int64} {xki' xst' xdn' xsn' xdf' xdt' xsf' xse' : Nat → Int32} {xds' xtd' xtm' : Nat → Int64} {xki'' xst'' xdn'' xsn'' xdf'' xdt'' xsf'' xse'' : Nat → Int32} {xds'' xtd'' xtm'' : Nat → Int64} {i fb : Nat}
theorem oh_FO_t (h : oh_FR xki xst xdn xsn xdf xdt xsf xse xds xtd xtm xki' xst' xdn' xsn' xdf' xdt' xsf' xse' xds' xtd' xtm' i) (hi : fb ≤ i ∧ i < fb + 6) (k : oh_FO xki' xst' xdn' xsn' xdf' xdt' xsf' xse' xds' xtd' xtm' xki'' xst'' xdn'' xsn'' xdf'' xdt'' xsf'' xse'' xds'' xtd'' xtm'' fb) : oh_FO xki xst xdn xsn xdf xdt xsf xse xds xtd xtm xki'' xst'' xdn'' xsn'' xdf'' xdt'' xsf'' xse'' xds'' xtd'' xtm'' fb := fun j hj => by
  obtain ⟨⟨a1, a2, a3, a4⟩, a5, a6, a7, a8, a9⟩ := h j (fun z => hj (by omega))
  obtain ⟨⟨b1, b2, b3, b4⟩, b5, b6, b7, b8, b9⟩ := k j hj
  exact ⟨⟨b1.trans a1, b2.trans a2, b3.trans a3, b4.trans a4⟩, fun j hj => ⟨(b5 j hj).1.trans (a5 j hj).1, (b5 j hj).2.trans (a5 j hj).2⟩, fun j hj => ⟨(b6 j hj).1.trans (a6 j hj).1, (b6 j hj).2.trans (a6 j hj).2⟩, b7.trans a7, b8.trans a8, b9.trans a9⟩
theorem oh_FO_r : oh_FO xki xst xdn xsn xdf xdt xsf xse xds xtd xtm xki xst xdn xsn xdf xdt xsf xse xds xtd xtm fb := fun _ _ => oh_AG_r
end
section
variable {xfw xlp xdy xrl xhz xhc xts xos xpd xtc xcu xbk xrt : Int32} {xdc xho xtx xou xtk xtv xki xst xdn xsn xdf xdt xsf xse : Nat → Int32} {xnm xds xtd xtm : Nat → Int64} {tk : Nat → Nat} {N : Nat}
theorem xl_rr {post : Int32 → SX → Prop} {q : Nat} {x : Int32} (hT : oh_TX tk N xtk xtv) (hq : q ≤ N) (h1 : (tk q = 59 ∨ tk q = 44 ∨ tk q = 124) → wX_readRule_32 post x xfw xlp xdy xrl xhz xhc xts xos xpd (nI (N + 1)) (nI (q + 1)) xbk xrt xdc xho xtx xou xnm xtk xtv xki xst xdn xsn xdf xdt xsf xse xds xtd xtm) (h0 : ¬ (tk q = 59 ∨ tk q = 44 ∨ tk q = 124) → post 0 (xfw, xlp, xdy, xrl, xhz, xhc, xts, xos, xpd, nI (N + 1), nI (q + 1), xbk, xrt, xdc, xho, xtx, xou, xnm, xtk, xtv, xki, xst, xdn, xsn, xdf, xdt, xsf, xse, xds, xtd, xtm)) : wpX_readRule post (xfw, xlp, xdy, xrl, xhz, xhc, xts, xos, xpd, nI (N + 1), nI (q + 1), xbk, xrt, xdc, xho, xtx, xou, xnm, xtk, xtv, xki, xst, xdn, xsn, xdf, xdt, xsf, xse, xds, xtd, xtm) x := by
  have hN := hT.1
  have hv := (oh_TX_v hT q).1
  unfold wpX_readRule
  dsimp only
  refine xl_lk (j := 0) 59 (by omega) hT (by omega) (by omega) (fun g => h1 (Or.inl ((oh_kds hv (by omega)).mp g))) (fun g1 => ?_)
  refine xl_lk (j := 0) 44 (by omega) hT (by omega) (by omega) (fun g => h1 (Or.inr (Or.inl ((oh_kds hv (by omega)).mp g)))) (fun g2 => ?_)
  refine xl_lk (j := 0) 124 (by omega) hT (by omega) (by omega) (fun g => h1 (Or.inr (Or.inr ((oh_kds hv (by omega)).mp g)))) (fun g3 => h0 ?_)
  rintro (z | z | z)
  · exact g1 ((oh_kds hv (by omega)).mpr z)
  · exact g2 ((oh_kds hv (by omega)).mpr z)
  · exact g3 ((oh_kds hv (by omega)).mpr z)
theorem xl_15f {post : Int32 → SX → Prop} {x y : Int32} {fu : Nat} (hf : 0 < fu) (h : post (-1) (xfw, xlp, xdy, xrl, xhz, xhc, xts, xos, xpd, xtc, xcu, xbk, xrt, xdc, xho, xtx, xou, xnm, xtk, xtv, xki, xst, xdn, xsn, xdf, xdt, xsf, xse, xds, xtd, xtm)) : wX_parse_15 post x fu y 0 xfw xlp xdy xrl xhz xhc xts xos xpd xtc xcu xbk xrt xdc xho xtx xou xnm xtk xtv xki xst xdn xsn xdf xdt xsf xse xds xtd xtm := by
  obtain ⟨g, rfl⟩ : ∃ g, fu = g + 1 := ⟨fu - 1, by omega⟩
  rw [wX_parse_15]
  refine br_t rfl ?_
  unfold wX_parse_52
  exact br_t rfl h
theorem xl_p15 {post : Int32 → SX → Prop} {fb rl : Nat} (hfb : fb ≤ 6) (hrl : rl ≤ 6) (hT : oh_TX tk N xtk xtv) : ∀ (l c q fu : Nat) (acc : List (Nat × Nat × Nat × Nat)) (xki xst xdn xsn xdf xdt xsf xse : Nat → Int32) (xds xtd xtm : Nat → Int64), c + l = rl → l + 2 ≤ fu → q ≤ N → (∀ f, f ∈ acc → f.1 < c) → (∀ r, r < c → oh_XF xki xst xdn xsn xdf xdt xsf xse xds xtd xtm (fb + r) (oh_sY acc r)) →
    (∀ m FL cu' (xki' xst' xdn' xsn' xdf' xdt' xsf' xse' : Nat → Int32) (xds' xtd' xtm' : Nat → Int64), oh_nx tk N l c q = some (m, FL) → (∀ r, r < m → oh_XF xki' xst' xdn' xsn' xdf' xdt' xsf' xse' xds' xtd' xtm' (fb + r) (oh_sY (acc ++ FL) r)) → oh_FO xki xst xdn xsn xdf xdt xsf xse xds xtd xtm xki' xst' xdn' xsn' xdf' xdt' xsf' xse' xds' xtd' xtm' fb → post (nI m) (xfw, xlp, xdy, nI rl, xhz, xhc, xts, xos, xpd, nI (N + 1), cu', nI fb, nI m, xdc, xho, xtx, xou, xnm, xtk, xtv, xki', xst', xdn', xsn', xdf', xdt', xsf', xse', xds', xtd', xtm')) →
    (∀ cu' (xki' xst' xdn' xsn' xdf' xdt' xsf' xse' : Nat → Int32) (xds' xtd' xtm' : Nat → Int64), oh_nx tk N l c q = none → oh_FO xki xst xdn xsn xdf xdt xsf xse xds xtd xtm xki' xst' xdn' xsn' xdf' xdt' xsf' xse' xds' xtd' xtm' fb → post (-1) (xfw, xlp, xdy, nI rl, xhz, xhc, xts, xos, xpd, nI (N + 1), cu', xbk, xrt, xdc, xho, xtx, xou, xnm, xtk, xtv, xki', xst', xdn', xsn', xdf', xdt', xsf', xse', xds', xtd', xtm')) → wX_parse_15 post (nI fb) fu (nI c) 1 xfw xlp xdy (nI rl) xhz xhc xts xos xpd (nI (N + 1)) (nI (q + 1)) xbk xrt xdc xho xtx xou xnm xtk xtv xki xst xdn xsn xdf xdt xsf xse xds xtd xtm
  | l, c, q, 0, acc, _, _, _, _, _, _, _, _, _, _, _, _, hf, _, _, _, _, _ => absurd hf (by omega)
  | l, c, q, fu + 1, acc, _, _, _, _, _, _, _, _, _, _, _, hcl, hf, hq, hac, hX, h1, h0 => by
    have hN := hT.1
    have hend : N ≤ q → wX_parse_52 post (nI fb) (nI c) 1 xfw xlp xdy (nI rl) xhz xhc xts xos xpd (nI (N + 1)) (nI (q + 1)) xbk xrt xdc xho xtx xou xnm xtk xtv _ _ _ _ _ _ _ _ _ _ _ := fun hNq => by
      unfold wX_parse_52
      refine br_f (by decide) (pk_le (N + 1) (q + 1) (fun a => ?_) (fun a => absurd a (by omega)))
      refine h1 c [] _ _ _ _ _ _ _ _ _ _ _ _ ?_ ?_ oh_FO_r
      · unfold oh_nx; rw [if_pos (hT.2.1 q hNq)]
      · rw [List.append_nil]; exact hX
    rw [wX_parse_15]
    refine br_f (by decide) ?_
    refine pk_le rl c (fun a => ?_) (fun a => ?_)
    · rcases Nat.lt_or_ge q N with z | z
      · unfold wX_parse_52
        refine br_f (by decide) (pk_le (N + 1) (q + 1) (fun b => absurd b (by omega)) (fun b => ?_))
        refine h0 _ _ _ _ _ _ _ _ _ _ _ _ ?_ oh_FO_r
        have l0 : l = 0 := by omega
        subst l0
        unfold oh_nx
        rw [if_neg (by have := (hT.2.2 q z).1.1; omega)]
        split <;> rfl
      · exact hend z
    · refine pk_le (N + 1) (q + 1) (fun b => hend (by omega)) (fun b => ?_)
      obtain ⟨l', rfl⟩ : ∃ l', l = l' + 1 := ⟨l - 1, by omega⟩
      have hq0 : ¬ tk q = 0 := by have := (hT.2.2 q (by omega)).1.1; omega
      rw [nI_add]
      refine xl_rr hT hq (fun hs => ?_) (fun hs => ?_)
      · have hnx : oh_nx tk N (l' + 1) c q = oh_pp tk N (l' + 1) c (oh_vl (tk q)) (q + 1) := by unfold oh_nx; rw [if_neg hq0, if_pos hs]
        have hK : oh_vl (tk q) ≤ 2 := by rcases hs with z | z | z <;> rw [z] <;> decide
        rw [hnx, oh_pp_nx] at h1 h0
        refine xl_32 (K := oh_vl (tk q)) (s := q + 1) (by omega) (by omega) hK hT ?_ ?_ ?_
        · intro _ _ _ _ _ _ _ _ _ _ _ post' hp'
          exact xl_take hT (by omega) hp'
        · intro its q' _ _ _ _ _ _ _ _ _ _ _ e hXF hF
          have hE : oh_E tk N 0 := ⟨fun k hk => Or.inl (hT.2.1 k hk), Or.inl rfl⟩
          have hin := oh_pr_in hE (by omega) e
          have hfs : ∀ f, f ∈ oh_fs c (oh_vl (tk q)) its → f.1 = c := fun f hf => by
            unfold oh_fs at hf
            obtain ⟨t, _, et⟩ := List.mem_map.mp hf
            rw [← et]
          rw [e] at h1 h0
          dsimp only [Option.bind_some] at h1 h0
          dsimp only
          refine nm_r (nI_1 c) ?_
          refine xl_p15 hfb hrl hT l' (c + 1) q' fu (acc ++ oh_fs c (oh_vl (tk q)) its) _ _ _ _ _ _ _ _ _ _ _ (by omega) (by omega) hin.2.2.1 (fun f hf => ?_) (fun r hr => ?_) ?_ ?_
          · rcases List.mem_append.mp hf with z | z
            · have := hac f z; omega
            · have := hfs f z; omega
          · rcases Nat.lt_or_ge r c with z | z
            · have e2 : oh_sY (acc ++ oh_fs c (oh_vl (tk q)) its) r = oh_sY acc r := by
                funext k
                rw [oh_sY_app, oh_sY_no (A := oh_fs c (oh_vl (tk q)) its) (fun f hf => by have := hfs f hf; omega), List.append_nil]
              rw [e2]
              exact oh_XF_ag (hX r z) (hF _ (by omega))
            · have rc : r = c := by omega
              subst rc
              have e2 : oh_sY (acc ++ oh_fs r (oh_vl (tk q)) its) r = oh_sel ((0, oh_vl (tk q), 0) :: its) := by
                funext k
                rw [oh_sY_app, oh_sY_no (A := acc) (fun f hf => by have := hac f hf; omega), List.nil_append, oh_sY_fs]
              rw [e2]
              exact hXF
          · intro m FL cu' _ _ _ _ _ _ _ _ _ _ _ e2 hX2 hF2
            refine h1 m (oh_fs c (oh_vl (tk q)) its ++ FL) cu' _ _ _ _ _ _ _ _ _ _ _ (by rw [e2]; rfl) ?_ (oh_FO_t hF (by omega) hF2)
            rw [← List.append_assoc]; exact hX2
          · intro cu' _ _ _ _ _ _ _ _ _ _ _ e2 hF2
            exact h0 cu' _ _ _ _ _ _ _ _ _ _ _ (by rw [e2]; rfl) (oh_FO_t hF (by omega) hF2)
        · intro cu' _ _ _ _ _ _ _ _ _ _ _ e hF
          dsimp only
          refine nm_r (nI_1 c) (xl_15f (by omega) ?_)
          rw [e] at h0
          exact h0 _ _ _ _ _ _ _ _ _ _ _ _ rfl (oh_FO_t hF (by omega) oh_FO_r)
      · dsimp only
        refine nm_r (nI_1 c) (xl_15f (by omega) ?_)
        refine h0 _ _ _ _ _ _ _ _ _ _ _ _ ?_ oh_FO_r
        unfold oh_nx
        rw [if_neg hq0, if_neg hs]
theorem xl_p0 {post : Int32 → SX → Prop} {fb rl : Nat} (hfb : fb ≤ 6) (hrl1 : 1 ≤ rl) (hrl : rl ≤ 6) (hT : oh_TX tk N xtk xtv) (h59 : xtk 0 = 59) (hv0 : xtv 0 = 0)
    (h1 : ∀ m FL cu' (xki' xst' xdn' xsn' xdf' xdt' xsf' xse' : Nat → Int32) (xds' xtd' xtm' : Nat → Int64), oh_pp tk N rl 0 0 0 = some (m, FL) → (∀ r, r < m → oh_XF xki' xst' xdn' xsn' xdf' xdt' xsf' xse' xds' xtd' xtm' (fb + r) (oh_sY FL r)) → oh_FO xki xst xdn xsn xdf xdt xsf xse xds xtd xtm xki' xst' xdn' xsn' xdf' xdt' xsf' xse' xds' xtd' xtm' fb → post (nI m) (xfw, xlp, xdy, nI rl, xhz, xhc, xts, xos, xpd, nI (N + 1), cu', nI fb, nI m, xdc, xho, xtx, xou, xnm, xtk, xtv, xki', xst', xdn', xsn', xdf', xdt', xsf', xse', xds', xtd', xtm'))
    (h0 : ∀ cu' (xki' xst' xdn' xsn' xdf' xdt' xsf' xse' : Nat → Int32) (xds' xtd' xtm' : Nat → Int64), oh_pp tk N rl 0 0 0 = none → oh_FO xki xst xdn xsn xdf xdt xsf xse xds xtd xtm xki' xst' xdn' xsn' xdf' xdt' xsf' xse' xds' xtd' xtm' fb → post (-1) (xfw, xlp, xdy, nI rl, xhz, xhc, xts, xos, xpd, nI (N + 1), cu', xbk, xrt, xdc, xho, xtx, xou, xnm, xtk, xtv, xki', xst', xdn', xsn', xdf', xdt', xsf', xse', xds', xtd', xtm')) : wX_parse_15 post (nI fb) (rl + 3) 0 1 xfw xlp xdy (nI rl) xhz xhc xts xos xpd (nI (N + 1)) 0 xbk xrt xdc xho xtx xou xnm xtk xtv xki xst xdn xsn xdf xdt xsf xse xds xtd xtm := by
  have hN := hT.1
  obtain ⟨l, rfl⟩ : ∃ l, rl = l + 1 := ⟨rl - 1, by omega⟩
  rw [oh_pp_nx] at h1 h0
  rw [wX_parse_15]
  refine br_f (by decide) ?_
  refine pk_le (l + 1) 0 (fun a => absurd a (by omega)) (fun a => ?_)
  refine pk_le (N + 1) 0 (fun a => absurd a (by omega)) (fun a => ?_)
  rw [show nI fb + 0 = nI fb from nI_add fb 0]
  unfold wpX_readRule
  dsimp only
  have hlk : ∀ {A B : Prop}, A → wpX_look (fun r => (r = 59 → A) ∧ (¬ r = 59 → B)) (xfw, xlp, xdy, nI (l + 1), xhz, xhc, xts, xos, xpd, nI (N + 1), 0, xbk, xrt, xdc, xho, xtx, xou, xnm, xtk, xtv, xki, xst, xdn, xsn, xdf, xdt, xsf, xse, xds, xtd, xtm) 0 := fun hA => by
    unfold wpX_look
    dsimp only
    refine pk_le (N + 1) 0 (fun z => absurd z (by omega)) (fun z => ⟨vp_in_nI (n := 0) (by omega) (by omega), ?_⟩)
    rw [show ((0 : Int32) + 0).toNatClampNeg = 0 by decide, h59]
    exact br_t rfl hA
  refine hlk ?_
  refine xl_32 (K := 0) (s := 0) (by omega) (by omega) (by omega) hT ?_ ?_ ?_
  · intro _ _ _ _ _ _ _ _ _ _ _ post' hp'
    unfold wpX_take
    dsimp only
    refine pk_le (N + 1) 0 (fun z => absurd z (by omega)) (fun z => nm_r (e' := nI (0 + 1)) rfl ⟨vp_in_nI (n := 0) (by omega) (by omega), ?_⟩)
    rw [show (0 : Int32).toNatClampNeg = 0 by decide, hv0]
    exact hp'
  · intro its q' _ _ _ _ _ _ _ _ _ _ _ e hXF hF
    have hE : oh_E tk N 0 := ⟨fun k hk => Or.inl (hT.2.1 k hk), Or.inl rfl⟩
    have hin := oh_pr_in hE (by omega) e
    rw [e] at h1 h0
    dsimp only [Option.bind_some] at h1 h0
    dsimp only
    refine nm_r (nI_1 0) ?_
    refine xl_p15 hfb hrl hT l 1 q' (l + 3) (oh_fs 0 0 its) _ _ _ _ _ _ _ _ _ _ _ (by omega) (by omega) hin.2.2.1 (fun f hf => ?_) (fun r hr => ?_) ?_ ?_
    · unfold oh_fs at hf
      obtain ⟨t, _, et⟩ := List.mem_map.mp hf
      rw [← et]; exact Nat.zero_lt_one
    · have r0 : r = 0 := by omega
      subst r0
      rw [oh_sY_fs]; exact hXF
    · intro m FL cu' _ _ _ _ _ _ _ _ _ _ _ e2 hX2 hF2
      exact h1 m (oh_fs 0 0 its ++ FL) cu' _ _ _ _ _ _ _ _ _ _ _ (by rw [e2]; rfl) hX2 (oh_FO_t hF (by omega) hF2)
    · intro cu' _ _ _ _ _ _ _ _ _ _ _ e2 hF2
      exact h0 cu' _ _ _ _ _ _ _ _ _ _ _ (by rw [e2]; rfl) (oh_FO_t hF (by omega) hF2)
  · intro cu' _ _ _ _ _ _ _ _ _ _ _ e hF
    dsimp only
    refine nm_r (nI_1 0) (xl_15f (by omega) ?_)
    rw [e] at h0
    exact h0 _ _ _ _ _ _ _ _ _ _ _ _ rfl (oh_FO_t hF (by omega) oh_FO_r)
theorem xl_parse {post : Int32 → SX → Prop} {ch : Nat → Nat} {n b rl : Nat} (hT : oh_T ch n) (hx : ∀ j, xtx j = nI (ch j)) (hn : ∀ i, i < 24 → xnm i = lN (oh_le (oh_NS.getD i []))) (hb : b ≤ 6) (hrl1 : 1 ≤ rl) (hrl : rl ≤ 6)
    (h1 : ∀ m FL tc cu (xtk xtv : Nat → Int32) (xki' xst' xdn' xsn' xdf' xdt' xsf' xse' : Nat → Int32) (xds' xtd' xtm' : Nat → Int64), oh_pp (oh_tk (oh_tz ch n 0)) (oh_tz ch n 0).length rl 0 0 0 = some (m, FL) → (∀ r, r < m → oh_XF xki' xst' xdn' xsn' xdf' xdt' xsf' xse' xds' xtd' xtm' (6 - b + r) (oh_sY FL r)) → oh_FO xki xst xdn xsn xdf xdt xsf xse xds xtd xtm xki' xst' xdn' xsn' xdf' xdt' xsf' xse' xds' xtd' xtm' (6 - b) → post (nI m) (xfw, xlp, xdy, nI rl, xhz, xhc, nI n, xos, xpd, tc, cu, nI (6 - b), nI m, xdc, xho, xtx, xou, xnm, xtk, xtv, xki', xst', xdn', xsn', xdf', xdt', xsf', xse', xds', xtd', xtm'))
    (h0 : ∀ tc cu (xtk xtv : Nat → Int32) (xki' xst' xdn' xsn' xdf' xdt' xsf' xse' : Nat → Int32) (xds' xtd' xtm' : Nat → Int64), oh_pp (oh_tk (oh_tz ch n 0)) (oh_tz ch n 0).length rl 0 0 0 = none → oh_FO xki xst xdn xsn xdf xdt xsf xse xds xtd xtm xki' xst' xdn' xsn' xdf' xdt' xsf' xse' xds' xtd' xtm' (6 - b) → post (-1) (xfw, xlp, xdy, nI rl, xhz, xhc, nI n, xos, xpd, tc, cu, nI b, xrt, xdc, xho, xtx, xou, xnm, xtk, xtv, xki', xst', xdn', xsn', xdf', xdt', xsf', xse', xds', xtd', xtm')) : wpX_parse post (xfw, xlp, xdy, nI rl, xhz, xhc, nI n, xos, xpd, xtc, xcu, nI b, xrt, xdc, xho, xtx, xou, xnm, xtk, xtv, xki, xst, xdn, xsn, xdf, xdt, xsf, xse, xds, xtd, xtm) := by
  unfold wpX_parse
  dsimp only
  refine nm_r (e' := nI (6 - b)) (pk_sub (a := 6) (b := b) hb) ?_
  refine xz_tokenize hT hx hn ?_ ?_
  · intro xtk xtv hg hTX t0 v0
    dsimp only
    refine ⟨rl + 3, ?_⟩
    refine xl_p0 (by omega) hrl1 hrl hTX t0 v0 ?_ ?_
    · intro m FL cu' _ _ _ _ _ _ _ _ _ _ _ e hX hF
      exact h1 _ _ _ _ _ _ _ _ _ _ _ _ _ _ _ _ _ e hX hF
    · intro cu' _ _ _ _ _ _ _ _ _ _ _ e hF
      exact h0 _ _ _ _ _ _ _ _ _ _ _ _ _ _ _ e hF
  · intro tc xtk xtv h2
    dsimp only
    refine ⟨1, xl_15f (by omega) ?_⟩
    exact h0 _ _ _ _ _ _ _ _ _ _ _ _ _ _ _ (oh_pp_0 h2) oh_FO_r
end
end
section
/-! ===== Y: the readers of items ===== -/
theorem oh_r2 {a : Nat} (h : a < 2 ^ 31) : nI a - nI a / 2 * 2 = nI (a % 2) := pk_rem (d := 2) h (by decide) (by decide)
theorem oh_d2 {a : Nat} (h : a < 2 ^ 31) : nI a / 2 = nI (a / 2) := pk_div (d := 2) h (by decide) (by decide)
theorem oh_r3 {a : Nat} (h : a < 2 ^ 31) : nI a - nI a / 3 * 3 = nI (a % 3) := pk_rem (d := 3) h (by decide) (by decide)
theorem oh_d3 {a : Nat} (h : a < 2 ^ 31) : nI a / 3 = nI (a / 3) := pk_div (d := 3) h (by decide) (by decide)
theorem oh_r6 {a : Nat} (h : a < 2 ^ 31) : nI a - nI a / 6 * 6 = nI (a % 6) := pk_rem (d := 6) h (by decide) (by decide)
theorem oh_d6 {a : Nat} (h : a < 2 ^ 31) : nI a / 6 = nI (a / 6) := pk_div (d := 6) h (by decide) (by decide)
theorem oh_r7 {a : Nat} (h : a < 2 ^ 31) : nI a - nI a / 7 * 7 = nI (a % 7) := pk_rem (d := 7) h (by decide) (by decide)
theorem oh_d7 {a : Nat} (h : a < 2 ^ 31) : nI a / 7 = nI (a / 7) := pk_div (d := 7) h (by decide) (by decide)
theorem oh_r8 {a : Nat} (h : a < 2 ^ 31) : nI a - nI a / 8 * 8 = nI (a % 8) := pk_rem (d := 8) h (by decide) (by decide)
theorem oh_d8 {a : Nat} (h : a < 2 ^ 31) : nI a / 8 = nI (a / 8) := pk_div (d := 8) h (by decide) (by decide)
theorem oh_r10 {a : Nat} (h : a < 2 ^ 31) : nI a - nI a / 10 * 10 = nI (a % 10) := pk_rem (d := 10) h (by decide) (by decide)
theorem oh_d10 {a : Nat} (h : a < 2 ^ 31) : nI a / 10 = nI (a / 10) := pk_div (d := 10) h (by decide) (by decide)
theorem oh_r30 {a : Nat} (h : a < 2 ^ 31) : nI a - nI a / 30 * 30 = nI (a % 30) := pk_rem (d := 30) h (by decide) (by decide)
theorem oh_d30 {a : Nat} (h : a < 2 ^ 31) : nI a / 30 = nI (a / 30) := pk_div (d := 30) h (by decide) (by decide)
theorem oh_r32 {a : Nat} (h : a < 2 ^ 31) : nI a - nI a / 32 * 32 = nI (a % 32) := pk_rem (d := 32) h (by decide) (by decide)
theorem oh_d32 {a : Nat} (h : a < 2 ^ 31) : nI a / 32 = nI (a / 32) := pk_div (d := 32) h (by decide) (by decide)
theorem oh_r48 {a : Nat} (h : a < 2 ^ 31) : nI a - nI a / 48 * 48 = nI (a % 48) := pk_rem (d := 48) h (by decide) (by decide)
theorem oh_d48 {a : Nat} (h : a < 2 ^ 31) : nI a / 48 = nI (a / 48) := pk_div (d := 48) h (by decide) (by decide)
theorem oh_r512 {a : Nat} (h : a < 2 ^ 31) : nI a - nI a / 512 * 512 = nI (a % 512) := pk_rem (d := 512) h (by decide) (by decide)
theorem oh_d512 {a : Nat} (h : a < 2 ^ 31) : nI a / 512 = nI (a / 512) := pk_div (d := 512) h (by decide) (by decide)
theorem oh_r262144 {a : Nat} (h : a < 2 ^ 31) : nI a - nI a / 262144 * 262144 = nI (a % 262144) := pk_rem (d := 262144) h (by decide) (by decide)
theorem oh_d262144 {a : Nat} (h : a < 2 ^ 31) : nI a / 262144 = nI (a / 262144) := pk_div (d := 262144) h (by decide) (by decide)
def oh_YK (tk : Nat → Nat) (n : Nat) (ytx : Nat → Int32) (ynm : Nat → Int64) : Prop := ∃ ch : Nat → Nat, oh_T ch n ∧ (∀ j, ytx j = nI (ch j)) ∧ (∀ i, i < 24 → ynm (i + 1) = lN (oh_be (oh_NS.getD i []))) ∧ tk = oh_tk (oh_tz ch n 0)
theorem oh_tk_vc : ∀ {l : List Nat}, (∀ c, c ∈ l → oh_vc c ∧ 0 < c) → ∀ k, oh_vc (oh_tk l k)
  | [], _, k => by rw [oh_tk]; exact Or.inl (by omega)
  | c :: t, h, 0 => by rw [oh_tk]; exact (h c List.mem_cons_self).1
  | c :: t, h, k + 1 => by
    rw [oh_tk]
    split
    · unfold oh_vc; omega
    · exact oh_tk_vc (fun d hd => h d (List.mem_cons_of_mem _ hd)) k
theorem oh_YK_v {tk : Nat → Nat} {n : Nat} {ytx : Nat → Int32} {ynm : Nat → Int64} (h : oh_YK tk n ytx ynm) (k : Nat) : oh_vc (tk k) := by
  obtain ⟨ch, _, _, _, rfl⟩ := h
  exact oh_tk_vc (oh_tz_all ch n n 0 (by omega)).1 k
theorem oh_ci_eq {c s : Nat} (h : oh_vc c) (hs : s < 1000) : oh_ci c = nI s ↔ c = s := by
  unfold oh_ci
  split
  · rename_i z
    refine ⟨fun q => absurd q.symm (oh_nI_neg (by omega)), fun q => by omega⟩
  · unfold oh_vc at h
    exact nI_eq (by omega) (by omega)
theorem oh_ci_sub {c : Nat} (s : Nat) (h : s ≤ c) (h2 : ¬ c = 2000) : oh_ci c - nI s = nI (c - s) := by rw [oh_ci_n h2, pk_sub h]
theorem oh_ci_subn {c : Nat} (s : Nat) (hv : oh_vc c) (h : c < s ∨ c = 2000) (hs : s ≤ 1000) : oh_ci c - nI s < 0 := by
  unfold oh_ci
  unfold oh_vc at hv
  split
  · rw [Int32.lt_iff_toInt_lt]
    have e1 : (-1 : Int32) = nI 0 - nI 1 := by decide
    have : (-1 : Int32) - nI s = nI 0 - nI (1 + s) := by
      rw [e1, ← nI_add]
      generalize nI 0 = a
      generalize nI 1 = b
      generalize nI s = c
      grind
    rw [this, pk_sub_toInt (by omega) (by omega)]
    show _ < (0 : Int)
    omega
  · exact pk_sneg (by omega) (by omega)
def oh_enc (f : Nat × Nat × Nat × Nat) : Nat := ((f.1 * 8 + f.2.1) * 512 + f.2.2.1) * 512 + f.2.2.2
def oh_YF (FL : List (Nat × Nat × Nat × Nat)) (fc : Int32) (fa : Nat → Int32) : Prop := fc = nI FL.length ∧ FL.length ≤ 128 ∧ ∀ i, i < FL.length → fa i = nI (oh_enc (FL.getD i (0, 0, 0, 0)))
def oh_YP (kp : Nat) (fc0 : Int32) (fa0 : Nat → Int32) (acc : List (Nat × Nat × Nat × Nat)) (fc : Int32) (fa : Nat → Int32) : Prop := (kp = 0 ∧ fc = fc0 ∧ fa = fa0) ∨ (kp = 1 ∧ oh_YF acc fc fa)
section
variable {yfw ylp yrl yhd yts yos ylt yfc yru yps yrd ykp : Int32} {ytx you yfa yho : Nat → Int32} {ynm : Nat → Int64} {tk : Nat → Nat} {n kp : Nat} {fc0 : Int32} {fa0 : Nat → Int32} {acc : List (Nat × Nat × Nat × Nat)}
theorem yk_tok {post : Int32 → Prop} {x : Int32} (hK : oh_YK tk n ytx ynm) (k : Nat) (hk : k < 1000) (ex : x = nI k) (h : post (oh_ci (tk k))) : wpY_token post (yfw, ylp, yrl, yhd, nI n, yos, ylt, yfc, yru, yps, yrd, ykp, ytx, you, yfa, ynm, yho) x := by
  obtain ⟨ch, a, b, c, rfl⟩ := hK
  exact yz_tok a b c k hk ex h
theorem yk_cls {post : Int32 → Prop} {x : Int32} (c : Nat) (hv : oh_vc c) (ex : x = oh_ci c) (h : post (nI (oh_cls c))) : wpY_classOf post (yfw, ylp, yrl, yhd, yts, yos, ylt, yfc, yru, yps, yrd, ykp, ytx, you, yfa, ynm, yho) x := by
  subst ex
  unfold wpY_classOf
  dsimp only
  unfold wY_classOf_27 wY_classOf_43
  by_cases z : c = 2000
  · subst z
    exact br_t (by decide) (br_t (by decide) (br_t (by decide) (br_t (by decide) h)))
  · rw [oh_ci_n z]
    unfold oh_vc at hv
    have e1 := @oh_cls1 c
    have e2 := @oh_cls2 c
    have e3 := @oh_cls3 c
    have e4 := @oh_cls4 c
    have e5 := oh_cls_le c
    have f0 : oh_cls c = 0 → post 0 := fun q => by rw [q] at h; exact h
    have f1 : oh_cls c = 1 → post 1 := fun q => by rw [q] at h; exact h
    have f2 : oh_cls c = 2 → post 2 := fun q => by rw [q] at h; exact h
    have f3 : oh_cls c = 3 → post 3 := fun q => by rw [q] at h; exact h
    have f4 : oh_cls c = 4 → post 4 := fun q => by rw [q] at h; exact h
    refine pk_lt c 1000 (fun a => pk_lt c 21 (fun b => pk_lt c 13 (fun d => pk_lt c 1 (fun g => f0 (by omega)) (fun g => pk_lt 12 c (fun i => f0 (by omega)) (fun i => f1 (by omega)))) (fun d => pk_lt 20 c (fun g => absurd g (by omega)) (fun g => f2 (by omega)))) (fun b => pk_lt 24 c (fun d => pk_lt c 13 (fun g => absurd g (by omega)) (fun g => pk_lt 20 c (fun i => pk_lt c 1 (fun j => absurd j (by omega)) (fun j => pk_lt 12 c (fun _ => f0 (by omega)) (fun j => absurd j (by omega)))) (fun i => absurd i (by omega)))) (fun d => f4 (by omega)))) (fun a => f3 (by omega))
theorem oh_YF_s {f : Nat × Nat × Nat × Nat} {fc : Int32} {fa : Nat → Int32} (h : oh_YF acc fc fa) (hr : acc.length < 128) : oh_YF (acc ++ [f]) (nI (acc.length + 1)) (upd fa acc.length (nI (oh_enc f))) := by
  refine ⟨by rw [List.length_append, List.length_singleton], by rw [List.length_append, List.length_singleton]; omega, fun i hi => ?_⟩
  rw [List.length_append, List.length_singleton] at hi
  rcases Nat.lt_or_ge i acc.length with z | z
  · rw [pk_un (by omega), oh_gA z]; exact h.2.2 i z
  · have : i = acc.length := by omega
    subst this
    rw [pk_us]; simp
theorem yk_add {post : Int32 → SY → Prop} {r k a b : Nat} {x1 x2 x3 : Int32} (hP : oh_YP kp fc0 fa0 acc yfc yfa) (hr : kp = 1 → acc.length < 128) (e1 : x1 = nI k) (e2 : x2 = nI a) (e3 : x3 = nI b) (h : ∀ fc' fa', oh_YP kp fc0 fa0 (acc ++ [(r, k, a, b)]) fc' fa' → post 1 (yfw, ylp, yrl, yhd, yts, yos, ylt, fc', yru, yps, nI r, nI kp, ytx, you, fa', ynm, yho)) : wpY_add post (yfw, ylp, yrl, yhd, yts, yos, ylt, yfc, yru, yps, nI r, nI kp, ytx, you, yfa, ynm, yho) 1 x1 x2 x3 := by
  subst e1 e2 e3
  unfold wpY_add
  dsimp only
  refine br_f (by decide) ?_
  rcases hP with ⟨z, e1, e2⟩ | ⟨z, hF⟩
  · subst z
    exact br_t rfl ⟨narrow_b1, h _ _ (Or.inl ⟨rfl, e1, e2⟩)⟩
  · subst z
    have hr := hr rfl
    have hc := hF.1
    subst hc
    refine br_f (by decide) (pk_le 128 acc.length (fun q => absurd q (by omega)) (fun _ => ?_))
    refine nm_r (nI_1 _) ⟨vp_in_nI (by omega) (by omega), nm_r (e' := upd yfa acc.length (nI (oh_enc (r, k, a, b)))) ?_ ⟨narrow_b1, h _ _ (Or.inr ⟨rfl, oh_YF_s hF hr⟩)⟩⟩
    rw [nI_clamp (by omega)]
    congr 1
    unfold oh_enc
    dsimp only
    rw [show nI r * 8 = nI (r * 8) from pk_mul r 8, nI_add, show nI (r * 8 + k) * 512 = nI ((r * 8 + k) * 512) from pk_mul _ 512, nI_add, show nI ((r * 8 + k) * 512 + a) * 512 = nI (((r * 8 + k) * 512 + a) * 512) from pk_mul _ 512, nI_add]
theorem yk_add0 {post : Int32 → SY → Prop} {x1 x2 x3 : Int32} (h : post 0 (yfw, ylp, yrl, yhd, yts, yos, ylt, yfc, yru, yps, yrd, ykp, ytx, you, yfa, ynm, yho)) : wpY_add post (yfw, ylp, yrl, yhd, yts, yos, ylt, yfc, yru, yps, yrd, ykp, ytx, you, yfa, ynm, yho) 0 x1 x2 x3 := by
  unfold wpY_add
  dsimp only
  exact br_t rfl ⟨narrow_b0, h⟩
theorem yk_ml {post : Int32 → Prop} {x y : Int32} (m lp : Nat) (hx : x = nI m) (hy : y = nI lp) (hm : m < 1000) (h : post (nI (oh_ml m lp))) : wpY_monthLength post (yfw, ylp, yrl, yhd, yts, yos, ylt, yfc, yru, yps, yrd, ykp, ytx, you, yfa, ynm, yho) x y := by
  subst hx hy
  unfold wpY_monthLength
  dsimp only
  unfold oh_ml at h
  refine pk_eq m 2 (fun a => ?_) (fun a => pk_eq m 4 (fun b => ?_) (fun b => pk_eq m 6 (fun c => ?_) (fun c => pk_eq m 9 (fun d => ?_) (fun d => pk_eq m 11 (fun e => ?_) (fun e => ?_)))))
  · rw [if_pos a] at h
    rw [show (28 : Int32) + nI lp = nI (28 + lp) from nI_add 28 lp]; exact h
  all_goals first
    | (rw [if_neg a, if_pos (by omega)] at h; exact h)
    | (rw [if_neg a, if_neg (by omega)] at h; exact h)
/-- a date as Y holds it: -1, or month and day, the day 0 if there is none -/
def oh_mv (m : Nat) (b : Prop) (d : Nat) (x : Int32) : Prop := (x = -1 ∧ b ∧ ¬ (1 ≤ d ∧ d ≤ oh_ml m 1)) ∨ (¬ b ∧ x = nI (32 * m)) ∨ (b ∧ (1 ≤ d ∧ d ≤ oh_ml m 1) ∧ x = nI (32 * m + d))
theorem yk_md {post : Int32 → SY → Prop} {p : Nat} (hK : oh_YK tk n ytx ynm) (hp : p ≤ 900) (hc : oh_cls (tk p) = 1) (h : ∀ x, oh_mv (tk p) (oh_cls (tk (p + 1)) = 3 ∧ ¬ tk (p + 1 + 1) = 58) (tk (p + 1) - 1000) x → post x (yfw, ylp, yrl, yhd, nI n, yos, ylt, yfc, yru, nI (oh_qa tk (p + 1)), yrd, ykp, ytx, you, yfa, ynm, yho)) : wpY_monthday post (yfw, ylp, yrl, yhd, nI n, yos, ylt, yfc, yru, nI p, yrd, ykp, ytx, you, yfa, ynm, yho) := by
  have hm := oh_cls1.mp hc
  have hv1 := oh_YK_v hK (p + 1)
  have hv2 := oh_YK_v hK (p + 2)
  have hml := oh_ml_in (tk p) 1 (by omega)
  have e32 : (32 : Int32) * nI (tk p) = nI (32 * tk p) := pk_mul 32 _
  unfold wpY_monthday
  dsimp only
  refine yk_tok hK p (by omega) rfl ?_
  refine yk_tok hK (p + 1) (by omega) (nI_1 p) ?_
  rw [oh_ci_n (c := tk p) (by omega)]
  have hbare : ¬ (oh_cls (tk (p + 1)) = 3 ∧ ¬ tk (p + 1 + 1) = 58) → ∀ x2, wY_monthday_43 post (nI (tk p)) x2 yfw ylp yrl yhd (nI n) yos ylt yfc yru (nI p) yrd ykp ytx you yfa ynm yho := fun z x2 => by
    unfold wY_monthday_43 wY_monthday_48 wY_monthday_63
    refine br_f (by decide) (nm_r (nI_1 p) (br_f (by decide) ?_))
    rw [e32]
    have := h (nI (32 * tk p)) (Or.inr (Or.inl ⟨z, rfl⟩))
    rw [show oh_qa tk (p + 1) = p + 1 from if_neg z] at this
    exact this
  by_cases c3 : oh_cls (tk (p + 1)) = 3
  · have c3b := oh_c3 hv1 c3
    refine nm_r (oh_ci_sub 1000 (by omega) (by omega)) (br_f (nI_pos (by omega)) ?_)
    refine yk_tok hK (p + 2) (by omega) (nI_add p 2) ?_
    refine ek_if (oh_ci_eq hv2 (s := 58) (by omega)) (fun g => hbare (fun z => z.2 g) _) (fun g => ?_)
    have z : oh_cls (tk (p + 1)) = 3 ∧ ¬ tk (p + 1 + 1) = 58 := ⟨c3, g⟩
    have hq : oh_qa tk (p + 1) = p + 2 := if_pos z
    rw [hq] at h
    unfold wY_monthday_48 wY_monthday_63
    refine br_t rfl (nm_r (e' := nI (p + 2)) (nI_add p 2) (br_t rfl ?_))
    refine pk_lt (tk (p + 1) - 1000) 1 (fun g1 => h _ (Or.inl ⟨rfl, z, by omega⟩)) (fun g1 => ?_)
    refine yk_ml (tk p) 1 rfl rfl (by omega) ?_
    refine pk_le (tk (p + 1) - 1000) (oh_ml (tk p) 1) (fun g2 => ?_) (fun g2 => h _ (Or.inl ⟨rfl, z, by omega⟩))
    rw [e32, nI_add]
    exact h _ (Or.inr (Or.inr ⟨z, by omega, rfl⟩))
  · have hneg : oh_ci (tk (p + 1)) - 1000 < 0 := oh_ci_subn 1000 hv1 (by rw [oh_cls3] at c3; unfold oh_vc at hv1; omega) (by omega)
    exact nm_e (br_t hneg (hbare (fun z => c3 z.1) _))
theorem yk_146n {post : Int32 → SY → Prop} {x y : Int32} (h : post 0 (yfw, ylp, yrl, yhd, yts, yos, ylt, yfc, yru, yps, yrd, ykp, ytx, you, yfa, ynm, yho)) (hxy : x ≤ 0 ∨ y ≤ 0) : wY_readDate_146 post x y yfw ylp yrl yhd yts yos ylt yfc yru yps yrd ykp ytx you yfa ynm yho := by
  unfold wY_readDate_146 wY_readDate_159 wY_readDate_160
  have ha : wpY_add (fun r_61 u => match u with | (yfw, ylp, yrl, yhd, yts, yos, ylt, yfc, yru, yps, yrd, ykp, ytx, you, yfa, ynm, yho) => (narrow .boolean (.int r_61) = .int r_61 ∧ (post r_61 (yfw, ylp, yrl, yhd, yts, yos, ylt, yfc, yru, yps, yrd, ykp, ytx, you, yfa, ynm, yho)))) (yfw, ylp, yrl, yhd, yts, yos, ylt, yfc, yru, yps, yrd, ykp, ytx, you, yfa, ynm, yho) 0 1 x y := yk_add0 ⟨narrow_b0, h⟩
  rcases hxy with a | a
  · exact br_t a ha
  · exact br_c (fun _ => ha) (fun _ => br_t a ha)
theorem yk_127n {post : Int32 → SY → Prop} {y : Int32} {x : Int32} (hx : x ≤ 0) (h : post 0 (yfw, ylp, yrl, yhd, yts, yos, ylt, yfc, yru, yps, yrd, ykp, ytx, you, yfa, ynm, yho)) (hy : y = -1 ∨ ∃ m d, 1 ≤ m ∧ m ≤ 12 ∧ d ≤ 31 ∧ y = nI (32 * m + d)) : wY_readDate_127 post x y yfw ylp yrl yhd yts yos ylt yfc yru yps yrd ykp ytx you yfa ynm yho := by
  unfold wY_readDate_127
  rcases hy with rfl | ⟨m, d, h1, h2, h3, rfl⟩
  · exact ⟨by decide, br_f (by decide) (yk_146n h (Or.inl hx))⟩
  · refine ⟨by decide, ?_⟩
    rw [oh_r32 (a := 32 * m + d) (by omega)]
    refine pk_eq ((32 * m + d) % 32) 0 (fun a => ⟨by decide, ?_⟩) (fun a => yk_146n h (Or.inl hx))
    refine yk_ml m 1 (by rw [oh_d32 (by omega)]; congr 1; omega) rfl (by omega) ?_
    exact nm_e (yk_146n h (Or.inl hx))
theorem yk_127m {post : Int32 → SY → Prop} {x : Int32} (h : post 0 (yfw, ylp, yrl, yhd, yts, yos, ylt, yfc, yru, yps, yrd, ykp, ytx, you, yfa, ynm, yho)) : wY_readDate_127 post x (-1) yfw ylp yrl yhd yts yos ylt yfc yru yps yrd ykp ytx you yfa ynm yho := by
  unfold wY_readDate_127
  exact ⟨by decide, br_f (by decide) (yk_146n h (Or.inr (by decide)))⟩
theorem yk_160 {post : Int32 → SY → Prop} {r a b : Nat} (hP : oh_YP kp fc0 fa0 acc yfc yfa) (hr : kp = 1 → acc.length < 128) (ha : 0 < a) (hb : 0 < b) (ha2 : a < 512) (hb2 : b < 512) (h : ∀ fc' fa', oh_YP kp fc0 fa0 (acc ++ [(r, 1, a, b)]) fc' fa' → post 1 (yfw, ylp, yrl, yhd, yts, yos, ylt, fc', yru, yps, nI r, nI kp, ytx, you, fa', ynm, yho)) : wY_readDate_146 post (nI a) (nI b) yfw ylp yrl yhd yts yos ylt yfc yru yps (nI r) (nI kp) ytx you yfa ynm yho := by
  unfold wY_readDate_146
  refine br_f (nI_nle ha (by omega)) (br_f (nI_nle hb (by omega)) ?_)
  unfold wY_readDate_160
  refine yk_add (k := 1) hP hr rfl rfl rfl (fun fc' fa' hP' => ?_)
  exact ⟨narrow_b1, h fc' fa' hP'⟩
theorem yk_117 {post : Int32 → SY → Prop} {r m m2 d d2 : Nat} {b1 b2 : Prop} {x y : Int32} (hP : oh_YP kp fc0 fa0 acc yfc yfa) (hr : kp = 1 → acc.length < 128) (hm : 1 ≤ m ∧ m ≤ 12) (hm2 : 1 ≤ m2 ∧ m2 ≤ 12) (hx : oh_mv m b1 d x) (hy : oh_mv m2 b2 d2 y) (D D2 : Nat) (k1 : b1 → D = d) (k2 : ¬ b1 → D = 1) (k3 : b2 → D2 = d2) (k4 : ¬ b2 → D2 = oh_ml m2 1)
    (h1 : 1 ≤ D ∧ D ≤ oh_ml m 1 ∧ 1 ≤ D2 ∧ D2 ≤ oh_ml m2 1 → ∀ fc' fa', oh_YP kp fc0 fa0 (acc ++ [(r, 1, 32 * m + D, 32 * m2 + D2)]) fc' fa' → post 1 (yfw, ylp, yrl, yhd, yts, yos, ylt, fc', yru, yps, nI r, nI kp, ytx, you, fa', ynm, yho))
    (h0 : ¬ (1 ≤ D ∧ D ≤ oh_ml m 1 ∧ 1 ≤ D2 ∧ D2 ≤ oh_ml m2 1) → post 0 (yfw, ylp, yrl, yhd, yts, yos, ylt, yfc, yru, yps, nI r, nI kp, ytx, you, yfa, ynm, yho)) : wY_readDate_117 post x y yfw ylp yrl yhd yts yos ylt yfc yru yps (nI r) (nI kp) ytx you yfa ynm yho := by
  have l1 := oh_ml_in m 1 (by omega)
  have l2 := oh_ml_in m2 1 (by omega)
  have hy' : y = -1 ∨ ∃ m d, 1 ≤ m ∧ m ≤ 12 ∧ d ≤ 31 ∧ y = nI (32 * m + d) := by
    rcases hy with z | z | z
    · exact Or.inl z.1
    · exact Or.inr ⟨m2, 0, hm2.1, hm2.2, by omega, z.2⟩
    · exact Or.inr ⟨m2, d2, hm2.1, hm2.2, by omega, z.2.2⟩
  have h127 : ∀ z : Int32, z = nI (32 * m + D) → 1 ≤ D ∧ D ≤ oh_ml m 1 → wY_readDate_127 post z y yfw ylp yrl yhd yts yos ylt yfc yru yps (nI r) (nI kp) ytx you yfa ynm yho := by
    intro z hz hD
    subst hz
    rcases hy with ⟨ya, yb, yc⟩ | ⟨ya, yb⟩ | ⟨ya, yb, yc⟩
    · subst ya
      refine yk_127m (h0 (fun q => yc ?_))
      rw [← k3 yb]; exact q.2.2
    · subst yb
      have := k4 ya
      unfold wY_readDate_127
      refine ⟨by decide, ?_⟩
      rw [oh_r32 (a := 32 * m2) (by omega)]
      refine pk_eq (32 * m2 % 32) 0 (fun a => ⟨by decide, ?_⟩) (fun a => absurd a (by omega))
      refine yk_ml m2 1 (by rw [oh_d32 (by omega)]; congr 1; omega) rfl (by omega) ?_
      refine nm_r (e' := nI (32 * m2 + D2)) (by rw [nI_add, this]) ?_
      exact yk_160 hP hr (by omega) (by omega) (by omega) (by omega) (h1 ⟨hD.1, hD.2, by omega, by omega⟩)
    · subst yc
      have := k3 ya
      unfold wY_readDate_127
      refine ⟨by decide, ?_⟩
      rw [oh_r32 (a := 32 * m2 + d2) (by omega)]
      refine pk_eq ((32 * m2 + d2) % 32) 0 (fun a => absurd a (by omega)) (fun a => ?_)
      rw [← this]
      exact yk_160 hP hr (by omega) (by omega) (by omega) (by omega) (h1 ⟨hD.1, hD.2, by omega, by omega⟩)
  unfold wY_readDate_117
  rcases hx with ⟨xa, xb, xc⟩ | ⟨xa, xb⟩ | ⟨xa, xb, xc⟩
  · subst xa
    refine ⟨by decide, br_f (by decide) (yk_127n (by decide) (h0 (fun q => xc ?_)) hy')⟩
    rw [← k1 xb]; exact ⟨q.1, q.2.1⟩
  · subst xb
    have := k2 xa
    refine ⟨by decide, ?_⟩
    rw [oh_r32 (a := 32 * m) (by omega)]
    refine pk_eq (32 * m % 32) 0 (fun a => ?_) (fun a => absurd a (by omega))
    exact nm_r (nI_1 _) (h127 _ (by rw [this]) (by omega))
  · subst xc
    have := k1 xa
    refine ⟨by decide, ?_⟩
    rw [oh_r32 (a := 32 * m + d) (by omega)]
    refine pk_eq ((32 * m + d) % 32) 0 (fun a => absurd a (by omega)) (fun a => ?_)
    exact h127 _ (by rw [this]) (by omega)
theorem yk_117m {post : Int32 → SY → Prop} {m d : Nat} {b : Prop} {x : Int32} (hx : oh_mv m b d x) (hm : m ≤ 12) (h : post 0 (yfw, ylp, yrl, yhd, yts, yos, ylt, yfc, yru, yps, yrd, ykp, ytx, you, yfa, ynm, yho)) : wY_readDate_117 post x (-1) yfw ylp yrl yhd yts yos ylt yfc yru yps yrd ykp ytx you yfa ynm yho := by
  have l1 := oh_ml_in m 1 (by omega)
  unfold wY_readDate_117
  rcases hx with ⟨xa, xb, xc⟩ | ⟨xa, xb⟩ | ⟨xa, xb, xc⟩
  · subst xa
    exact ⟨by decide, br_f (by decide) (yk_127m h)⟩
  · subst xb
    exact ⟨by decide, br_c (fun _ => nm_e (yk_127m h)) (fun _ => yk_127m h)⟩
  · subst xc
    exact ⟨by decide, br_c (fun _ => nm_e (yk_127m h)) (fun _ => yk_127m h)⟩
end
end
section
/-! ===== Y: dates, days, spans, items ===== -/
theorem oh_qa_le (tk : Nat → Nat) (p : Nat) : oh_qa tk p ≤ p + 1 := by
  unfold oh_qa
  split <;> omega
section
variable {yfw ylp yrl yhd yts yos ylt yfc yru yps yrd ykp : Int32} {ytx you yfa yho : Nat → Int32} {ynm : Nat → Int64} {tk : Nat → Nat} {n kp : Nat} {fc0 : Int32} {fa0 : Nat → Int32} {acc : List (Nat × Nat × Nat × Nat)}
theorem yk_date {post : Int32 → SY → Prop} {p r : Nat} (hK : oh_YK tk n ytx ynm) (hp : p ≤ 200) (hc : oh_cls (tk p) = 1) (hP : oh_YP kp fc0 fa0 acc yfc yfa) (hr : kp = 1 → acc.length < 128)
    (h1 : ∀ it q fc' fa', oh_rM tk p = some (it, q) → oh_YP kp fc0 fa0 (acc ++ [(r, it)]) fc' fa' → post 1 (yfw, ylp, yrl, yhd, nI n, yos, ylt, fc', yru, nI q, nI r, nI kp, ytx, you, fa', ynm, yho))
    (h0 : ∀ ps, oh_rM tk p = none → post 0 (yfw, ylp, yrl, yhd, nI n, yos, ylt, yfc, yru, ps, nI r, nI kp, ytx, you, yfa, ynm, yho)) : wpY_readDate post (yfw, ylp, yrl, yhd, nI n, yos, ylt, yfc, yru, nI p, nI r, nI kp, ytx, you, yfa, ynm, yho) := by
  have hm := oh_cls1.mp hc
  have hml := oh_ml_in (tk p) 1 (by omega)
  have hq := oh_qa_le tk (p + 1)
  have hv := oh_YK_v hK (oh_qa tk (p + 1))
  have hv1 := oh_YK_v hK (oh_qa tk (p + 1) + 1)
  unfold wpY_readDate
  dsimp only
  refine yk_md hK (by omega) hc (fun x hx => ?_)
  dsimp only
  refine yk_tok hK (oh_qa tk (p + 1) + 1) (by omega) (nI_1 _) ?_
  refine yk_tok hK (oh_qa tk (p + 1)) (by omega) rfl ?_
  refine ek_if (oh_ci_eq hv (s := 45) (by omega)) (fun g => ?_) (fun g => ?_)
  · refine nm_r (nI_1 _) ?_
    refine yk_cls _ hv1 rfl ?_
    have hcl := oh_cls_le (tk (oh_qa tk (p + 1) + 1))
    refine pk_eq (oh_cls (tk (oh_qa tk (p + 1) + 1))) 1 (fun c1 => ?_) (fun c1 => ?_)
    · have hm2 := oh_cls1.mp c1
      refine yk_md hK (by omega) c1 (fun y hy => ?_)
      dsimp only
      refine yk_117 hP hr hm hm2 hx hy (oh_dM tk (p + 1) 1) (oh_dM tk (oh_qa tk (p + 1) + 2) (oh_ml (tk (oh_qa tk (p + 1) + 1)) 1)) (fun z => if_pos z) (fun z => if_neg z) (fun z => if_pos z) (fun z => if_neg z) (fun z fc' fa' hP' => ?_) (fun z => ?_)
      · refine h1 _ _ fc' fa' ?_ hP'
        unfold oh_rM oh_fin
        rw [if_pos g, if_pos c1, if_pos z]
      · refine h0 _ ?_
        unfold oh_rM oh_fin
        rw [if_pos g, if_pos c1, if_neg z]
    · have h105 : oh_rM tk p = none → wY_readDate_105 post x yfw ylp yrl yhd (nI n) yos ylt yfc yru (nI (oh_qa tk (p + 1) + 1)) (nI r) (nI kp) ytx you yfa ynm yho := fun z => by
        unfold wY_readDate_105 wY_readDate_106
        exact nm_e (yk_117m hx (by omega) (h0 _ z))
      refine ⟨by decide, ?_⟩
      have hrM : oh_rM tk p = if (oh_cls (tk (p + 1)) = 3 ∧ ¬ tk (p + 1 + 1) = 58) ∧ oh_cls (tk (oh_qa tk (p + 1) + 1)) = 3 then oh_fin (tk p) (oh_dM tk (p + 1) 1) (tk p) (tk (oh_qa tk (p + 1) + 1) - 1000) (oh_qa tk (p + 1) + 2) else none := by
        unfold oh_rM; rw [if_pos g, if_neg c1]
      have hx0 := hx
      rcases hx with ⟨xa, xb, xc⟩ | ⟨xa, xb⟩ | ⟨xa, xb, xc⟩
      · subst xa
        refine br_t (by decide) (h105 ?_)
        rw [hrM]
        split
        · unfold oh_fin
          rw [show oh_dM tk (p + 1) 1 = tk (p + 1) - 1000 from if_pos xb, if_neg (fun z => xc ⟨z.1, z.2.1⟩)]
        · rfl
      · subst xb
        rw [oh_r32 (a := 32 * tk p) (by omega)]
        refine pk_le (32 * tk p % 32) 0 (fun _ => h105 ?_) (fun z => absurd z (by omega))
        rw [hrM, if_neg (fun z => xa z.1)]
      · subst xc
        rw [oh_r32 (a := 32 * tk p + (tk (p + 1) - 1000)) (by omega)]
        refine pk_le ((32 * tk p + (tk (p + 1) - 1000)) % 32) 0 (fun z => absurd z (by omega)) (fun _ => ?_)
        have hd : oh_dM tk (p + 1) 1 = tk (p + 1) - 1000 := if_pos xa
        by_cases c3 : oh_cls (tk (oh_qa tk (p + 1) + 1)) = 3
        · have c3b := oh_c3 hv1 c3
          rw [oh_ci_n (c := tk (oh_qa tk (p + 1) + 1)) (by omega)]
          refine pk_le (tk (oh_qa tk (p + 1) + 1)) 1000 (fun z => h105 ?_) (fun z => ⟨by decide, ?_⟩)
          · rw [hrM, if_pos ⟨xa, c3⟩]
            unfold oh_fin
            rw [if_neg (fun y => absurd y.2.2.1 (by omega))]
          · refine yk_ml (tk p) 1 (by rw [oh_d32 (by omega)]; congr 1; omega) rfl (by omega) ?_
            refine pk_lt (1000 + oh_ml (tk p) 1) (tk (oh_qa tk (p + 1) + 1)) (fun y => h105 ?_) (fun y => ⟨by decide, ?_⟩) (hx := nI_add 1000 _)
            · rw [hrM, if_pos ⟨xa, c3⟩]
              unfold oh_fin
              rw [if_neg (fun y => absurd y.2.2.2 (by omega))]
            · unfold wY_readDate_106
              refine nm_r (nI_1 _) ?_
              have e : nI (32 * tk p + (tk (p + 1) - 1000)) / 32 * 32 + nI (tk (oh_qa tk (p + 1) + 1)) - 1000 = nI (32 * tk p + (tk (oh_qa tk (p + 1) + 1) - 1000)) := by
                rw [oh_d32 (by omega), show nI ((32 * tk p + (tk (p + 1) - 1000)) / 32) * 32 = nI ((32 * tk p + (tk (p + 1) - 1000)) / 32 * 32) from pk_mul _ 32, nI_add]
                have := pk_sub (a := (32 * tk p + (tk (p + 1) - 1000)) / 32 * 32 + tk (oh_qa tk (p + 1) + 1)) (b := 1000) (by omega)
                refine this.trans ?_
                congr 1; omega
              rw [e]
              have hy : oh_mv (tk p) True (tk (oh_qa tk (p + 1) + 1) - 1000) (nI (32 * tk p + (tk (oh_qa tk (p + 1) + 1) - 1000))) := Or.inr (Or.inr ⟨trivial, by omega, rfl⟩)
              refine yk_117 hP hr hm hm hx0 hy (oh_dM tk (p + 1) 1) (tk (oh_qa tk (p + 1) + 1) - 1000) (fun z => if_pos z) (fun z => if_neg z) (fun _ => rfl) (fun z => absurd trivial z) (fun z fc' fa' hP' => ?_) (fun z => ?_)
              · refine h1 _ (oh_qa tk (p + 1) + 2) fc' fa' ?_ hP'
                rw [hrM, if_pos ⟨xa, c3⟩]
                unfold oh_fin
                rw [if_pos z]
              · refine h0 _ ?_
                rw [hrM, if_pos ⟨xa, c3⟩]
                unfold oh_fin
                rw [if_neg z]
        · have hle : oh_ci (tk (oh_qa tk (p + 1) + 1)) ≤ 1000 := by
            rw [oh_cls3] at c3
            unfold oh_vc at hv1
            unfold oh_ci
            split
            · decide
            · exact nI_le (b := 1000) (by omega) (by omega)
          refine br_t hle (h105 ?_)
          rw [hrM, if_neg (fun z => c3 z.2)]
  · refine yk_117 hP hr hm hm hx hx (oh_dM tk (p + 1) 1) (oh_dM tk (p + 1) (oh_ml (tk p) 1)) (fun z => if_pos z) (fun z => if_neg z) (fun z => if_pos z) (fun z => if_neg z) (fun z fc' fa' hP' => ?_) (fun z => ?_)
    · refine h1 _ _ fc' fa' ?_ hP'
      unfold oh_rM oh_fin
      rw [if_neg g, if_pos z]
    · refine h0 _ ?_
      unfold oh_rM oh_fin
      rw [if_neg g, if_neg z]
/-! days -/
theorem yk_212n {post : Int32 → SY → Prop} {x y : Int32} (h : post 0 (yfw, ylp, yrl, yhd, yts, yos, ylt, yfc, yru, yps, yrd, ykp, ytx, you, yfa, ynm, yho)) : wY_readDay_211 post x y yfw ylp yrl yhd yts yos ylt yfc yru yps yrd ykp ytx you yfa ynm yho := by
  unfold wY_readDay_211 wY_readDay_212
  exact yk_add0 ⟨narrow_b0, h⟩
theorem yk_252n {post : Int32 → SY → Prop} {x y z : Int32} (h : post 0 (yfw, ylp, yrl, yhd, yts, yos, ylt, yfc, yru, yps, yrd, ykp, ytx, you, yfa, ynm, yho)) : wY_readDay_252 post x y z yfw ylp yrl yhd yts yos ylt yfc yru yps yrd ykp ytx you yfa ynm yho := by
  unfold wY_readDay_252 wY_readDay_253 wY_readDay_267
  exact br_c (fun _ => yk_add0 ⟨narrow_b0, h⟩) (fun _ => yk_add0 ⟨narrow_b0, h⟩)
theorem yk_245 {post : Int32 → SY → Prop} {r w v fe lim : Nat} (hP : oh_YP kp fc0 fa0 acc yfc yfa) (hr : kp = 1 → acc.length < 128) (hv : v ≤ 1000) (hl : lim ≤ 5) (hfe : fe ≤ 1) (h1 : v ≤ lim → ∀ fc' fa', oh_YP kp fc0 fa0 (acc ++ [(r, 3, w, if fe = 0 then v else 6)]) fc' fa' → post 1 (yfw, ylp, yrl, yhd, yts, yos, ylt, fc', yru, yps, nI r, nI kp, ytx, you, fa', ynm, yho)) (h0 : ¬ v ≤ lim → post 0 (yfw, ylp, yrl, yhd, yts, yos, ylt, yfc, yru, yps, nI r, nI kp, ytx, you, yfa, ynm, yho)) : wY_readDay_245 post (nI w) (nI fe) (nI v) (nI lim) (nI v) yfw ylp yrl yhd yts yos ylt yfc yru yps (nI r) (nI kp) ytx you yfa ynm yho := by
  unfold wY_readDay_245
  refine pk_lt lim v (fun a => yk_252n (h0 (by omega))) (fun a => ?_)
  have h1 := h1 (by omega)
  unfold wY_readDay_253 wY_readDay_267
  refine pk_eq fe 0 (fun b => ?_) (fun b => ?_)
  · rw [if_pos b] at h1
    exact yk_add (k := 3) hP hr rfl rfl rfl (fun fc' fa' hP' => ⟨narrow_b1, h1 fc' fa' hP'⟩)
  · rw [if_neg b] at h1
    exact yk_add (k := 3) hP hr rfl rfl rfl (fun fc' fa' hP' => ⟨narrow_b1, h1 fc' fa' hP'⟩)
theorem yk_day {post : Int32 → SY → Prop} {p r : Nat} (hK : oh_YK tk n ytx ynm) (hp : p ≤ 200) (hc : oh_cls (tk p) = 2) (hP : oh_YP kp fc0 fa0 acc yfc yfa) (hr : kp = 1 → acc.length < 128)
    (h7 : tk p = 20 → ∀ fc' fa', oh_YP kp fc0 fa0 (acc ++ [(r, 4, 0, 0)]) fc' fa' → post 1 (yfw, ylp, yrl, yhd, nI n, yos, ylt, fc', yru, nI (p + 1), nI r, nI kp, ytx, you, fa', ynm, yho))
    (h1 : ¬ tk p = 20 → ∀ it q fc' fa', oh_rW tk p = some (it, q) → oh_YP kp fc0 fa0 (acc ++ [(r, it)]) fc' fa' → post 1 (yfw, ylp, yrl, yhd, nI n, yos, ylt, fc', yru, nI q, nI r, nI kp, ytx, you, fa', ynm, yho))
    (h0 : ¬ tk p = 20 → ∀ ps, oh_rW tk p = none → post 0 (yfw, ylp, yrl, yhd, nI n, yos, ylt, yfc, yru, ps, nI r, nI kp, ytx, you, yfa, ynm, yho)) : wpY_readDay post (yfw, ylp, yrl, yhd, nI n, yos, ylt, yfc, yru, nI p, nI r, nI kp, ytx, you, yfa, ynm, yho) := by
  have hw := oh_cls2.mp hc
  have v1 := oh_YK_v hK (p + 1)
  have v2 := oh_YK_v hK (p + 2)
  have key : ∀ fe pn pc : Nat, (fe = 1 ∧ tk (p + 2) = 45 ∧ pn = p + 3 ∧ pc = p + 4) ∨ (fe = 0 ∧ ¬ tk (p + 2) = 45 ∧ pn = p + 2 ∧ pc = p + 3) → wY_readDay_110 post (nI (tk p - 13)) (oh_ci (tk (p + 1))) (oh_ci (tk (p + 2)) - 13) (nI fe) (oh_ci (tk pn) - 1000) (nI pc) yfw ylp yrl yhd (nI n) yos ylt yfc yru (nI p) (nI r) (nI kp) ytx you yfa ynm yho := by
    intro fe pn pc hf
    have vn := oh_YK_v hK pn
    have vcl := oh_YK_v hK pc
    unfold wY_readDay_110
    refine yk_tok hK pc (by omega) rfl ?_
    refine nm_r (nI_1 p) ?_
    refine pk_eq (tk p - 13) 7 (fun a => ?_) (fun a => ?_)
    · exact yk_add (k := 4) (a := 0) (b := 0) hP hr rfl rfl rfl (fun fc' fa' hP' => ⟨narrow_b1, h7 (by omega) fc' fa' hP'⟩)
    · have n20 : ¬ tk p = 20 := by omega
      have h1 := h1 n20
      have h0 := h0 n20
      refine ek_if (oh_ci_eq v1 (s := 45) (by omega)) (fun g => ?_) (fun g => ?_)
      · have hrW : oh_rW tk p = if tk p - 13 ≤ 6 ∧ 13 ≤ tk (p + 2) ∧ tk (p + 2) ≤ 19 then some ((2, tk p - 13, tk (p + 2) - 13), p + 3) else none := by
          unfold oh_rW; rw [if_neg (by omega), if_pos g]
        unfold wY_readDay_161
        refine br_t (by rw [g]; rfl) ?_
        unfold wY_readDay_186
        refine nm_r (e' := nI (p + 3)) (nI_add (p + 1) 2) ?_
        refine br_t (by rw [g]; rfl) ?_
        by_cases z : 13 ≤ tk (p + 2) ∧ ¬ tk (p + 2) = 2000
        · have e : oh_ci (tk (p + 2)) - 13 = nI (tk (p + 2) - 13) := oh_ci_sub 13 z.1 z.2
          rw [e]
          unfold oh_vc at v2
          refine br_f (nI_pos (by omega)) ?_
          refine pk_lt 6 (tk (p + 2) - 13) (fun y => yk_212n (h0 _ (by rw [hrW, if_neg (by omega)]))) (fun y => ?_)
          unfold wY_readDay_212
          exact yk_add (k := 2) hP hr rfl rfl rfl (fun fc' fa' hP' => ⟨narrow_b1, h1 _ _ fc' fa' (by rw [hrW, if_pos (by omega)]) hP'⟩)
        · have hneg : oh_ci (tk (p + 2)) - 13 < 0 := oh_ci_subn 13 v2 (by omega) (by omega)
          exact br_t hneg (yk_212n (h0 _ (by rw [hrW, if_neg (by omega)])))
      · refine ek_if (oh_ci_eq v1 (s := 91) (by omega)) (fun g2 => ?_) (fun g2 => ?_)
        · have hno : ∀ ps, oh_rW tk p = none → post 0 (yfw, ylp, yrl, yhd, nI n, yos, ylt, yfc, yru, ps, nI r, nI kp, ytx, you, yfa, ynm, yho) := h0
          have e186 : ∀ ps q : Nat, (fe = 1 ∧ q = p + 5) ∨ (fe = 0 ∧ q = p + 4) → ∀ z0 z1 : Int32, z1 + z0 = nI q → wY_readDay_186 post (nI (tk p - 13)) (oh_ci (tk (p + 1))) (oh_ci (tk (p + 2)) - 13) (nI fe) (oh_ci (tk pn) - 1000) (oh_ci (tk pc)) z0 z1 yfw ylp yrl yhd (nI n) yos ylt yfc yru (nI ps) (nI r) (nI kp) ytx you yfa ynm yho := by
            intro ps q hq z0 z1 ez
            unfold wY_readDay_186
            refine nm_r ez ?_
            refine br_f (fun z => g ((oh_ci_eq v1 (s := 45) (by omega)).mp z)) ?_
            have hrW : oh_rW tk p = if oh_cls (tk pn) = 3 ∧ tk pc = 93 ∧ tk p - 13 ≤ 6 ∧ 1001 ≤ tk pn ∧ tk pn ≤ 1000 + (if fe = 0 then 5 else 1) then some ((3, tk p - 13, if fe = 0 then tk pn - 1000 else 6), q) else none := by
              unfold oh_rW
              rw [if_pos g2]
              rcases hf with ⟨a1, a2, a3, a4⟩ | ⟨a1, a2, a3, a4⟩
              · subst a1 a3 a4
                rw [if_pos a2]
                have hq5 : q = p + 5 := by omega
                subst hq5
                by_cases y : oh_cls (tk (p + 3)) = 3 ∧ tk (p + 4) = 93 ∧ tk p - 13 ≤ 6 ∧ tk (p + 3) = 1001
                · rw [if_pos y, if_pos (by refine ⟨y.1, y.2.1, y.2.2.1, ?_, ?_⟩ <;> rw [y.2.2.2] <;> decide)]; rfl
                · rw [if_neg y, if_neg (fun x => y ⟨x.1, x.2.1, x.2.2.1, by have x4 := x.2.2.2.1; have x5 : tk (p + 3) ≤ 1000 + 1 := x.2.2.2.2; omega⟩)]
              · subst a1 a3 a4
                rw [if_neg a2]
                have hq5 : q = p + 4 := by omega
                subst hq5
                rfl
            refine ek_if (oh_ci_eq vcl (s := 93) (by omega)) (fun g3 => ?_) (fun g3 => yk_252n (hno _ (by rw [hrW, if_neg (fun z => g3 z.2.1)])))
            by_cases c3 : oh_cls (tk pn) = 3
            · have c3b := oh_c3 vn c3
              rw [show oh_ci (tk pn) - 1000 = nI (tk pn - 1000) from oh_ci_sub 1000 c3b.1 (by omega)]
              refine pk_lt (tk pn - 1000) 1 (fun y => yk_252n (hno _ (by rw [hrW, if_neg (fun z => absurd z.2.2.2.1 (by omega))]))) (fun y => ?_)
              refine pk_eq fe 0 (fun f0 => ?_) (fun f0 => ?_)
              · rw [if_pos f0, if_pos f0] at hrW
                refine yk_245 (lim := 5) hP hr (by omega) (by omega) (by omega) (fun b fc' fa' hP' => ?_) (fun b => hno _ (by rw [hrW, if_neg (fun z => absurd z.2.2.2.2 (by omega))]))
                rw [if_pos f0] at hP'
                exact h1 _ _ fc' fa' (by rw [hrW, if_pos ⟨c3, g3, by omega, by omega, by omega⟩]) hP'
              · rw [if_neg f0, if_neg f0] at hrW
                refine yk_245 (lim := 1) hP hr (by omega) (by omega) (by omega) (fun b fc' fa' hP' => ?_) (fun b => hno _ (by rw [hrW, if_neg (fun z => absurd z.2.2.2.2 (by omega))]))
                rw [if_neg f0] at hP'
                exact h1 _ _ fc' fa' (by rw [hrW, if_pos ⟨c3, g3, by omega, by omega, by omega⟩]) hP'
            · have hneg : oh_ci (tk pn) - 1000 < 0 := oh_ci_subn 1000 vn (by rw [oh_cls3] at c3; unfold oh_vc at vn; omega) (by omega)
              have h1n : oh_ci (tk pn) - 1000 < 1 := by
                rw [Int32.lt_iff_toInt_lt] at hneg ⊢
                have e0 : (0 : Int32).toInt = 0 := by decide
                have e1 : (1 : Int32).toInt = 1 := by decide
                rw [e0] at hneg; rw [e1]; omega
              exact br_t h1n (yk_252n (hno _ (by rw [hrW, if_neg (fun z => c3 z.1)])))
          unfold wY_readDay_161
          refine br_f (fun z => g ((oh_ci_eq v1 (s := 45) (by omega)).mp z)) ?_
          refine pk_eq fe 0 (fun f0 => ?_) (fun f0 => ?_)
          · exact e186 (p + 1) (p + 4) (by omega) _ _ (nI_add (p + 1) 3)
          · exact e186 (p + 1) (p + 5) (by omega) _ _ (nI_add (p + 1) 4)
        · have hrW : oh_rW tk p = some ((2, tk p - 13, tk p - 13), p + 1) := by
            unfold oh_rW; rw [if_neg g2, if_neg g, if_neg a]
          exact yk_add (k := 2) hP hr rfl rfl rfl (fun fc' fa' hP' => ⟨narrow_b1, h1 _ _ fc' fa' hrW hP'⟩)
  unfold wpY_readDay
  dsimp only
  refine yk_tok hK p (by omega) rfl ?_
  refine nm_r (oh_ci_sub 13 (by omega) (by omega)) ?_
  refine yk_tok hK (p + 1) (by omega) (nI_1 p) ?_
  refine yk_tok hK (p + 2) (by omega) (nI_add p 2) ?_
  refine nm_e ?_
  refine yk_tok hK (p + 2) (by omega) (nI_add p 2) ?_
  unfold wY_readDay_57 wY_readDay_80
  refine ek_if (oh_ci_eq v2 (s := 45) (by omega)) (fun g => ?_) (fun g => ?_)
  · refine br_f (by decide) ?_
    refine yk_tok hK (p + 3) (by omega) (nI_add p 3) ?_
    refine nm_e (br_f (by decide) ?_)
    rw [show nI p + 4 = nI (p + 4) from nI_add p 4]
    exact key 1 (p + 3) (p + 4) (Or.inl ⟨rfl, g, rfl, rfl⟩)
  · refine br_t rfl ?_
    refine yk_tok hK (p + 2) (by omega) (nI_add p 2) ?_
    refine nm_e (br_t rfl ?_)
    rw [show nI p + 3 = nI (p + 3) from nI_add p 3]
    exact key 0 (p + 2) (p + 3) (Or.inr ⟨rfl, g, rfl, rfl⟩)
end
end
section
/-! ===== Y: spans, items, the loop's pieces ===== -/
section
variable {yfw ylp yrl yhd yts yos ylt yfc yru yps yrd ykp : Int32} {ytx you yfa yho : Nat → Int32} {ynm : Nat → Int64} {tk : Nat → Nat} {n kp : Nat} {fc0 : Int32} {fa0 : Nat → Int32} {acc : List (Nat × Nat × Nat × Nat)}
theorem yk_185n {post : Int32 → SY → Prop} {x y : Int32} (h : ∀ ps, post 0 (yfw, ylp, yrl, yhd, yts, yos, ylt, yfc, yru, ps, yrd, ykp, ytx, you, yfa, ynm, yho)) : wY_readSpan_185 post x y yfw ylp yrl yhd yts yos ylt yfc yru yps yrd ykp ytx you yfa ynm yho := by
  unfold wY_readSpan_185 wY_readSpan_186 wY_readSpan_208 wY_readSpan_218
  have ha : ∀ a b : Int32, wpY_add (fun r_104 u => match u with | (yfw, ylp, yrl, yhd, yts, yos, ylt, yfc, yru, yps, yrd, ykp, ytx, you, yfa, ynm, yho) => (narrow .boolean (.int r_104) = .int r_104 ∧ (post r_104 (yfw, ylp, yrl, yhd, yts, yos, ylt, yfc, yru, yps, yrd, ykp, ytx, you, yfa, ynm, yho)))) (yfw, ylp, yrl, yhd, yts, yos, ylt, yfc, yru, yps + 7, yrd, ykp, ytx, you, yfa, ynm, yho) 0 5 a b := fun a b => yk_add0 ⟨narrow_b0, h _⟩
  exact nm_e (br_c (fun _ => br_c (fun _ => ha _ _) (fun _ => nm_e (ha _ _))) (fun _ => br_c (fun _ => ha _ _) (fun _ => nm_e (ha _ _))))
theorem oh_neg_ne {x : Int32} (h : x < 0) {s : Nat} (hs : s < 2 ^ 31) : ¬ x = nI s := fun e => by
  rw [e] at h; exact absurd h (nI_pos hs)
theorem yk_span {post : Int32 → SY → Prop} {p r : Nat} (hK : oh_YK tk n ytx ynm) (hp : p ≤ 200) (hP : oh_YP kp fc0 fa0 acc yfc yfa) (hr : kp = 1 → acc.length < 128)
    (h1 : ∀ it q fc' fa', oh_rN tk p = some (it, q) → oh_YP kp fc0 fa0 (acc ++ [(r, it)]) fc' fa' → post 1 (yfw, ylp, yrl, yhd, nI n, yos, ylt, fc', yru, nI q, nI r, nI kp, ytx, you, fa', ynm, yho))
    (h0 : ∀ ps, oh_rN tk p = none → post 0 (yfw, ylp, yrl, yhd, nI n, yos, ylt, yfc, yru, ps, nI r, nI kp, ytx, you, yfa, ynm, yho)) : wpY_readSpan post (yfw, ylp, yrl, yhd, nI n, yos, ylt, yfc, yru, nI p, nI r, nI kp, ytx, you, yfa, ynm, yho) := by
  have v0 := oh_YK_v hK p
  have v1 := oh_YK_v hK (p + 1)
  have v2 := oh_YK_v hK (p + 2)
  have v3 := oh_YK_v hK (p + 3)
  have v4 := oh_YK_v hK (p + 4)
  have v5 := oh_YK_v hK (p + 5)
  have v6 := oh_YK_v hK (p + 6)
  have hno : oh_rN tk p = none → ∀ x y, wY_readSpan_185 post x y yfw ylp yrl yhd (nI n) yos ylt yfc yru (nI p) (nI r) (nI kp) ytx you yfa ynm yho := fun z x y => yk_185n (fun ps => h0 ps z)
  have h109 : oh_rN tk p = none → ∀ a b c d, wY_readSpan_109 post a b c d yfw ylp yrl yhd (nI n) yos ylt yfc yru (nI p) (nI r) (nI kp) ytx you yfa ynm yho := fun z a b c d => by
    unfold wY_readSpan_109 wY_readSpan_110
    exact ⟨by decide, nm_e ⟨by decide, nm_e (br_t rfl (hno z _ _))⟩⟩
  have negs : ∀ {c : Nat}, oh_vc c → ¬ oh_cls c = 3 → oh_ci c - 1000 < 0 := fun hv c3 => oh_ci_subn 1000 hv (by rw [oh_cls3] at c3; unfold oh_vc at hv; omega) (by omega)
  have poss : ∀ {c : Nat}, oh_vc c → oh_cls c = 3 → oh_ci c - 1000 = nI (c - 1000) ∧ 1000 ≤ c ∧ c < 1100 := fun hv c3 => by
    have := oh_c3 hv c3
    exact ⟨oh_ci_sub 1000 this.1 (by omega), this⟩
  unfold wpY_readSpan
  dsimp only
  refine yk_tok hK p (by omega) rfl (nm_e ?_)
  refine yk_tok hK (p + 2) (by omega) (nI_add p 2) (nm_e ?_)
  refine yk_tok hK (p + 4) (by omega) (nI_add p 4) (nm_e ?_)
  refine yk_tok hK (p + 6) (by omega) (nI_add p 6) (nm_e ?_)
  refine yk_tok hK (p + 1) (by omega) (nI_1 p) ?_
  refine ek_if (oh_ci_eq v1 (s := 58) (by omega)) (fun g1 => ?_) (fun g1 => h109 (by unfold oh_rN; rw [if_neg (fun z => g1 z.1.2.1)]) _ _ _ _)
  refine yk_tok hK (p + 3) (by omega) (nI_add p 3) ?_
  refine ek_if (oh_ci_eq v3 (s := 45) (by omega)) (fun g3 => ?_) (fun g3 => h109 (by unfold oh_rN; rw [if_neg (fun z => g3 z.2.1)]) _ _ _ _)
  refine yk_tok hK (p + 5) (by omega) (nI_add p 5) ?_
  refine ek_if (oh_ci_eq v5 (s := 58) (by omega)) (fun g5 => ?_) (fun g5 => h109 (by unfold oh_rN; rw [if_neg (fun z => g5 z.2.2.2.1)]) _ _ _ _)
  unfold wY_readSpan_110
  refine ⟨by decide, nm_e ⟨by decide, nm_e (br_f (by decide) ?_)⟩⟩
  by_cases c0 : oh_cls (tk p) = 3
  · have b0 := poss v0 c0
    rw [b0.1]
    refine br_f (nI_pos (by omega)) ?_
    refine pk_lt 23 (tk p - 1000) (fun a => hno (by unfold oh_rN oh_ti; rw [if_neg (fun z => absurd z.1.2.2.2 (by omega))]) _ _) (fun a => ?_)
    by_cases c2 : oh_cls (tk (p + 2)) = 3
    · have b2 := poss v2 c2
      rw [b2.1]
      have h158 : (tk (p + 2) = 1000 ∨ tk (p + 2) = 1030) → wY_readSpan_158 post (oh_ci (tk (p + 4)) - 1000) (oh_ci (tk (p + 6)) - 1000) (2 * nI (tk p - 1000) + nI (tk (p + 2) - 1000) / 30) (2 * (oh_ci (tk (p + 4)) - 1000) + (oh_ci (tk (p + 6)) - 1000) / 30) yfw ylp yrl yhd (nI n) yos ylt yfc yru (nI p) (nI r) (nI kp) ytx you yfa ynm yho := fun hm => by
        have et : 2 * nI (tk p - 1000) + nI (tk (p + 2) - 1000) / 30 = nI (oh_ti tk p) := by
          rw [show (2 : Int32) * nI (tk p - 1000) = nI (2 * (tk p - 1000)) from pk_mul 2 _, oh_d30 (by omega), nI_add]
          rfl
        have tl : oh_ti tk p ≤ 47 := by unfold oh_ti; omega
        rw [et]
        unfold wY_readSpan_158
        by_cases c4 : oh_cls (tk (p + 4)) = 3
        · have b4 := poss v4 c4
          rw [b4.1]
          refine br_f (nI_pos (by omega)) ?_
          by_cases c6 : oh_cls (tk (p + 6)) = 3
          · have b6 := poss v6 c6
            rw [b6.1]
            have et2 : 2 * nI (tk (p + 4) - 1000) + nI (tk (p + 6) - 1000) / 30 = nI (oh_ti tk (p + 4)) := by
              rw [show (2 : Int32) * nI (tk (p + 4) - 1000) = nI (2 * (tk (p + 4) - 1000)) from pk_mul 2 _, oh_d30 (by omega), nI_add]
              rfl
            rw [et2]
            have tl2 : oh_ti tk (p + 4) ≤ 1000 := by
              have : oh_ti tk (p + 4) = 2 * (tk (p + 4) - 1000) + (tk (p + 6) - 1000) / 30 := rfl
              omega
            have h174 : (tk (p + 6) = 1000 ∨ tk (p + 6) = 1030) → wY_readSpan_174 post (nI (oh_ti tk p)) (nI (oh_ti tk (p + 4))) yfw ylp yrl yhd (nI n) yos ylt yfc yru (nI p) (nI r) (nI kp) ytx you yfa ynm yho := fun hm2 => by
              unfold wY_readSpan_174
              refine pk_lt 48 (oh_ti tk (p + 4)) (fun b => hno (by unfold oh_rN; rw [if_neg (fun z => absurd z.2.2.2.2.2 (by omega))]) _ _) (fun b => ?_)
              have hrN : oh_rN tk p = some ((5, oh_ti tk p, oh_e1 (oh_ti tk p) (oh_ti tk (p + 4))), p + 7) := by
                unfold oh_rN
                rw [if_pos ⟨⟨c0, g1, hm, tl⟩, g3, c4, g5, hm2, by omega⟩]
              have h218 : ∀ e, oh_e1 (oh_ti tk p) (oh_ti tk (p + 4)) = e → wY_readSpan_218 post (nI (oh_ti tk p)) (nI e) 1 yfw ylp yrl yhd (nI n) yos ylt yfc yru (nI (p + 7)) (nI r) (nI kp) ytx you yfa ynm yho := fun e he => by
                unfold wY_readSpan_218
                refine yk_add (k := 5) hP hr rfl rfl rfl (fun fc' fa' hP' => ⟨narrow_b1, ?_⟩)
                rw [← he] at hP'
                exact h1 _ _ fc' fa' hrN hP'
              have h208 : ∀ g, (if oh_ti tk (p + 4) = 0 then 48 else oh_ti tk (p + 4)) = g → g ≤ 48 → wY_readSpan_208 post (nI (oh_ti tk p)) (nI g) 1 yfw ylp yrl yhd (nI n) yos ylt yfc yru (nI (p + 7)) (nI r) (nI kp) ytx you yfa ynm yho := fun g hg hg2 => by
                unfold wY_readSpan_208
                refine pk_lt (oh_ti tk p) g (fun y => h218 g ?_) (fun y => nm_r (e' := nI (g + 48)) (nI_add g 48) (h218 (g + 48) ?_))
                · unfold oh_e1; rw [hg, if_neg (by omega)]
                · unfold oh_e1; rw [hg, if_pos (by omega)]
              unfold wY_readSpan_186
              refine nm_r (e' := nI (p + 7)) (nI_add p 7) ?_
              exact pk_eq (oh_ti tk (p + 4)) 0 (fun y => h208 48 (if_pos y) (by omega)) (fun y => h208 _ (if_neg y) (by omega))
            refine pk_eq (tk (p + 6) - 1000) 0 (fun y => h174 (by omega)) (fun y => pk_eq (tk (p + 6) - 1000) 30 (fun y2 => h174 (by omega)) (fun y2 => hno (by unfold oh_rN; rw [if_neg (fun z => absurd z.2.2.2.2.1 (by omega))]) _ _))
          · have ng := negs v6 c6
            refine br_f (oh_neg_ne ng (s := 0) (by omega)) (br_f (oh_neg_ne ng (s := 30) (by omega)) (hno ?_ _ _))
            unfold oh_rN
            rw [oh_cls3] at c6
            rw [if_neg (fun z => absurd z.2.2.2.2.1 (by omega))]
        · exact br_t (negs v4 c4) (hno (by unfold oh_rN; rw [if_neg (fun z => c4 z.2.2.1)]) _ _)
      refine pk_eq (tk (p + 2) - 1000) 0 (fun y => h158 (by omega)) (fun y => pk_eq (tk (p + 2) - 1000) 30 (fun y2 => h158 (by omega)) (fun y2 => hno (by unfold oh_rN; rw [if_neg (fun z => absurd z.1.2.2.1 (by omega))]) _ _))
    · have ng := negs v2 c2
      refine br_f (oh_neg_ne ng (s := 0) (by omega)) (br_f (oh_neg_ne ng (s := 30) (by omega)) (hno ?_ _ _))
      unfold oh_rN
      rw [oh_cls3] at c2
      rw [if_neg (fun z => absurd z.1.2.2.1 (by omega))]
  · exact br_t (negs v0 c0) (hno (by unfold oh_rN; rw [if_neg (fun z => c0 z.1.1)]) _ _)
theorem yk_item {post : Int32 → SY → Prop} {part p r : Nat} (hK : oh_YK tk n ytx ynm) (hp : p ≤ 200) (h3 : 1 ≤ part ∧ part ≤ 3) (hc : oh_cls (tk p) = part) (hP : oh_YP kp fc0 fa0 acc yfc yfa) (hr : kp = 1 → acc.length < 128)
    (h1 : ∀ it q fc' fa', oh_rd tk part p = some (it, q) → oh_YP kp fc0 fa0 (acc ++ [(r, it)]) fc' fa' → post 1 (yfw, ylp, yrl, yhd, nI n, yos, ylt, fc', yru, nI q, nI r, nI kp, ytx, you, fa', ynm, yho))
    (h7 : part = 2 → (tk (p + 1) = 91 ∨ tk (p + 1) = 45) → oh_rd tk part p = none → ∀ fc' fa', oh_YP kp fc0 fa0 (acc ++ [(r, 4, 0, 0)]) fc' fa' → post 1 (yfw, ylp, yrl, yhd, nI n, yos, ylt, fc', yru, nI (p + 1), nI r, nI kp, ytx, you, fa', ynm, yho))
    (h0 : ∀ ps, oh_rd tk part p = none → post 0 (yfw, ylp, yrl, yhd, nI n, yos, ylt, yfc, yru, ps, nI r, nI kp, ytx, you, yfa, ynm, yho)) : wpY_readItem post (yfw, ylp, yrl, yhd, nI n, yos, ylt, yfc, yru, nI p, nI r, nI kp, ytx, you, yfa, ynm, yho) (nI part) := by
  unfold wpY_readItem
  dsimp only
  refine yk_tok hK p (by omega) rfl ?_
  refine pk_le 4 part (fun a => absurd a (by omega)) (fun _ => ?_)
  refine pk_eq part 1 (fun a => ?_) (fun a => pk_eq part 2 (fun b => ?_) (fun b => ?_))
  · subst a
    exact yk_date hK hp hc hP hr (fun it q fc' fa' e hP' => ⟨narrow_b1, h1 it q fc' fa' e hP'⟩) (fun ps e => ⟨narrow_b0, h0 ps e⟩)
  · subst b
    refine yk_day hK hp hc hP hr (fun h20 fc' fa' hP' => ⟨narrow_b1, ?_⟩) (fun _ it q fc' fa' e hP' => ⟨narrow_b1, h1 it q fc' fa' e hP'⟩) (fun _ ps e => ⟨narrow_b0, h0 ps e⟩)
    have hrd : oh_rd tk 2 p = oh_rW tk p := rfl
    by_cases g : tk (p + 1) = 91
    · refine h7 rfl (Or.inl g) ?_ fc' fa' hP'
      rw [hrd]
      unfold oh_rW
      rw [if_pos g]
      split
      · rw [if_neg (by omega)]
      · rw [if_neg (by omega)]
    · by_cases g2 : tk (p + 1) = 45
      · refine h7 rfl (Or.inr g2) ?_ fc' fa' hP'
        rw [hrd]
        unfold oh_rW
        rw [if_neg g, if_pos g2, if_neg (by omega)]
      · refine h1 (4, 0, 0) (p + 1) fc' fa' ?_ hP'
        rw [hrd]
        unfold oh_rW
        rw [if_neg g, if_neg g2, if_pos (by omega)]
  · have : part = 3 := by omega
    subst this
    exact yk_span hK hp hP hr (fun it q fc' fa' e hP' => ⟨narrow_b1, h1 it q fc' fa' e hP'⟩) (fun ps e => ⟨narrow_b0, h0 ps e⟩)
theorem yk_item4 {post : Int32 → SY → Prop} {p r : Nat} (hK : oh_YK tk n ytx ynm) (hp : p ≤ 200) (hc : oh_cls (tk p) = 4) (hP : oh_YP kp fc0 fa0 acc yfc yfa) (hr : kp = 1 → acc.length < 128)
    (h1 : ∀ fc' fa', oh_YP kp fc0 fa0 (acc ++ [(r, 6, (tk p - 21) % 3, 0)]) fc' fa' → post 1 (yfw, ylp, yrl, yhd, nI n, yos, ylt, fc', yru, nI (p + 1), nI r, nI kp, ytx, you, fa', ynm, yho)) : wpY_readItem post (yfw, ylp, yrl, yhd, nI n, yos, ylt, yfc, yru, nI p, nI r, nI kp, ytx, you, yfa, ynm, yho) 4 := by
  have c4 := oh_cls4.mp hc
  unfold wpY_readItem
  dsimp only
  refine yk_tok hK p (by omega) rfl ?_
  refine br_t (by decide) (nm_r (nI_1 p) ⟨by decide, ?_⟩)
  rw [show oh_ci (tk p) - 21 = nI (tk p - 21) from oh_ci_sub 21 (by omega) (by omega), oh_r3 (by omega)]
  exact yk_add (k := 6) (b := 0) hP hr rfl rfl rfl (fun fc' fa' hP' => ⟨narrow_b1, h1 fc' fa' hP'⟩)
/-! the loop's head -/
theorem yr_25m {post : Int32 → SY → Prop} {p pt it st f : Nat} (hK : oh_YK tk n ytx ynm) (hp : p ≤ 200) (h3 : 1 ≤ pt ∧ pt ≤ 3) (h44 : tk p = 44) (hc : oh_cls (tk (p + 1)) = pt) (hst : st < 256) (h : wY_read_146 post (wY_read_25 post f) (nI pt) (nI (it + 1)) (nI st) 1 (nI p) yfw ylp yrl yhd (nI n) yos ylt yfc yru (nI p) yrd ykp ytx you yfa ynm yho) : wY_read_25 post (f + 1) (nI pt) (nI it) (nI st) yfw ylp yrl yhd (nI n) yos ylt yfc yru (nI p) yrd ykp ytx you yfa ynm yho := by
  rw [wY_read_25]
  refine pk_le 256 st (fun a => absurd a (by omega)) (fun _ => ?_)
  refine yk_tok hK p (by omega) rfl ?_
  refine yk_tok hK (p + 1) (by omega) (nI_1 p) ?_
  refine ek_if (oh_ci_eq (oh_YK_v hK p) (s := 44) (by omega)) (fun _ => ?_) (fun g => absurd h44 g)
  refine br_f (nI_nle (by omega) (by omega)) ?_
  refine pk_le 4 pt (fun a => absurd a (by omega)) (fun _ => ?_)
  refine yk_cls _ (oh_YK_v hK (p + 1)) rfl ?_
  refine pk_eq (oh_cls (tk (p + 1))) pt (fun _ => ?_) (fun g => absurd hc g)
  unfold wY_read_85 wY_read_102 wY_read_114 wY_read_130
  refine br_f (by decide) (br_f (by decide) (br_f (by decide) (br_f (by decide) ?_)))
  rw [nI_1]
  exact h
theorem yr_25n {post : Int32 → SY → Prop} {p pt it st f : Nat} (hK : oh_YK tk n ytx ynm) (hp : p ≤ 200) (h3 : pt ≤ 4) (hm : ¬ (tk p = 44 ∧ 1 ≤ pt ∧ pt ≤ 3 ∧ oh_cls (tk (p + 1)) = pt)) (hst : st < 256) (h : wY_read_85 post (wY_read_25 post f) (nI pt) (nI it) (nI st) (oh_ci (tk p)) 0 yfw ylp yrl yhd (nI n) yos ylt yfc yru (nI p) yrd ykp ytx you yfa ynm yho) : wY_read_25 post (f + 1) (nI pt) (nI it) (nI st) yfw ylp yrl yhd (nI n) yos ylt yfc yru (nI p) yrd ykp ytx you yfa ynm yho := by
  rw [wY_read_25]
  refine pk_le 256 st (fun a => absurd a (by omega)) (fun _ => ?_)
  refine yk_tok hK p (by omega) rfl ?_
  refine yk_tok hK (p + 1) (by omega) (nI_1 p) ?_
  have h84 : wY_read_84 post (wY_read_25 post f) (nI pt) (nI it) (nI st) (oh_ci (tk p)) yfw ylp yrl yhd (nI n) yos ylt yfc yru (nI p) yrd ykp ytx you yfa ynm yho := h
  refine ek_if (oh_ci_eq (oh_YK_v hK p) (s := 44) (by omega)) (fun g => ?_) (fun g => h84)
  refine pk_le pt 0 (fun _ => h84) (fun a => pk_le 4 pt (fun _ => h84) (fun b => ?_))
  refine yk_cls _ (oh_YK_v hK (p + 1)) rfl ?_
  have := oh_cls_le (tk (p + 1))
  exact pk_eq (oh_cls (tk (p + 1))) pt (fun z => absurd ⟨g, by omega, by omega, z⟩ hm) (fun _ => h84)
theorem yr_85i {post : Int32 → SY → Prop} {J : Int32 → Int32 → Int32 → Int32 → Int32 → Int32 → Int32 → Int32 → Int32 → Int32 → Int32 → Int32 → Int32 → Int32 → Int32 → (Nat → Int32) → (Nat → Int32) → (Nat → Int32) → (Nat → Int64) → (Nat → Int32) → Prop} {p pt it st : Nat} (hv : oh_vc (tk p)) (hc : pt < oh_cls (tk p)) (h : wY_read_146 post J (nI (oh_cls (tk p))) 1 (nI st) 0 (nI p) yfw ylp yrl yhd yts yos ylt yfc yru (nI p) yrd ykp ytx you yfa ynm yho) : wY_read_85 post J (nI pt) (nI it) (nI st) (oh_ci (tk p)) 0 yfw ylp yrl yhd yts yos ylt yfc yru (nI p) yrd ykp ytx you yfa ynm yho := by
  have := oh_cls_le (tk p)
  unfold wY_read_85
  refine br_t rfl (yk_cls _ hv rfl ?_)
  refine pk_le (oh_cls (tk p)) pt (fun a => absurd a (by omega)) (fun _ => ?_)
  unfold wY_read_102 wY_read_114 wY_read_130
  exact br_t rfl (br_t rfl (yk_cls _ hv rfl (br_t rfl h)))
theorem yr_274 {post : Int32 → SY → Prop} {p pt r : Nat} (hv : oh_vc (tk p)) (hpt : pt ≤ 4) (h1 : 0 < pt → tk p = 0 → post (nI (r + 1)) (yfw, ylp, yrl, yhd, yts, yos, ylt, yfc, yru, yps, nI r, ykp, ytx, you, yfa, ynm, yho)) (h0 : ¬ (0 < pt ∧ tk p = 0) → post (-1) (yfw, ylp, yrl, yhd, yts, yos, ylt, yfc, yru, yps, nI r, ykp, ytx, you, yfa, ynm, yho)) : wY_read_274 post (nI pt) (oh_ci (tk p)) yfw ylp yrl yhd yts yos ylt yfc yru yps (nI r) ykp ytx you yfa ynm yho := by
  unfold wY_read_274
  refine pk_le pt 0 (fun a => h0 (by omega)) (fun a => ?_)
  refine ek_if (oh_ci_eq hv (s := 0) (by omega)) (fun g => ?_) (fun g => h0 (by omega))
  rw [nI_1]
  exact h1 (by omega) g
theorem yr_85e {post : Int32 → SY → Prop} {J : Int32 → Int32 → Int32 → Int32 → Int32 → Int32 → Int32 → Int32 → Int32 → Int32 → Int32 → Int32 → Int32 → Int32 → Int32 → (Nat → Int32) → (Nat → Int32) → (Nat → Int32) → (Nat → Int64) → (Nat → Int32) → Prop} {p pt it st r rl : Nat} (hv : oh_vc (tk p)) (hpt : pt ≤ 4) (hc : oh_cls (tk p) ≤ pt) (hr5 : r < 100) (hrl : rl ≤ 6) (hP : oh_YP kp fc0 fa0 acc yfc yfa) (hr : kp = 1 → 0 < pt → (tk p = 59 ∨ tk p = 44 ∨ tk p = 124) → r + 1 < rl → acc.length < 128)
    (h1 : 0 < pt → tk p = 0 → post (nI (r + 1)) (yfw, ylp, nI rl, yhd, yts, yos, ylt, yfc, yru, nI p, nI r, nI kp, ytx, you, yfa, ynm, yho))
    (hs : 0 < pt → (tk p = 59 ∨ tk p = 44 ∨ tk p = 124) → r + 1 < rl → ∀ fc' fa', oh_YP kp fc0 fa0 (acc ++ [(r + 1, 0, oh_vl (tk p), 0)]) fc' fa' → J 0 (nI it) (nI (st + 1)) yfw ylp (nI rl) yhd yts yos ylt fc' yru (nI (p + 1)) (nI (r + 1)) (nI kp) ytx you fa' ynm yho)
    (h0 : ¬ (0 < pt ∧ (tk p = 0 ∨ (tk p = 59 ∨ tk p = 44 ∨ tk p = 124) ∧ r + 1 < rl)) → post (-1) (yfw, ylp, nI rl, yhd, yts, yos, ylt, yfc, yru, nI p, nI r, nI kp, ytx, you, yfa, ynm, yho)) : wY_read_85 post J (nI pt) (nI it) (nI st) (oh_ci (tk p)) 0 yfw ylp (nI rl) yhd yts yos ylt yfc yru (nI p) (nI r) (nI kp) ytx you yfa ynm yho := by
  have h205 : 0 < pt → (tk p = 59 ∨ tk p = 44 ∨ tk p = 124) → wY_read_205 post J (nI pt) (nI it) (nI st) (oh_ci (tk p)) yfw ylp (nI rl) yhd yts yos ylt yfc yru (nI p) (nI r) (nI kp) ytx you yfa ynm yho := fun hp0 hsep => by
    unfold wY_read_205
    refine pk_le rl (r + 1) (fun a => yr_274 hv hpt (fun _ z => absurd z (by omega)) (fun _ => h0 (by omega))) (fun a => ?_) (hy := nI_1 r)
    refine nm_r (nI_1 p) (nm_r (nI_1 r) ?_)
    have h266 : ∀ k, oh_vl (tk p) = k → k ≤ 2 → wY_read_266 post J 0 (nI it) (nI st) (nI k) 0 1 yfw ylp (nI rl) yhd yts yos ylt yfc yru (nI (p + 1)) (nI (r + 1)) (nI kp) ytx you yfa ynm yho := fun k hk hk2 => by
      unfold wY_read_266
      refine yk_add (k := 0) (b := 0) hP (fun z => hr z hp0 hsep a) rfl rfl rfl (fun fc' fa' hP' => ?_)
      rw [← hk] at hP'
      exact nm_r (nI_1 st) (hs hp0 hsep a fc' fa' hP')
    refine ek_if (oh_ci_eq hv (s := 59) (by omega)) (fun g => h266 0 (by rw [g]; rfl) (by omega)) (fun g => ek_if (oh_ci_eq hv (s := 44) (by omega)) (fun g2 => h266 1 (by rw [g2]; rfl) (by omega)) (fun g2 => h266 2 (by rw [show tk p = 124 by omega]; rfl) (by omega)))
  have := oh_cls_le (tk p)
  unfold wY_read_85
  refine br_t rfl (yk_cls _ hv rfl ?_)
  refine pk_le (oh_cls (tk p)) pt (fun _ => ?_) (fun a => absurd a (by omega))
  refine pk_le pt 0 (fun a => yr_274 hv hpt (fun z _ => absurd z (by omega)) (fun _ => h0 (by omega))) (fun a => ?_)
  refine ek_if (oh_ci_eq hv (s := 59) (by omega)) (fun g => h205 (by omega) (by omega)) (fun g => ek_if (oh_ci_eq hv (s := 44) (by omega)) (fun g2 => h205 (by omega) (by omega)) (fun g2 => ek_if (oh_ci_eq hv (s := 124) (by omega)) (fun g3 => h205 (by omega) (by omega)) (fun g3 => ?_)))
  exact yr_274 hv hpt (fun b z => h1 b z) (fun z => h0 (by omega))
end
end
section
/-! ===== Y: lists, rules, read, parse ===== -/
def oh_rs (r : Nat) (its : List (Nat × Nat × Nat)) : List (Nat × Nat × Nat × Nat) := its.map (fun t => (r, t))
theorem oh_rs_len (r : Nat) (its : List (Nat × Nat × Nat)) : (oh_rs r its).length = its.length := List.length_map ..
theorem oh_rs_app (r : Nat) (a b : List (Nat × Nat × Nat)) : oh_rs r (a ++ b) = oh_rs r a ++ oh_rs r b := List.map_append
section
variable {yfw ylp yrl yhd yts yos ylt yfc yru yps yrd ykp : Int32} {ytx you yfa yho : Nat → Int32} {ynm : Nat → Int64} {tk : Nat → Nat} {n kp N : Nat} {fc0 : Int32} {fa0 : Nat → Int32}
theorem oh_YP0 {acc : List (Nat × Nat × Nat × Nat)} {fc : Int32} {fa : Nat → Int32} (h : oh_YP kp fc0 fa0 acc fc fa) (hk : kp = 0) : fc = fc0 ∧ fa = fa0 := by
  rcases h with z | z
  · exact z.2
  · omega
theorem oh_YPk {acc : List (Nat × Nat × Nat × Nat)} {fc : Int32} {fa : Nat → Int32} (h : oh_YP kp fc0 fa0 acc fc fa) : kp = 0 ∨ kp = 1 := by
  rcases h with z | z
  · exact Or.inl z.1
  · exact Or.inr z.1
theorem yr_list {post : Int32 → SY → Prop} {pt r : Nat} (hK : oh_YK tk n ytx ynm) (hE : oh_E tk N 0) (hN : N ≤ 128) (h3 : 1 ≤ pt ∧ pt ≤ 3) : ∀ (l f p it st : Nat) (acc : List (Nat × Nat × Nat × Nat)) (yps yfc : Int32) (yfa : Nat → Int32) (z0 z1 : Int32), oh_cls (tk p) = pt → z1 + z0 = nI p → ((pt = 1 → it + l = 3) ∧ (pt = 3 → it + l = 4) ∧ (pt = 2 → N < l + p)) → st ≤ p → 257 ≤ f + (st + 1) → oh_YP kp fc0 fa0 acc yfc yfa → (kp = 1 → ∃ its q, oh_pl tk pt l p = some (its, q) ∧ acc.length + its.length ≤ 128) →
    (∀ its q it' st' f' fc' fa', oh_pl tk pt l p = some (its, q) → oh_YP kp fc0 fa0 (acc ++ oh_rs r its) fc' fa' → st' ≤ q → 257 ≤ f' + st' → wY_read_25 post f' (nI pt) (nI it') (nI st') yfw ylp yrl yhd (nI n) yos ylt fc' yru (nI q) (nI r) (nI kp) ytx you fa' ynm yho) →
    (oh_pl tk pt l p = none → kp = 0 → ∀ ps, post (-1) (yfw, ylp, yrl, yhd, nI n, yos, ylt, fc0, yru, ps, nI r, nI kp, ytx, you, fa0, ynm, yho)) → wY_read_146 post (wY_read_25 post f) (nI pt) (nI it) (nI st) z0 z1 yfw ylp yrl yhd (nI n) yos ylt yfc yru yps (nI r) (nI kp) ytx you yfa ynm yho
  | 0, f, p, it, st, acc, yps, yfc, yfa, z0, z1, hc, ez, hrel, hst, hf, hP, hroom, h1, h0 => by
    have pN : p < N := oh_E_lt hE (fun z => by rw [z, show oh_cls 0 = 0 by decide] at hc; omega) (fun z => by rw [z, show oh_cls 2000 = 0 by decide] at hc; omega)
    have k0 : kp = 0 := by
      rcases oh_YPk hP with z | z
      · exact z
      · obtain ⟨_, _, e, _⟩ := hroom z
        exact absurd e (by rw [oh_pl]; exact fun q => nomatch q)
    have e0 := oh_YP0 hP k0
    have hh := h0 rfl k0
    rw [← e0.1, ← e0.2] at hh
    unfold wY_read_146
    refine nm_r ez ?_
    refine pk_eq pt 1 (fun a => pk_lt 2 it (fun _ => hh _) (fun b => absurd b (by omega))) (fun a => ?_)
    unfold wY_read_160
    refine pk_eq pt 3 (fun a => pk_lt 3 it (fun _ => hh _) (fun b => absurd b (by omega))) (fun b => absurd (hrel.2.2 (by omega)) (by omega))
  | l + 1, f, p, it, st, acc, yps, yfc, yfa, z0, z1, hc, ez, hrel, hst, hf, hP, hroom, h1, h0 => by
    have pN : p < N := oh_E_lt hE (fun z => by rw [z, show oh_cls 0 = 0 by decide] at hc; omega) (fun z => by rw [z, show oh_cls 2000 = 0 by decide] at hc; omega)
    have h170 : wY_read_170 post (wY_read_25 post f) (nI pt) (nI it) (nI st) yfw ylp yrl yhd (nI n) yos ylt yfc yru (nI p) (nI r) (nI kp) ytx you yfa ynm yho := by
      unfold wY_read_170
      have hr1 : kp = 1 → acc.length < 128 := fun z => by
        obtain ⟨its, q, e, hle⟩ := hroom z
        have := (oh_pl_in hE h3 hc e).2.1
        omega
      refine yk_item hK (by omega) h3 hc hP hr1 (fun it1 q fc' fa' e hP' => ?_) (fun p2 hsg e fc' fa' hP' => ?_) (fun ps e => ?_)
      · have hin := oh_rd_in hE h3 hc e
        dsimp only
        refine br_f (by decide) (nm_r (nI_1 st) ?_)
        by_cases hm : tk q = 44 ∧ oh_cls (tk (q + 1)) = pt
        · obtain ⟨f', rfl⟩ : ∃ f', f = f' + 1 := ⟨f - 1, by omega⟩
          refine yr_25m hK (by omega) h3 hm.1 hm.2 (by omega) ?_
          refine yr_list hK hE hN h3 l f' (q + 1) (it + 1) (st + 1) (acc ++ [(r, it1)]) _ fc' fa' 1 (nI q) hm.2 (nI_1 q) ⟨fun z => by have := hrel.1 z; omega, fun z => by have := hrel.2.1 z; omega, fun z => by have := hrel.2.2 z; omega⟩ (by omega) (by omega) hP' (fun z => ?_) (fun its q' it' st' f'' fc'' fa'' e2 hP2 a b => ?_) (fun e2 k0 => ?_)
          · obtain ⟨its, q', e3, hle⟩ := hroom z
            rw [oh_pl_s e hm] at e3
            cases hl : oh_pl tk pt l (q + 1) with
            | none => rw [hl] at e3; cases e3
            | some w =>
              obtain ⟨its', q''⟩ := w
              rw [hl] at e3
              cases e3
              refine ⟨its', _, rfl, ?_⟩
              simp only [List.length_append, List.length_cons, List.length_nil] at hle ⊢
              omega
          · refine h1 (it1 :: its) q' it' st' f'' fc'' fa'' ?_ ?_ a b
            · rw [oh_pl_s e hm, e2]; rfl
            · rw [List.append_assoc] at hP2; exact hP2
          · refine h0 ?_ k0
            rw [oh_pl_s e hm, e2]; rfl
        · exact h1 [it1] q it (st + 1) f fc' fa' (oh_pl_e e hm) hP' (by omega) (by omega)
      · have k0 : kp = 0 := by
          rcases oh_YPk hP with z | z
          · exact z
          · obtain ⟨_, _, e2, _⟩ := hroom z
            rw [oh_pl_n e] at e2; cases e2
        have e0 := oh_YP0 hP' k0
        have hh := h0 (oh_pl_n e) k0
        rw [← e0.1, ← e0.2] at hh
        subst p2
        dsimp only
        refine br_f (by decide) (nm_r (nI_1 st) ?_)
        obtain ⟨f', rfl⟩ : ∃ f', f = f' + 1 := ⟨f - 1, by omega⟩
        have cl0 : oh_cls (tk (p + 1)) = 0 := by rcases hsg with z | z <;> rw [z] <;> decide
        refine yr_25n hK (by omega) (by omega) (fun z => by omega) (by omega) ?_
        unfold wY_read_85
        refine br_t rfl (yk_cls _ (oh_YK_v hK (p + 1)) rfl ?_)
        rw [cl0]
        refine br_t (by decide) (br_f (by decide) ?_)
        have hv := oh_YK_v hK (p + 1)
        refine br_f (fun z => by have := (oh_ci_eq hv (s := 59) (by omega)).mp z; omega) (br_f (fun z => by have := (oh_ci_eq hv (s := 44) (by omega)).mp z; omega) (br_f (fun z => by have := (oh_ci_eq hv (s := 124) (by omega)).mp z; omega) ?_))
        exact yr_274 (pt := 2) hv (by omega) (fun _ z => absurd z (by omega)) (fun _ => hh _)
      · have k0 : kp = 0 := by
          rcases oh_YPk hP with z | z
          · exact z
          · obtain ⟨_, _, e2, _⟩ := hroom z
            rw [oh_pl_n e] at e2; cases e2
        have e0 := oh_YP0 hP k0
        have hh := h0 (oh_pl_n e) k0
        rw [← e0.1, ← e0.2] at hh
        exact br_t rfl (hh _)
    unfold wY_read_146
    refine nm_r ez ?_
    have h160 : wY_read_160 post (wY_read_25 post f) (nI pt) (nI it) (nI st) yfw ylp yrl yhd (nI n) yos ylt yfc yru (nI p) (nI r) (nI kp) ytx you yfa ynm yho := by
      unfold wY_read_160
      exact pk_eq pt 3 (fun a => pk_lt 3 it (fun b => absurd b (by have := hrel.2.1 a; omega)) (fun _ => h170) (hb := by have := hrel.2.1 a; omega)) (fun _ => h170)
    exact pk_eq pt 1 (fun a => pk_lt 2 it (fun b => absurd b (by have := hrel.1 a; omega)) (fun _ => h160) (hb := by have := hrel.1 a; omega)) (fun _ => h160)
/-- between the lists: part j, no more of it -/
theorem yr_stage {post : Int32 → SY → Prop} {r k l j f p it st : Nat} {acc : List (Nat × Nat × Nat × Nat)} (hK : oh_YK tk n ytx ynm) (hE : oh_E tk N 0) (hN : N ≤ 128) (h3 : 1 ≤ k ∧ k ≤ 3) (hl : (k = 1 → l = 2) ∧ (k = 2 → l = N + 1) ∧ (k = 3 → l = 3)) (hj : j < k) (hm : ¬ (tk p = 44 ∧ 1 ≤ j ∧ j ≤ 3 ∧ oh_cls (tk (p + 1)) = j)) (hi : ¬ (j < oh_cls (tk p) ∧ oh_cls (tk p) < k)) (hp : p ≤ N) (hst : st ≤ p) (hf : 257 ≤ f + st) (hP : oh_YP kp fc0 fa0 acc yfc yfa) (hroom : kp = 1 → ∃ its q, oh_po tk k l p = some (its, q) ∧ acc.length + its.length ≤ 128)
    (h1 : ∀ its q j' it' st' f' fc' fa', oh_po tk k l p = some (its, q) → oh_YP kp fc0 fa0 (acc ++ oh_rs r its) fc' fa' → j' ≤ k → ¬ (tk q = 44 ∧ 1 ≤ j' ∧ j' ≤ 3 ∧ oh_cls (tk (q + 1)) = j') → ¬ (j' < oh_cls (tk q) ∧ oh_cls (tk q) < k + 1) → (j' = j ∧ q = p ∨ 0 < j' ∧ p < q) → st' ≤ q → q ≤ N → 257 ≤ f' + st' → wY_read_25 post f' (nI j') (nI it') (nI st') yfw ylp yrl yhd (nI n) yos ylt fc' yru (nI q) (nI r) (nI kp) ytx you fa' ynm yho)
    (h0 : oh_po tk k l p = none → kp = 0 → ∀ ps, post (-1) (yfw, ylp, yrl, yhd, nI n, yos, ylt, fc0, yru, ps, nI r, nI kp, ytx, you, fa0, ynm, yho)) : wY_read_25 post f (nI j) (nI it) (nI st) yfw ylp yrl yhd (nI n) yos ylt yfc yru (nI p) (nI r) (nI kp) ytx you yfa ynm yho := by
  by_cases hc : oh_cls (tk p) = k
  · have e : oh_po tk k l p = oh_pl tk k l p := if_pos hc
    rw [e] at h1 h0 hroom
    obtain ⟨f', rfl⟩ : ∃ f', f = f' + 1 := ⟨f - 1, by omega⟩
    refine yr_25n hK (by omega) (by omega) hm (by omega) ?_
    refine yr_85i (oh_YK_v hK p) (by omega) ?_
    rw [hc]
    refine yr_list hK hE hN h3 l f' p 1 st acc _ _ _ 0 (nI p) hc (nI_add p 0) ⟨fun z => by have := hl.1 z; omega, fun z => by have := hl.2.2 z; omega, fun z => by have := hl.2.1 z; omega⟩ hst (by omega) hP hroom (fun its q it' st' f'' fc' fa' e2 hP' a b => ?_) h0
    have hin := oh_pl_in hE h3 hc e2
    exact h1 its q k it' st' f'' fc' fa' e2 hP' (Nat.le_refl _) (fun z => hin.2.2.2.2.1 ⟨z.1, z.2.2.2⟩) (by omega) (Or.inr (by omega)) a hin.2.2.1 b
  · have e : oh_po tk k l p = some ([], p) := if_neg hc
    refine h1 [] p j it st f _ _ e ?_ (by omega) hm (by omega) (Or.inl ⟨rfl, rfl⟩) hst hp hf
    rw [show oh_rs r [] = [] from rfl, List.append_nil]; exact hP
theorem yr_rule {post : Int32 → SY → Prop} {r f s it st : Nat} {acc : List (Nat × Nat × Nat × Nat)} (hK : oh_YK tk n ytx ynm) (hE : oh_E tk N 0) (hN : N ≤ 128) (hs : s ≤ N) (hst : st ≤ s) (hf : 257 ≤ f + st) (hP : oh_YP kp fc0 fa0 acc yfc yfa) (hroom : kp = 1 → ∃ its q, oh_pr tk N s = some (its, q) ∧ acc.length + its.length ≤ 128)
    (h1 : ∀ its q j it' st' f' fc' fa', oh_pr tk N s = some (its, q) → oh_YP kp fc0 fa0 (acc ++ oh_rs r its) fc' fa' → 0 < j → j ≤ 4 → ¬ (tk q = 44 ∧ 1 ≤ j ∧ j ≤ 3 ∧ oh_cls (tk (q + 1)) = j) → oh_cls (tk q) ≤ j → st' ≤ q → q ≤ N → 257 ≤ f' + st' → wY_read_25 post f' (nI j) (nI it') (nI st') yfw ylp yrl yhd (nI n) yos ylt fc' yru (nI q) (nI r) (nI kp) ytx you fa' ynm yho)
    (h0 : oh_pr tk N s = none → kp = 0 → ∀ ps, post (-1) (yfw, ylp, yrl, yhd, nI n, yos, ylt, fc0, yru, ps, nI r, nI kp, ytx, you, fa0, ynm, yho)) : wY_read_25 post f 0 (nI it) (nI st) yfw ylp yrl yhd (nI n) yos ylt yfc yru (nI s) (nI r) (nI kp) ytx you yfa ynm yho := by
  refine yr_stage (k := 1) (l := 2) (j := 0) hK hE hN (by omega) (by omega) (by omega) (by omega) (by omega) hs hst hf hP (fun z => ?_) (fun i1 q1 j1 it1 st1 f1 fc1 fa1 e1 hP1 a1 b1 c1 d1 g1 k1 l1 => ?_) (fun e1 k0 => ?_)
  · obtain ⟨its, q, e, hle⟩ := hroom z
    obtain ⟨i1, q1, i2, q2, i3, q3, x1, x2, x3, ei, _⟩ := oh_pr_x e
    refine ⟨i1, q1, x1, ?_⟩
    rw [ei] at hle; simp only [List.length_append] at hle; omega
  · refine yr_stage (k := 2) (l := N + 1) hK hE hN (by omega) (by omega) (by omega) b1 (by omega) k1 g1 l1 hP1 (fun z => ?_) (fun i2 q2 j2 it2 st2 f2 fc2 fa2 e2 hP2 a2 b2 c2 d2 g2 k2 l2 => ?_) (fun e2 k0 => ?_)
    · obtain ⟨its, q, e, hle⟩ := hroom z
      obtain ⟨i1', q1', i2, q2, i3, q3, x1, x2, x3, ei, _⟩ := oh_pr_x e
      rw [e1] at x1
      cases x1
      refine ⟨i2, q2, x2, ?_⟩
      rw [ei] at hle; simp only [List.length_append, oh_rs_len] at hle ⊢; omega
    · refine yr_stage (k := 3) (l := 3) hK hE hN (by omega) (by omega) (by omega) b2 (by omega) k2 g2 l2 hP2 (fun z => ?_) (fun i3 q3 j3 it3 st3 f3 fc3 fa3 e3 hP3 a3 b3 c3 d3 g3 k3 l3 => ?_) (fun e3 k0 => ?_)
      · obtain ⟨its, q, e, hle⟩ := hroom z
        obtain ⟨i1', q1', i2', q2', i3, q3, x1, x2, x3, ei, _⟩ := oh_pr_x e
        rw [e1] at x1
        cases x1
        rw [e2] at x2
        cases x2
        refine ⟨i3, q3, x3, ?_⟩
        rw [ei] at hle; simp only [List.length_append, oh_rs_len] at hle ⊢; omega
      · have hpr : oh_pr tk N s = if (oh_ps tk q3).2 = s then none else some (i1 ++ (i2 ++ (i3 ++ (oh_ps tk q3).1)), (oh_ps tk q3).2) := by
          unfold oh_pr; rw [e1]; dsimp only [Option.bind_some]; rw [e2]; dsimp only [Option.bind_some]; rw [e3]; rfl
        rw [List.append_assoc, List.append_assoc, ← oh_rs_app, ← oh_rs_app] at hP3
        by_cases hc : oh_cls (tk q3) = 4
        · have eps : oh_ps tk q3 = ([(6, (tk q3 - 21) % 3, 0)], q3 + 1) := if_pos hc
          rw [eps, if_neg (by dsimp only; omega)] at hpr
          have c4 := oh_cls4.mp hc
          have q3N : q3 < N := oh_E_lt hE (by omega) (by omega)
          obtain ⟨f', rfl⟩ : ∃ f', f3 = f' + 1 := ⟨f3 - 1, by omega⟩
          refine yr_25n hK (by omega) (by omega) b3 (by omega) ?_
          refine yr_85i (oh_YK_v hK q3) (by omega) ?_
          rw [hc]
          unfold wY_read_146 wY_read_160 wY_read_170
          refine nm_r (e' := nI q3) (nI_add q3 0) (br_f (by decide) (br_f (by decide) ?_))
          have hr1 : kp = 1 → (acc ++ oh_rs r (i1 ++ (i2 ++ i3))).length < 128 := fun z => by
            obtain ⟨its, q, e, hle⟩ := hroom z
            rw [hpr] at e
            cases e
            simp only [List.length_append, oh_rs_len, List.length_singleton] at hle ⊢; omega
          refine yk_item4 hK (by omega) hc hP3 hr1 (fun fc' fa' hP' => ?_)
          dsimp only
          refine br_f (by decide) (nm_r (nI_1 st3) ?_)
          refine h1 _ _ 4 1 (st3 + 1) f' fc' fa' hpr ?_ (by omega) (by omega) (by omega) (oh_cls_le _) (by omega) (by omega) (by omega)
          rw [List.append_assoc] at hP'
          have : oh_rs r (i1 ++ (i2 ++ i3)) ++ [(r, 6, (tk q3 - 21) % 3, 0)] = oh_rs r (i1 ++ (i2 ++ (i3 ++ [(6, (tk q3 - 21) % 3, 0)]))) := by
            rw [show [(r, 6, (tk q3 - 21) % 3, 0)] = oh_rs r [(6, (tk q3 - 21) % 3, 0)] from rfl, ← oh_rs_app, List.append_assoc, List.append_assoc]
          rw [this] at hP'
          exact hP'
        · have eps : oh_ps tk q3 = ([], q3) := if_neg hc
          rw [eps] at hpr
          by_cases hq : q3 = s
          · rw [if_pos hq] at hpr
            have k0 : kp = 0 := by
              rcases oh_YPk hP with z | z
              · exact z
              · obtain ⟨_, _, e, _⟩ := hroom z
                rw [hpr] at e; cases e
            have e0 := oh_YP0 hP3 k0
            have hh := h0 hpr k0
            rw [← e0.1, ← e0.2] at hh
            have hj : j3 = 0 := by omega
            subst hj
            have cl0 : oh_cls (tk q3) = 0 := by have := oh_cls_le (tk q3); omega
            obtain ⟨f', rfl⟩ : ∃ f', f3 = f' + 1 := ⟨f3 - 1, by omega⟩
            refine yr_25n hK (by omega) (by omega) b3 (by omega) ?_
            unfold wY_read_85
            refine br_t rfl (yk_cls _ (oh_YK_v hK q3) rfl ?_)
            rw [cl0]
            refine br_t (by decide) (br_t (by decide) ?_)
            exact yr_274 (pt := 0) (oh_YK_v hK q3) (by omega) (fun z _ => absurd z (by omega)) (fun _ => hh _)
          · rw [if_neg hq] at hpr
            refine h1 _ _ j3 it3 st3 f3 fc3 fa3 hpr ?_ (by omega) (by omega) b3 (by have := oh_cls_le (tk q3); omega) g3 k3 l3
            rw [List.append_nil]; exact hP3
      · refine h0 ?_ k0
        unfold oh_pr; rw [e1]; dsimp only [Option.bind_some]; rw [e2]; dsimp only [Option.bind_some]; rw [e3]; rfl
    · refine h0 ?_ k0
      unfold oh_pr; rw [e1]; dsimp only [Option.bind_some]; rw [e2]; rfl
  · refine h0 ?_ k0
    unfold oh_pr; rw [e1]; rfl
theorem yr_rules {post : Int32 → SY → Prop} {rl : Nat} (hK : oh_YK tk n ytx ynm) (hE : oh_E tk N 0) (hN : N ≤ 128) (hrl : rl ≤ 6) : ∀ (l c kd s f it st : Nat) (acc : List (Nat × Nat × Nat × Nat)) (yfc : Int32) (yfa : Nat → Int32), c + (l + 1) = rl → s ≤ N → st ≤ s → 257 ≤ f + st → oh_YP kp fc0 fa0 (acc ++ [(c, 0, kd, 0)]) yfc yfa → (kp = 1 → ∃ m FL, oh_pp tk N (l + 1) c kd s = some (m, FL) ∧ acc.length + FL.length ≤ 128) →
    (∀ m FL ps rd fc' fa', oh_pp tk N (l + 1) c kd s = some (m, FL) → oh_YP kp fc0 fa0 (acc ++ FL) fc' fa' → post (nI m) (yfw, ylp, nI rl, yhd, nI n, yos, ylt, fc', yru, ps, rd, nI kp, ytx, you, fa', ynm, yho)) →
    (oh_pp tk N (l + 1) c kd s = none → kp = 0 → ∀ ps rd, post (-1) (yfw, ylp, nI rl, yhd, nI n, yos, ylt, fc0, yru, ps, rd, nI kp, ytx, you, fa0, ynm, yho)) → wY_read_25 post f 0 (nI it) (nI st) yfw ylp (nI rl) yhd (nI n) yos ylt yfc yru (nI s) (nI c) (nI kp) ytx you yfa ynm yho
  | l, c, kd, s, f, it, st, acc, yfc, yfa, hcl, hs, hst, hf, hP, hroom, h1, h0 => by
    have hlen : ∀ its, (oh_fs c kd its).length = its.length + 1 := fun its => by unfold oh_fs; rw [List.length_map, List.length_cons]
    have hfs : ∀ its, acc ++ [(c, 0, kd, 0)] ++ oh_rs c its = acc ++ oh_fs c kd its := fun its => by rw [List.append_assoc]; rfl
    rw [oh_pp_nx] at hroom h1 h0
    refine yr_rule hK hE hN hs hst hf hP (fun z => ?_) (fun its q j it' st' f' fc' fa' e hP' a1 a2 a3 a4 a5 a6 a7 => ?_) (fun e k0 ps => h0 (by rw [e]; rfl) k0 ps _)
    · obtain ⟨m, FL, e, hle⟩ := hroom z
      cases hr : oh_pr tk N s with
      | none => rw [hr] at e; cases e
      | some v =>
        obtain ⟨its, q⟩ := v
        rw [hr] at e
        dsimp only [Option.bind_some] at e
        refine ⟨its, q, rfl, ?_⟩
        cases hx : oh_nx tk N l (c + 1) q with
        | none => rw [hx] at e; cases e
        | some w =>
          rw [hx] at e
          cases e
          rw [List.length_append, hlen] at hle
          rw [List.length_append, List.length_singleton]; omega
    · rw [e] at hroom h1 h0
      dsimp only [Option.bind_some] at hroom h1 h0
      rw [hfs] at hP'
      obtain ⟨f'', rfl⟩ : ∃ f'', f' = f'' + 1 := ⟨f' - 1, by omega⟩
      refine yr_25n hK (by omega) (by omega) a3 (by omega) ?_
      refine yr_85e (r := c) (oh_YK_v hK q) (by omega) a4 (by omega) hrl hP' (fun z _ hsep hlt => ?_) (fun _ z => ?_) (fun _ hsep hlt fc2 fa2 hP2 => ?_) (fun z => ?_)
      · obtain ⟨m, FL, e2, hle⟩ := hroom z
        obtain ⟨l', rfl⟩ : ∃ l', l = l' + 1 := ⟨l - 1, by omega⟩
        have hnx : oh_nx tk N (l' + 1) (c + 1) q = oh_pp tk N (l' + 1) (c + 1) (oh_vl (tk q)) (q + 1) := by unfold oh_nx; rw [if_neg (by omega), if_pos hsep]
        rw [hnx] at e2
        cases hx : oh_pp tk N (l' + 1) (c + 1) (oh_vl (tk q)) (q + 1) with
        | none => rw [hx] at e2; cases e2
        | some w =>
          rw [hx] at e2
          cases e2
          have qN : q < N := oh_E_lt hE (by omega) (by omega)
          have hv2 : oh_vl (tk q) ≤ 2 := by rcases hsep with z | z | z <;> rw [z] <;> decide
          rw [oh_pp_nx] at hx
          have hw : 1 ≤ w.2.length := by
            cases hr : oh_pr tk N (q + 1) with
            | none => rw [hr] at hx; cases hx
            | some v =>
              rw [hr] at hx
              dsimp only [Option.bind_some] at hx
              cases hy : oh_nx tk N l' (c + 1 + 1) v.2 with
              | none => rw [hy] at hx; cases hx
              | some u =>
                rw [hy] at hx
                cases hx
                dsimp only
                rw [List.length_append]
                unfold oh_fs
                rw [List.length_map, List.length_cons]
                omega
          simp only [List.length_append] at hle ⊢
          omega
      · refine h1 (c + 1) (oh_fs c kd its) _ _ _ _ ?_ hP'
        unfold oh_nx
        rw [if_pos z]
        simp
      · obtain ⟨l', rfl⟩ : ∃ l', l = l' + 1 := ⟨l - 1, by omega⟩
        have hnx : oh_nx tk N (l' + 1) (c + 1) q = oh_pp tk N (l' + 1) (c + 1) (oh_vl (tk q)) (q + 1) := by unfold oh_nx; rw [if_neg (by omega), if_pos hsep]
        rw [hnx] at hroom h1 h0
        have qN : q < N := oh_E_lt hE (by omega) (by omega)
        refine yr_rules hK hE hN hrl l' (c + 1) (oh_vl (tk q)) (q + 1) f'' it' (st' + 1) (acc ++ oh_fs c kd its) fc2 fa2 (by omega) (by omega) (by omega) (by omega) hP2 (fun z => ?_) (fun m FL ps rd fc3 fa3 e3 hP3 => ?_) (fun e3 k0 ps rd => ?_)
        · obtain ⟨m, FL, e2, hle⟩ := hroom z
          cases hx : oh_pp tk N (l' + 1) (c + 1) (oh_vl (tk q)) (q + 1) with
          | none => rw [hx] at e2; cases e2
          | some w =>
            rw [hx] at e2
            cases e2
            refine ⟨w.1, w.2, rfl, ?_⟩
            simp only [List.length_append] at hle ⊢
            omega
        · refine h1 m (oh_fs c kd its ++ FL) ps rd fc3 fa3 (by rw [e3]; rfl) ?_
          rw [← List.append_assoc]; exact hP3
        · exact h0 (by rw [e3]; rfl) k0 ps rd
      · have hnx : oh_nx tk N l (c + 1) q = none := by
          unfold oh_nx
          rw [if_neg (by omega)]
          by_cases hsep : tk q = 59 ∨ tk q = 44 ∨ tk q = 124
          · rw [if_pos hsep]
            have l0 : l = 0 := by omega
            subst l0
            rfl
          · rw [if_neg hsep]
        rw [hnx] at hroom h0
        have k0 : kp = 0 := by
          rcases oh_YPk hP with z | z
          · exact z
          · obtain ⟨_, _, e, _⟩ := hroom z
            cases e
        have e0 := oh_YP0 hP' k0
        have hh := h0 rfl k0
        rw [← e0.1, ← e0.2] at hh
        exact hh _ _
theorem yr_read {post : Int32 → SY → Prop} {rl : Nat} {acc0 : List (Nat × Nat × Nat × Nat)} (hK : oh_YK tk n ytx ynm) (hE : oh_E tk N 0) (hN : N ≤ 128) (hrl1 : 1 ≤ rl) (hrl : rl ≤ 6) (hP : oh_YP kp fc0 fa0 [] yfc yfa) (hroom : kp = 1 → ∃ m FL, oh_pp tk N rl 0 0 0 = some (m, FL) ∧ FL.length ≤ 128)
    (h1 : ∀ m FL ps rd fc' fa', oh_pp tk N rl 0 0 0 = some (m, FL) → oh_YP kp fc0 fa0 FL fc' fa' → post (nI m) (yfw, ylp, nI rl, yhd, nI n, yos, ylt, fc', yru, ps, rd, nI kp, ytx, you, fa', ynm, yho))
    (h0 : oh_pp tk N rl 0 0 0 = none → kp = 0 → ∀ ps rd, post (-1) (yfw, ylp, nI rl, yhd, nI n, yos, ylt, fc0, yru, ps, rd, nI kp, ytx, you, fa0, ynm, yho)) : wpY_read post (yfw, ylp, nI rl, yhd, nI n, yos, ylt, yfc, yru, yps, yrd, nI kp, ytx, you, yfa, ynm, yho) := by
  obtain ⟨l, rfl⟩ : ∃ l, rl = l + 1 := ⟨rl - 1, by omega⟩
  unfold wpY_read
  dsimp only
  refine yk_add (r := 0) (k := 0) (a := 0) (b := 0) hP (fun _ => by decide) rfl rfl rfl (fun fc' fa' hP' => ?_)
  dsimp only
  refine ⟨257, ?_⟩
  refine yr_rules hK hE hN hrl l 0 0 0 257 0 0 [] fc' fa' (by omega) (by omega) (by omega) (by omega) hP' (fun z => ?_) (fun m FL ps rd fc3 fa3 e hP3 => h1 m FL ps rd fc3 fa3 e hP3) (fun e k0 ps rd => h0 e k0 ps rd)
  obtain ⟨m, FL, e, hle⟩ := hroom z
  exact ⟨m, FL, e, by simpa using hle⟩
end
end
section
/-! ===== Y: parse; facts and what they hold ===== -/
section
variable {yfw ylp yrl yhd yts yos ylt yfc yru yps yrd ykp : Int32} {ytx you yfa yho : Nat → Int32} {ynm : Nat → Int64} {tk : Nat → Nat} {n N : Nat}
theorem yr_parse {post : Int32 → SY → Prop} {rl : Nat} (hK : oh_YK tk n ytx ynm) (hE : oh_E tk N 0) (hN : N ≤ 128) (hrl1 : 1 ≤ rl) (hrl : rl ≤ 6) (hb : ∀ m FL, oh_pp tk N rl 0 0 0 = some (m, FL) → m ≤ 6 ∧ FL.length ≤ 128)
    (h1 : ∀ m FL ps rd fc' fa', oh_pp tk N rl 0 0 0 = some (m, FL) → oh_YF FL fc' fa' → post (nI m) (yfw, ylp, nI rl, yhd, nI n, yos, ylt, fc', nI m, ps, rd, 1, ytx, you, fa', ynm, yho))
    (h0 : oh_pp tk N rl 0 0 0 = none → ∀ ps rd, post (-1) (yfw, ylp, nI rl, yhd, nI n, yos, ylt, yfc, yru, ps, rd, 0, ytx, you, yfa, ynm, yho)) : wpY_parse post (yfw, ylp, nI rl, yhd, nI n, yos, ylt, yfc, yru, yps, yrd, ykp, ytx, you, yfa, ynm, yho) := by
  unfold wpY_parse
  dsimp only
  refine yr_read (kp := 0) (fc0 := yfc) (fa0 := yfa) (acc0 := []) hK hE hN hrl1 hrl (Or.inl ⟨rfl, rfl, rfl⟩) (fun z => absurd z (by omega)) (fun m FL ps rd fc' fa' e hP => ?_) (fun e _ ps rd => ?_)
  · have hm := hb m FL e
    have e0 := oh_YP0 hP rfl
    rw [e0.1, e0.2]
    dsimp only
    refine br_f (oh_nI_neg (by omega)) ?_
    refine yr_read (kp := 1) (fc0 := yfc) (fa0 := yfa) (acc0 := []) hK hE hN hrl1 hrl (Or.inr ⟨rfl, rfl, by decide, fun i hi => absurd hi (Nat.not_lt_zero _)⟩) (fun _ => ⟨m, FL, e, hm.2⟩) (fun m' FL' ps' rd' fc'' fa'' e' hP' => ?_) (fun e' k0 => absurd k0 (by omega))
    rcases hP' with z | z
    · exact absurd z.1 (by omega)
    · exact h1 m' FL' ps' rd' fc'' fa'' e' z.2
  · exact br_t rfl (h0 e ps rd)
end
theorem oh_dropc {α : Type} {l : List α} {i : Nat} (d : α) (h : i < l.length) : l.drop i = l.getD i d :: l.drop (i + 1) := by
  rw [oh_gE h]; exact List.drop_eq_getElem_cons h
theorem oh_sY_c (f : Nat × Nat × Nat × Nat) (t : List (Nat × Nat × Nat × Nat)) (r k : Nat) : oh_sY (f :: t) r k = if f.1 = r ∧ f.2.1 = k then f.2.2 :: oh_sY t r k else oh_sY t r k := by
  unfold oh_sY
  by_cases h : f.1 = r ∧ f.2.1 = k
  · rw [if_pos h, List.filter_cons_of_pos (by simp [h.1, h.2])]; rfl
  · rw [if_neg h, List.filter_cons_of_neg (by simpa using h)]
def oh_fv : List (Nat × Nat) → Nat → Int32
  | [], _ => -1
  | ab :: _, 0 => nI (ab.1 * 512 + ab.2)
  | _ :: t, k + 1 => oh_fv t k
def oh_says (k x y : Nat) : Nat × Nat → Bool := if k = 3 then oh_nt x y else if k = 5 then oh_sp x else oh_wk x
def oh_bi (b : Bool) : Int32 := if b then 1 else 0
def oh_FK (FL : List (Nat × Nat × Nat × Nat)) : Prop := ∀ f, f ∈ FL → f.1 < 6 ∧ oh_vi f.2
theorem oh_vi_lt {t : Nat × Nat × Nat} (h : oh_vi t) : t.1 < 8 ∧ t.2.1 < 512 ∧ t.2.2 < 512 := by
  unfold oh_vi at h
  rcases h with h | h | h | h | h | h | h
  · omega
  · have := oh_vd_lt h.2.1
    have := oh_vd_lt h.2.2
    omega
  all_goals omega
section
variable {yfw ylp yrl yhd yts yos ylt yfc yru yps yrd ykp : Int32} {ytx you yfa yho : Nat → Int32} {ynm : Nat → Int64} {FL : List (Nat × Nat × Nat × Nat)}
theorem yf_fact6 {post : Int32 → Prop} {r k n : Nat} (hF : oh_YF FL yfc yfa) (hK : oh_FK FL) (hr : r < 100) (hk : k < 8) (hn : n < 100) : ∀ (d i s f : Nat), i + d = FL.length → d < f → s ≤ n → post (oh_fv (oh_sY (FL.drop i) r k) (n - s)) → wY_fact_6 post (nI r) (nI k) (nI n) yfw ylp yrl yhd yts yos ylt yfc yru yps yrd ykp ytx you yfa ynm yho f (nI s) (nI i)
  | d, i, s, 0, _, hf, _, _ => absurd hf (by omega)
  | 0, i, s, f + 1, hd, _, hs, h => by
    have hl := hF.2.1
    rw [wY_fact_6]
    rw [List.drop_eq_nil_of_le (by omega), show oh_sY [] r k = [] from rfl, oh_fv] at h
    exact pk_le FL.length i (fun _ => h) (fun a => absurd a (by omega)) (hx := hF.1)
  | d + 1, i, s, f + 1, hd, hf, hs, h => by
    have hl := hF.2.1
    have hi : i < FL.length := by omega
    have hv := hK _ (oh_gM (d := (0, 0, 0, 0)) hi)
    have hfa := hF.2.2 i hi
    rw [oh_dropc (0, 0, 0, 0) hi, oh_sY_c] at h
    rw [wY_fact_6]
    generalize FL.getD i (0, 0, 0, 0) = e at *
    have hb := oh_vi_lt hv.2
    obtain ⟨r', k', a, b⟩ := e
    dsimp only at hb h hv
    have henc : oh_enc (r', k', a, b) < 2 ^ 31 := by unfold oh_enc; dsimp only; omega
    have ed : oh_enc (r', k', a, b) / 262144 = r' * 8 + k' := by unfold oh_enc; dsimp only; omega
    have em : oh_enc (r', k', a, b) % 262144 = a * 512 + b := by unfold oh_enc; dsimp only; omega
    refine pk_le FL.length i (fun z => absurd z (by omega)) (fun _ => ⟨vp_in_nI (by omega) (by omega), by decide, ?_⟩) (hx := hF.1)
    rw [nI_clamp (by omega), hfa, oh_r262144 henc, oh_d262144 henc, ed, em, show nI r * 8 = nI (r * 8) from pk_mul r 8, nI_add]
    refine pk_eq (r' * 8 + k') (r * 8 + k) (fun z => ?_) (fun z => ?_)
    · rw [if_pos (by omega)] at h
      refine nm_r (nI_1 s) ?_
      refine pk_eq s n (fun y => ⟨vp_in_nI (by omega) (by omega), by decide, ?_⟩) (fun y => nm_r (nI_1 i) ?_)
      · rw [show n - s = 0 by omega, oh_fv] at h
        exact h
      · rw [show n - s = (n - (s + 1)) + 1 by omega, oh_fv] at h
        exact yf_fact6 hF hK hr hk hn d (i + 1) (s + 1) f (by omega) (by omega) (by omega) h
    · rw [if_neg (by omega)] at h
      exact nm_r (nI_1 i) (yf_fact6 hF hK hr hk hn d (i + 1) s f (by omega) (by omega) hs h)
theorem yf_fact {post : Int32 → Prop} {x y z : Int32} (r k n : Nat) (ex : x = nI r) (ey : y = nI k) (ez : z = nI n) (hF : oh_YF FL yfc yfa) (hK : oh_FK FL) (hr : r < 100) (hk : k < 8) (hn : n < 100) (h : post (oh_fv (oh_sY FL r k) n)) : wpY_fact post (yfw, ylp, yrl, yhd, yts, yos, ylt, yfc, yru, yps, yrd, ykp, ytx, you, yfa, ynm, yho) x y z := by
  subst ex ey ez
  unfold wpY_fact
  exact ⟨FL.length + 1, yf_fact6 hF hK hr hk hn FL.length 0 0 _ (by omega) (by omega) (by omega) h⟩
theorem yf_h141 {post : Int32 → Prop} {J : Int32 → Prop} {r k i : Nat} {x3 x4 : Int32} {e : Nat × Nat × Nat × Nat} (b : Bool) {z0 : Int32} (hz : z0 = if b then 1 else 0) (hi : i < 128) (hfa : yfa i = nI (oh_enc e)) (he : e.1 < 6 ∧ oh_vi e.2) (hr : r < 100) (hk : k < 8) (h1 : (e.1 = r ∧ e.2.1 = k) → b = true → post 1) (h0 : ¬ ((e.1 = r ∧ e.2.1 = k) ∧ b = true) → J (nI (i + 1))) : wY_holds_141 post J (nI r) (nI k) x3 x4 (nI i) z0 yfw ylp yrl yhd yts yos ylt yfc yru yps yrd ykp ytx you yfa ynm yho := by
  have hb := oh_vi_lt he.2
  obtain ⟨r', k', a, c⟩ := e
  dsimp only at hb h1 h0 he
  have henc : oh_enc (r', k', a, c) < 2 ^ 31 := by unfold oh_enc; dsimp only; omega
  have ed : oh_enc (r', k', a, c) / 262144 = r' * 8 + k' := by unfold oh_enc; dsimp only; omega
  unfold wY_holds_141
  rw [nI_clamp (by omega), hfa, oh_d262144 henc, ed, show nI r * 8 = nI (r * 8) from pk_mul r 8, nI_add]
  refine ⟨vp_in_nI (by omega) (by omega), by decide, ?_⟩
  subst hz
  refine pk_eq (r' * 8 + k') (r * 8 + k) (fun z => ?_) (fun z => nm_r (nI_1 i) (h0 (by omega)))
  cases b with
  | false => exact br_t rfl (nm_r (nI_1 i) (h0 (by simp)))
  | true => exact br_f (by decide) (h1 (by omega) rfl)
theorem yf_h86 {post : Int32 → Prop} {J : Int32 → Prop} {r k x y i : Nat} {e : Nat × Nat × Nat × Nat} {z0 : Int32} (hz : z0 = if oh_wk x e.2.2 then 1 else 0) (hi : i < 128) (hfa : yfa i = nI (oh_enc e)) (he : e.1 < 6 ∧ oh_vi e.2) (hr : r < 100) (hk : k < 8) (hx : x < 1000) (hy : y < 1000) (h1 : (e.1 = r ∧ e.2.1 = k) → oh_says k x y e.2.2 = true → post 1) (h0 : ¬ ((e.1 = r ∧ e.2.1 = k) ∧ oh_says k x y e.2.2 = true) → J (nI (i + 1))) : wY_holds_86 post J (nI r) (nI k) (nI x) (nI y) (nI i) (nI e.2.2.1) (nI e.2.2.2) z0 yfw ylp yrl yhd yts yos ylt yfc yru yps yrd ykp ytx you yfa ynm yho := by
  have hb := oh_vi_lt he.2
  unfold oh_says at h1 h0
  unfold wY_holds_86
  refine pk_eq k 3 (fun k3 => ?_) (fun k3 => pk_eq k 5 (fun k5 => ?_) (fun k5 => ?_))
  · rw [if_pos k3] at h1 h0
    unfold wY_holds_110
    have hf : ¬ (e.2.2.1 = x ∧ e.2.2.2 = y) → wY_holds_141 post J (nI r) (nI k) (nI x) (nI y) (nI i) 0 yfw ylp yrl yhd yts yos ylt yfc yru yps yrd ykp ytx you yfa ynm yho := fun q =>
      yf_h141 false rfl hi hfa he hr hk (fun _ z => absurd z (by decide)) (fun _ => h0 (fun z => q (of_decide_eq_true z.2)))
    refine pk_eq e.2.2.1 x (fun a => pk_eq e.2.2.2 y (fun b => ?_) (fun b => hf (by omega))) (fun a => hf (by omega))
    exact yf_h141 true rfl hi hfa he hr hk (fun z _ => h1 z (decide_eq_true ⟨a, b⟩)) (fun z => h0 (fun q => z ⟨q.1, rfl⟩))
  · rw [if_neg k3, if_pos k5] at h1 h0
    unfold wY_holds_135
    have hf : ¬ (e.2.2.1 ≤ x ∧ x < e.2.2.2) → wY_holds_141 post J (nI r) (nI k) (nI x) (nI y) (nI i) 0 yfw ylp yrl yhd yts yos ylt yfc yru yps yrd ykp ytx you yfa ynm yho := fun q =>
      yf_h141 false rfl hi hfa he hr hk (fun _ z => absurd z (by decide)) (fun _ => h0 (fun z => q (of_decide_eq_true z.2)))
    refine pk_lt x e.2.2.1 (fun a => hf (by omega)) (fun a => pk_le e.2.2.2 x (fun b => hf (by omega)) (fun b => ?_))
    exact yf_h141 true rfl hi hfa he hr hk (fun z _ => h1 z (decide_eq_true ⟨a, b⟩)) (fun z => h0 (fun q => z ⟨q.1, rfl⟩))
  · rw [if_neg k3, if_neg k5] at h1 h0
    exact yf_h141 (oh_wk x e.2.2) hz hi hfa he hr hk h1 h0
theorem yf_h3 {post : Int32 → Prop} {r k x y : Nat} (hF : oh_YF FL yfc yfa) (hK : oh_FK FL) (hr : r < 100) (hk : k < 8) (hx : x < 1000) (hy : y < 1000) : ∀ (d i f : Nat), i + d = FL.length → d < f → post (oh_bi ((oh_sY (FL.drop i) r k).any (oh_says k x y))) → wY_holds_3 post (nI r) (nI k) (nI x) (nI y) yfw ylp yrl yhd yts yos ylt yfc yru yps yrd ykp ytx you yfa ynm yho f (nI i)
  | d, i, 0, _, hf, _ => absurd hf (by omega)
  | 0, i, f + 1, hd, _, h => by
    have hl := hF.2.1
    rw [wY_holds_3]
    rw [List.drop_eq_nil_of_le (by omega), show oh_sY [] r k = [] from rfl] at h
    exact pk_le FL.length i (fun _ => h) (fun a => absurd a (by omega)) (hx := hF.1)
  | d + 1, i, f + 1, hd, hf, h => by
    have hl := hF.2.1
    have hi : i < FL.length := by omega
    have hv := hK _ (oh_gM (d := (0, 0, 0, 0)) hi)
    have hfa := hF.2.2 i hi
    rw [oh_dropc (0, 0, 0, 0) hi, oh_sY_c] at h
    rw [wY_holds_3]
    generalize FL.getD i (0, 0, 0, 0) = e at *
    have hb := oh_vi_lt hv.2
    have henc : oh_enc e < 2 ^ 31 := by unfold oh_enc; omega
    have ea : oh_enc e / 512 % 512 = e.2.2.1 := by unfold oh_enc; omega
    have eb : oh_enc e % 512 = e.2.2.2 := by unfold oh_enc; omega
    have hn1 : (e.1 = r ∧ e.2.1 = k) → oh_says k x y e.2.2 = true → post 1 := fun z y' => by
      rw [if_pos z, List.any_cons, y', Bool.true_or] at h; exact h
    have hn0 : ¬ ((e.1 = r ∧ e.2.1 = k) ∧ oh_says k x y e.2.2 = true) → wY_holds_3 post (nI r) (nI k) (nI x) (nI y) yfw ylp yrl yhd yts yos ylt yfc yru yps yrd ykp ytx you yfa ynm yho f (nI (i + 1)) := fun z => by
      refine yf_h3 hF hK hr hk hx hy d (i + 1) f (by omega) (by omega) ?_
      by_cases q : e.1 = r ∧ e.2.1 = k
      · rw [if_pos q, List.any_cons, ts_nt (fun y' => z ⟨q, y'⟩), Bool.false_or] at h; exact h
      · rw [if_neg q] at h; exact h
    have h86 : ∀ z0 : Int32, z0 = (if oh_wk x e.2.2 then 1 else 0) → wY_holds_86 post (wY_holds_3 post (nI r) (nI k) (nI x) (nI y) yfw ylp yrl yhd yts yos ylt yfc yru yps yrd ykp ytx you yfa ynm yho f) (nI r) (nI k) (nI x) (nI y) (nI i) (nI e.2.2.1) (nI e.2.2.2) z0 yfw ylp yrl yhd yts yos ylt yfc yru yps yrd ykp ytx you yfa ynm yho := fun z0 hz => yf_h86 hz (by omega) hfa hv hr hk hx hy hn1 hn0
    refine pk_le FL.length i (fun z => absurd z (by omega)) (fun _ => ⟨vp_in_nI (by omega) (by omega), by decide, by decide, ?_⟩) (hx := hF.1)
    rw [nI_clamp (by omega), hfa]
    refine nm_r (e' := nI e.2.2.1) (by rw [oh_d512 henc, oh_r512 (by omega), ea]) ⟨vp_in_nI (by omega) (by omega), by decide, ?_⟩
    refine nm_r (e' := nI e.2.2.2) (by rw [oh_r512 henc, eb]) ?_
    unfold wY_holds_81 wY_holds_65
    have wt : ∀ {p : Prop}, (oh_wk x e.2.2 = true ↔ p) → p → (1 : Int32) = (if oh_wk x e.2.2 then 1 else 0) := fun q w => by rw [if_pos (q.mpr w)]
    have wf : ∀ {p : Prop}, (oh_wk x e.2.2 = true ↔ p) → ¬ p → (0 : Int32) = (if oh_wk x e.2.2 then 1 else 0) := fun q w => by rw [if_neg (fun y => w (q.mp y))]
    refine pk_lt e.2.2.2 e.2.2.1 (fun a => ?_) (fun a => ?_)
    · have hw : oh_wk x e.2.2 = true ↔ e.2.2.1 ≤ x ∨ x ≤ e.2.2.2 := by unfold oh_wk; rw [if_neg (by omega)]; exact decide_eq_true_iff
      refine pk_le e.2.2.1 x (fun b => h86 _ (wt hw (by omega))) (fun b => pk_lt e.2.2.2 x (fun c => h86 _ (wf hw (by omega))) (fun c => h86 _ (wt hw (by omega))))
    · have hw : oh_wk x e.2.2 = true ↔ e.2.2.1 ≤ x ∧ x ≤ e.2.2.2 := by unfold oh_wk; rw [if_pos (by omega)]; exact decide_eq_true_iff
      refine pk_lt x e.2.2.1 (fun b => h86 _ (wf hw (by omega))) (fun b => pk_lt e.2.2.2 x (fun c => h86 _ (wf hw (by omega))) (fun c => h86 _ (wt hw (by omega))))
theorem yf_holds {post : Int32 → Prop} {p0 p1 p2 p3 : Int32} (r k x y : Nat) (e0 : p0 = nI r) (e1 : p1 = nI k) (e2 : p2 = nI x) (e3 : p3 = nI y) (hF : oh_YF FL yfc yfa) (hK : oh_FK FL) (hr : r < 100) (hk : k < 8) (hx : x < 1000) (hy : y < 1000) (h : post (oh_bi ((oh_sY FL r k).any (oh_says k x y)))) : wpY_holds post (yfw, ylp, yrl, yhd, yts, yos, ylt, yfc, yru, yps, yrd, ykp, ytx, you, yfa, ynm, yho) p0 p1 p2 p3 := by
  subst e0 e1 e2 e3
  unfold wpY_holds
  exact ⟨FL.length + 1, yf_h3 hF hK hr hk hx hy FL.length 0 _ (by omega) (by omega) h⟩
end
end
section
/-! ===== pure: the calendar and the evaluation ===== -/
def oh_dc (lp d : Nat) : Nat := if d < 31 then 33 + d else if d < 59 + lp then 65 + (d - 31) else if d < 90 + lp then 97 + (d - (59 + lp)) else if d < 120 + lp then 129 + (d - (90 + lp)) else if d < 151 + lp then 161 + (d - (120 + lp)) else if d < 181 + lp then 193 + (d - (151 + lp)) else if d < 212 + lp then 225 + (d - (181 + lp)) else if d < 243 + lp then 257 + (d - (212 + lp)) else if d < 273 + lp then 289 + (d - (243 + lp)) else if d < 304 + lp then 321 + (d - (273 + lp)) else if d < 334 + lp then 353 + (d - (304 + lp)) else 385 + (d - (334 + lp))
theorem oh_dc_step : ∀ lp, lp < 2 → ∀ d, d < 366 → d + 1 < 365 + lp → oh_dc lp (d + 1) = if oh_dc lp d % 32 < oh_ml (oh_dc lp d / 32) lp then oh_dc lp d + 1 else oh_dc lp d / 32 * 32 + 33 := by decide +kernel
theorem oh_dc_v : ∀ lp, lp < 2 → ∀ d, d < 366 → d < 365 + lp → 1 ≤ oh_dc lp d / 32 ∧ oh_dc lp d / 32 ≤ 12 ∧ 1 ≤ oh_dc lp d % 32 ∧ oh_dc lp d % 32 ≤ oh_ml (oh_dc lp d / 32) lp ∧ oh_dc lp d < 512 := by decide +kernel
def oh_do (lp : Nat) : Nat → Nat → Nat → Nat
  | 0, m, d => 32 * m + d
  | f + 1, m, d => if d ≤ oh_ml m lp then 32 * m + d else oh_do lp f (m + 1) (d - oh_ml m lp)
theorem oh_do_dc : ∀ lp, lp < 2 → ∀ d, d < 366 → d < 365 + lp → oh_do lp 11 1 (d + 1) = oh_dc lp d := by decide +kernel
def oh_mt (S : Nat → List (Nat × Nat)) (lp c w : Nat) (h : Bool) : Bool :=
  ((S 1).isEmpty || (S 1).any (oh_wk c)) && ((((S 2).isEmpty && ((S 3).isEmpty && (S 4).isEmpty)) || ((S 2).any (oh_wk w) || ((S 3).any (oh_nt w ((c % 32 - 1) / 7 + 1)) || (decide (oh_ml (c / 32) lp < c % 32 + 7) && (S 3).any (oh_nt w 6))))) || (h && !(S 4).isEmpty))
def oh_sup (kk : Nat → Nat) (M : Nat → Bool) : Nat → Nat → Bool
  | 0, _ => false
  | d + 1, q => if kk q = 2 then false else if kk q = 0 then (if M q then true else oh_sup kk M d (q + 1)) else oh_sup kk M d (q + 1)
def oh_act (kk : Nat → Nat) (M : Nat → Bool) (m r : Nat) : Bool := M r && !oh_sup kk M (m - (r + 1)) (r + 1)
def oh_fin2 (la ow : Nat) : Nat := if la = 100 then ow else la
def oh_ra (kk : Nat → Nat) (L O : Nat → Bool) : Nat → Nat → Nat → Nat → Nat
  | 0, _, la, ow => oh_fin2 la ow
  | d + 1, r, la, ow => if kk r = 2 ∧ ¬ (la = 100 ∧ ow = 100) then oh_fin2 la ow else oh_ra kk L O d (r + 1) (if L r then r else la) (if O r then r else ow)
def oh_ri (c : Nat) : Int32 := if c = 100 then -2 else nI c
theorem oh_ri_eq {c : Nat} (h : c < 1000) : oh_ri c = -2 ↔ c = 100 := by
  unfold oh_ri
  split
  · exact ⟨fun _ => by assumption, fun _ => rfl⟩
  · exact ⟨fun q => absurd q (oh_nI_ne2 (by omega)), fun q => by contradiction⟩
def oh_kk (S : Nat → Nat → List (Nat × Nat)) (r : Nat) : Nat := ((S r 0).getD 0 (0, 0)).1
/-- what a day's matching is: of a day in the year, or of none -/
def oh_M (S : Nat → Nat → List (Nat × Nat)) (fw lp : Nat) (ho : Nat → Bool) (v : Bool) (d : Nat) (q : Nat) : Bool := v && oh_mt (S q) lp (oh_dc lp d) ((fw + d) % 7) (ho d)
def oh_Lt (S : Nat → Nat → List (Nat × Nat)) (fw lp m : Nat) (ho : Nat → Bool) (t r : Nat) : Bool := (S r 5).any (oh_sp (t % 48 + 48)) && oh_act (oh_kk S) (oh_M S fw lp ho (decide (48 ≤ t)) (t / 48 - 1)) m r
def oh_Ot (S : Nat → Nat → List (Nat × Nat)) (fw lp m : Nat) (ho : Nat → Bool) (t r : Nat) : Bool := ((S r 5).isEmpty || (S r 5).any (oh_sp (t % 48))) && oh_act (oh_kk S) (oh_M S fw lp ho true (t / 48)) m r
def oh_RA (S : Nat → Nat → List (Nat × Nat)) (fw lp m : Nat) (ho : Nat → Bool) (t : Nat) : Nat := oh_ra (oh_kk S) (oh_Lt S fw lp m ho t) (oh_Ot S fw lp m ho t) m 0 100 100
def oh_ST (S : Nat → Nat → List (Nat × Nat)) (fw lp m : Nat) (ho : Nat → Bool) (t : Nat) : Nat := if oh_RA S fw lp m ho t = 100 then 0 else oh_so (S (oh_RA S fw lp m ho t) 6)
theorem oh_ra_lt {kk : Nat → Nat} {L O : Nat → Bool} {m : Nat} : ∀ (d r la ow : Nat), r + d = m → (la = 100 ∨ la < m) → (ow = 100 ∨ ow < m) → oh_ra kk L O d r la ow = 100 ∨ oh_ra kk L O d r la ow < m
  | 0, r, la, ow, _, h1, h2 => by rw [oh_ra]; unfold oh_fin2; split <;> assumption
  | d + 1, r, la, ow, hd, h1, h2 => by
    rw [oh_ra]
    split
    · unfold oh_fin2; split <;> assumption
    · refine oh_ra_lt d (r + 1) _ _ (by omega) ?_ ?_
      · split
        · exact Or.inr (by omega)
        · exact h1
      · split
        · exact Or.inr (by omega)
        · exact h2
theorem oh_RA_lt (S : Nat → Nat → List (Nat × Nat)) (fw lp m : Nat) (ho : Nat → Bool) (t : Nat) : oh_RA S fw lp m ho t = 100 ∨ oh_RA S fw lp m ho t < m := oh_ra_lt m 0 100 100 (by omega) (Or.inl rfl) (Or.inl rfl)
/-! branches -/
theorem oh_brbi {A B : Prop} {b : Bool} (h0 : b = false → A) (h1 : b = true → B) : (oh_bi b = 0 → A) ∧ (¬ oh_bi b = 0 → B) := by
  cases b with
  | false => exact br_t rfl (h0 rfl)
  | true => exact br_f (by decide) (h1 rfl)
theorem oh_brbi1 {A B : Prop} {b : Bool} (h1 : b = true → A) (h0 : b = false → B) : (oh_bi b = 1 → A) ∧ (¬ oh_bi b = 1 → B) := by
  cases b with
  | false => exact br_f (by decide) (h0 rfl)
  | true => exact br_t rfl (h1 rfl)
def oh_sm (l : List (Nat × Nat)) : Prop := ∀ ab, ab ∈ l → ab.1 < 512 ∧ ab.2 < 512
theorem oh_fv0 {l : List (Nat × Nat)} (hs : oh_sm l) (h : l.isEmpty = false) : ∃ v, v < 2 ^ 31 ∧ oh_fv l 0 = nI v := by
  cases l with
  | nil => cases h
  | cons ab t =>
    have := hs ab List.mem_cons_self
    exact ⟨ab.1 * 512 + ab.2, by omega, rfl⟩
theorem oh_fvE {l : List (Nat × Nat)} (h : l.isEmpty = true) : oh_fv l 0 = -1 := by
  cases l with
  | nil => rfl
  | cons ab t => cases h
theorem oh_brf {A B : Prop} {l : List (Nat × Nat)} (hs : oh_sm l) (h0 : l.isEmpty = true → A) (h1 : l.isEmpty = false → B) : (oh_fv l 0 < 0 → A) ∧ (¬ oh_fv l 0 < 0 → B) := by
  cases h : l.isEmpty with
  | true => rw [oh_fvE h]; exact br_t (by decide) (h0 h)
  | false =>
    obtain ⟨v, a, b⟩ := oh_fv0 hs h
    rw [b]; exact br_f (nI_pos a) (h1 h)
theorem oh_brg {A B : Prop} {l : List (Nat × Nat)} (hs : oh_sm l) (h1 : l.isEmpty = false → A) (h0 : l.isEmpty = true → B) : (0 ≤ oh_fv l 0 → A) ∧ (¬ 0 ≤ oh_fv l 0 → B) := by
  cases h : l.isEmpty with
  | true => rw [oh_fvE h]; exact br_f (by decide) (h0 h)
  | false =>
    obtain ⟨v, a, b⟩ := oh_fv0 hs h
    rw [b]; exact br_t (nI_pos' a) (h1 h)
theorem oh_sY_m {FL : List (Nat × Nat × Nat × Nat)} {r k : Nat} {ab : Nat × Nat} (h : ab ∈ oh_sY FL r k) : ∃ f, f ∈ FL ∧ f.1 = r ∧ f.2 = (k, ab) := by
  unfold oh_sY at h
  obtain ⟨f, hf, e⟩ := List.mem_map.mp h
  rw [List.mem_filter] at hf
  refine ⟨f, hf.1, ?_⟩
  have := hf.2
  simp at this
  refine ⟨this.1, ?_⟩
  rw [← this.2, ← e]
theorem oh_sY_v {FL : List (Nat × Nat × Nat × Nat)} {r k : Nat} {ab : Nat × Nat} (hK : oh_FK FL) (h : ab ∈ oh_sY FL r k) : oh_vi (k, ab) := by
  obtain ⟨f, hf, _, e⟩ := oh_sY_m h
  rw [← e]; exact (hK f hf).2
theorem oh_sY_sm {FL : List (Nat × Nat × Nat × Nat)} {r k : Nat} (hK : oh_FK FL) : oh_sm (oh_sY FL r k) := fun ab h => (oh_vi_lt (oh_sY_v hK h)).2
/-! ===== Y: evaluation ===== -/
def oh_YE (fw lp m : Nat) (FL : List (Nat × Nat × Nat × Nat)) (ho : Nat → Bool) (yfc : Int32) (yfa yho : Nat → Int32) : Prop := (fw ≤ 6 ∧ lp ≤ 1 ∧ m ≤ 6) ∧ oh_YF FL yfc yfa ∧ oh_FK FL ∧ (∀ j, j < 366 → yho j = oh_bi (ho j)) ∧ ∀ r, r < m → ∃ K, K ≤ 2 ∧ oh_sY FL r 0 = [(K, 0)]
theorem oh_kk_eq {FL : List (Nat × Nat × Nat × Nat)} {r K : Nat} (h : oh_sY FL r 0 = [(K, 0)]) : oh_kk (oh_sY FL) r = K := by unfold oh_kk; rw [h]; rfl
section
variable {yfw ylp yrl yhd yts yos ylt yfc yru yps yrd ykp : Int32} {ytx you yfa yho : Nat → Int32} {ynm : Nat → Int64} {fw lp m : Nat} {FL : List (Nat × Nat × Nat × Nat)} {ho : Nat → Bool}
theorem ye_do {post : Int32 → Prop} (hl : lp ≤ 1) : ∀ (f mo d fu : Nat), mo + f = 12 → f < fu → 1 ≤ mo → d ≤ 400 → post (nI (oh_do lp f mo d)) → wY_dateOf_6 post yfw (nI lp) yrl yhd yts yos ylt yfc yru yps yrd ykp ytx you yfa ynm yho fu (nI mo) (nI d)
  | f, mo, d, 0, _, hf, _, _, _ => absurd hf (by omega)
  | 0, mo, d, fu + 1, hm, hf, h1, hd, h => by
    rw [wY_dateOf_6]
    refine pk_le 12 mo (fun _ => ?_) (fun a => absurd a (by omega))
    rw [show (32 : Int32) * nI mo = nI (32 * mo) from pk_mul 32 mo, nI_add]
    exact h
  | f + 1, mo, d, fu + 1, hm, hf, h1, hd, h => by
    have hml := oh_ml_in mo lp hl
    rw [wY_dateOf_6]
    refine pk_le 12 mo (fun a => absurd a (by omega)) (fun _ => ?_)
    refine yk_ml mo lp rfl rfl (by omega) ?_
    rw [oh_do] at h
    refine pk_le d (oh_ml mo lp) (fun a => ?_) (fun a => ?_)
    · rw [if_pos a] at h
      rw [show (32 : Int32) * nI mo = nI (32 * mo) from pk_mul 32 mo, nI_add]
      exact h
    · rw [if_neg (by omega)] at h
      refine yk_ml mo lp rfl rfl (by omega) ?_
      exact nm_r (pk_sub (by omega)) (nm_r (nI_1 mo) (ye_do hl f (mo + 1) (d - oh_ml mo lp) fu (by omega) (by omega) (by omega) (by omega) h))
theorem ye_date {post : Int32 → Prop} {x : Int32} (d : Nat) (ex : x = nI d) (hl : lp ≤ 1) (hd : d < 365 + lp) (h : post (nI (oh_dc lp d))) : wpY_dateOf post (yfw, nI lp, yrl, yhd, yts, yos, ylt, yfc, yru, yps, yrd, ykp, ytx, you, yfa, ynm, yho) x := by
  subst ex
  unfold wpY_dateOf
  dsimp only
  refine nm_r (nI_1 d) ⟨12, ?_⟩
  refine ye_do hl 11 1 (d + 1) 12 (by omega) (by omega) (by omega) (by omega) ?_
  rw [oh_do_dc lp (by omega) d (by omega) hd]
  exact h
theorem ye_200 {post : Int32 → Prop} {r d : Nat} (A B C : Bool) (hE : oh_YE fw lp m FL ho yfc yfa yho) (hr : r < m) (hd : d < 366) (h : post (oh_bi (A && ((B || C) || (ho d && !(oh_sY FL r 4).isEmpty))))) : wY_matches_200 post (nI r) (nI d) (oh_bi A) (oh_bi B) (oh_bi C) yfw ylp yrl yhd yts yos ylt yfc yru yps yrd ykp ytx you yfa ynm yho := by
  obtain ⟨⟨h1, h2, h3⟩, hF, hK, hh, hkd⟩ := hE
  unfold wY_matches_200
  refine oh_brbi (fun a => ?_) (fun a => oh_brbi (fun b => oh_brbi (fun c => ?_) (fun c => ?_)) (fun b => ?_))
  · subst a; exact h
  · subst a b c
    refine ⟨vp_in_nI hd (by omega), ?_⟩
    rw [nI_clamp (by omega), hh d hd]
    refine oh_brbi (fun g => ?_) (fun g => ?_)
    · rw [g] at h; exact h
    · refine yf_fact r 4 0 rfl rfl rfl hF hK (by omega) (by omega) (by omega) ?_
      refine oh_brf (oh_sY_sm hK) (fun e => ?_) (fun e => ?_)
      · rw [g, e] at h; exact h
      · rw [g, e] at h; exact h
  · subst a b c; exact h
  · subst a b
    have : (true && ((true || C) || (ho d && !(oh_sY FL r 4).isEmpty))) = true := by simp
    rw [this] at h
    exact h
theorem ye_156 {post : Int32 → Prop} {r d dm w : Nat} (A B C : Bool) (hE : oh_YE fw lp m FL ho yfc yfa yho) (hr : r < m) (hd : d < 366) (hw : w < 7) (hdm : 1 ≤ dm ∧ dm ≤ 31) (h : post (oh_bi (A && ((B || ((oh_sY FL r 2).any (oh_wk w) || ((oh_sY FL r 3).any (oh_nt w ((dm - 1) / 7 + 1)) || C))) || (ho d && !(oh_sY FL r 4).isEmpty))))) : wY_matches_156 post (nI r) (nI d) (nI dm) (nI w) (oh_bi A) (oh_bi B) (oh_bi C) yfw ylp yrl yhd yts yos ylt yfc yru yps yrd ykp ytx you yfa ynm yho := by
  have hE2 := hE
  obtain ⟨⟨h1, h2, h3⟩, hF, hK, hh, hkd⟩ := hE
  unfold wY_matches_156
  refine yf_holds r 2 w 0 rfl rfl rfl rfl hF hK (by omega) (by omega) (by omega) (by omega) ?_
  have e2 : oh_says 2 w 0 = oh_wk w := rfl
  rw [e2]
  refine oh_brbi (fun a => ⟨by decide, ?_⟩) (fun a => ?_)
  · have em : (nI dm - 1) / 7 + 1 = nI ((dm - 1) / 7 + 1) := by
      rw [show nI dm - 1 = nI (dm - 1) from pk_sub (a := dm) (b := 1) (by omega), oh_d7 (by omega), nI_1]
    refine yf_holds r 3 w ((dm - 1) / 7 + 1) rfl rfl rfl em hF hK (by omega) (by omega) (by omega) (by omega) ?_
    have e3 : oh_says 3 w ((dm - 1) / 7 + 1) = oh_nt w ((dm - 1) / 7 + 1) := rfl
    rw [e3]
    rw [a, Bool.false_or] at h
    refine oh_brbi (fun b => oh_brbi (fun c => ?_) (fun c => ?_)) (fun b => ?_)
    · rw [b, c, Bool.false_or] at h
      exact ye_200 A B false hE2 hr hd h
    · rw [b, c, Bool.false_or] at h
      exact ye_200 A B true hE2 hr hd h
    · rw [b, Bool.true_or] at h
      exact ye_200 A B true hE2 hr hd h
  · rw [a, Bool.true_or] at h
    exact ye_200 A B true hE2 hr hd h
theorem ye_116 {post : Int32 → Prop} {r d c w : Nat} (A B : Bool) (hE : oh_YE fw lp m FL ho yfc yfa yho) (hr : r < m) (hd : d < 366) (hw : w < 7) (hc : 1 ≤ c / 32 ∧ c / 32 ≤ 12 ∧ 1 ≤ c % 32 ∧ c % 32 ≤ 31 ∧ c < 512) (h : post (oh_bi (A && ((B || ((oh_sY FL r 2).any (oh_wk w) || ((oh_sY FL r 3).any (oh_nt w ((c % 32 - 1) / 7 + 1)) || (decide (oh_ml (c / 32) lp < c % 32 + 7) && (oh_sY FL r 3).any (oh_nt w 6))))) || (ho d && !(oh_sY FL r 4).isEmpty))))) : wY_matches_116 post (nI r) (nI d) (nI c) (nI (c % 32)) (nI w) (oh_bi A) (oh_bi B) yfw (nI lp) yrl yhd yts yos ylt yfc yru yps yrd ykp ytx you yfa ynm yho := by
  have hE2 := hE
  obtain ⟨⟨h1, h2, h3⟩, hF, hK, hh, hkd⟩ := hE
  have hml := oh_ml_in (c / 32) lp h2
  unfold wY_matches_116
  refine ⟨by decide, yk_ml (c / 32) lp (oh_d32 (by omega)) rfl (by omega) ?_⟩
  refine pk_le (c % 32 + 7) (oh_ml (c / 32) lp) (fun a => ?_) (fun a => ?_) (hx := nI_add _ 7)
  · rw [decide_eq_false (by omega), Bool.false_and] at h
    exact ye_156 A B false hE2 hr hd hw (by omega) h
  · rw [decide_eq_true (by omega), Bool.true_and] at h
    refine yf_holds r 3 w 6 rfl rfl rfl rfl hF hK (by omega) (by omega) (by omega) (by omega) ?_
    have e3 : oh_says 3 w 6 = oh_nt w 6 := rfl
    rw [e3]
    refine oh_brbi (fun b => ?_) (fun b => ?_)
    · rw [b] at h
      exact ye_156 A B false hE2 hr hd hw (by omega) h
    · rw [b] at h
      exact ye_156 A B true hE2 hr hd hw (by omega) h
theorem ye_79 {post : Int32 → Prop} {r d c w : Nat} (A : Bool) (hE : oh_YE fw lp m FL ho yfc yfa yho) (hr : r < m) (hd : d < 366) (hw : w < 7) (hc : 1 ≤ c / 32 ∧ c / 32 ≤ 12 ∧ 1 ≤ c % 32 ∧ c % 32 ≤ 31 ∧ c < 512) (h : post (oh_bi (A && ((((oh_sY FL r 2).isEmpty && ((oh_sY FL r 3).isEmpty && (oh_sY FL r 4).isEmpty)) || ((oh_sY FL r 2).any (oh_wk w) || ((oh_sY FL r 3).any (oh_nt w ((c % 32 - 1) / 7 + 1)) || (decide (oh_ml (c / 32) lp < c % 32 + 7) && (oh_sY FL r 3).any (oh_nt w 6))))) || (ho d && !(oh_sY FL r 4).isEmpty))))) : wY_matches_79 post (nI r) (nI d) (nI c) (nI (c % 32)) (nI w) (oh_bi A) yfw (nI lp) yrl yhd yts yos ylt yfc yru yps yrd ykp ytx you yfa ynm yho := by
  have hE2 := hE
  obtain ⟨⟨h1, h2, h3⟩, hF, hK, hh, hkd⟩ := hE
  unfold wY_matches_79
  refine yf_fact r 2 0 rfl rfl rfl hF hK (by omega) (by omega) (by omega) ?_
  refine oh_brg (oh_sY_sm hK) (fun a => ?_) (fun a => ?_)
  · rw [a, Bool.false_and] at h
    exact ye_116 A false hE2 hr hd hw hc h
  · refine yf_fact r 3 0 rfl rfl rfl hF hK (by omega) (by omega) (by omega) ?_
    refine oh_brg (oh_sY_sm hK) (fun b => ?_) (fun b => ?_)
    · rw [a, b, Bool.false_and, Bool.and_false] at h
      exact ye_116 A false hE2 hr hd hw hc h
    · refine yf_fact r 4 0 rfl rfl rfl hF hK (by omega) (by omega) (by omega) ?_
      refine oh_brg (oh_sY_sm hK) (fun g => ?_) (fun g => ?_)
      · have e : ((oh_sY FL r 2).isEmpty && ((oh_sY FL r 3).isEmpty && (oh_sY FL r 4).isEmpty)) = false := by rw [g, Bool.and_false, Bool.and_false]
        rw [e] at h
        exact ye_116 A false hE2 hr hd hw hc h
      · have e : ((oh_sY FL r 2).isEmpty && ((oh_sY FL r 3).isEmpty && (oh_sY FL r 4).isEmpty)) = true := by rw [a, b, g]; rfl
        rw [e] at h
        exact ye_116 A true hE2 hr hd hw hc h
theorem ye_mt {post : Int32 → Prop} {x y : Int32} (r d : Nat) (ex : x = nI r) (ey : y = nI d) (hE : oh_YE fw lp m FL ho yfc yfa yho) (hr : r < m) (hd : d < 365 + lp) (h : post (oh_bi (oh_mt (oh_sY FL r) lp (oh_dc lp d) ((fw + d) % 7) (ho d)))) : wpY_matches post (nI fw, nI lp, yrl, yhd, yts, yos, ylt, yfc, nI m, yps, yrd, ykp, ytx, you, yfa, ynm, yho) x y := by
  subst ex ey
  have hE2 := hE
  obtain ⟨⟨h1, h2, h3⟩, hF, hK, hh, hkd⟩ := hE
  have hv := oh_dc_v lp (by omega) d (by omega) hd
  have hml := oh_ml_in (oh_dc lp d / 32) lp h2
  unfold wpY_matches
  dsimp only
  refine br_f (nI_pos (by omega)) ?_
  refine pk_le m r (fun a => absurd a (by omega)) (fun _ => br_f (nI_pos (by omega)) ?_)
  refine pk_lt d (365 + lp) (fun _ => ?_) (fun a => absurd a (by omega)) (hy := nI_add 365 lp)
  refine ye_date d rfl h2 hd ⟨by decide, ?_⟩
  rw [oh_r32 (by omega)]
  refine nm_e ⟨by decide, ?_⟩
  rw [nI_add, oh_r7 (by omega)]
  refine nm_e ?_
  refine yf_fact r 1 0 rfl rfl rfl hF hK (by omega) (by omega) (by omega) ?_
  unfold oh_mt at h
  refine oh_brf (oh_sY_sm hK) (fun a => ?_) (fun a => ?_)
  · rw [a, Bool.true_or] at h
    exact ye_79 true hE2 hr (by omega) (by omega) (by omega) h
  · refine yf_holds r 1 (oh_dc lp d) 0 rfl rfl rfl rfl hF hK (by omega) (by omega) (by omega) (by omega) ?_
    have e1 : oh_says 1 (oh_dc lp d) 0 = oh_wk (oh_dc lp d) := rfl
    rw [e1]
    rw [a, Bool.false_or] at h
    refine oh_brbi (fun b => ?_) (fun b => ?_)
    · rw [b] at h
      exact ye_79 false hE2 hr (by omega) (by omega) (by omega) h
    · rw [b] at h
      exact ye_79 true hE2 hr (by omega) (by omega) (by omega) h
theorem ye_kind {post : Int32 → Prop} {x : Int32} (r : Nat) (ex : x = nI r) (hE : oh_YE fw lp m FL ho yfc yfa yho) (hr : r < m) (h : post (nI (oh_kk (oh_sY FL) r))) : wpY_ruleKind post (yfw, ylp, yrl, yhd, yts, yos, ylt, yfc, nI m, yps, yrd, ykp, ytx, you, yfa, ynm, yho) x := by
  subst ex
  obtain ⟨⟨h1, h2, h3⟩, hF, hK, hh, hkd⟩ := hE
  obtain ⟨K, k2, ek⟩ := hkd r hr
  rw [oh_kk_eq ek] at h
  unfold wpY_ruleKind
  dsimp only
  refine br_f (nI_pos (by omega)) (pk_lt r m (fun _ => ?_) (fun a => absurd a (by omega)))
  refine yf_fact r 0 0 rfl rfl rfl hF hK (by omega) (by omega) (by omega) ⟨by decide, ?_⟩
  rw [ek]
  show post (nI (K * 512 + 0) / 512)
  rw [oh_d512 (by omega), show (K * 512 + 0) / 512 = K by omega]
  exact h
theorem ye_kind_n {post : Int32 → Prop} {x : Int32} (r : Nat) (ex : x = nI r) (hm : m ≤ 6) (hr : m ≤ r) (hr2 : r < 1000) (h : post (-1)) : wpY_ruleKind post (yfw, ylp, yrl, yhd, yts, yos, ylt, yfc, nI m, yps, yrd, ykp, ytx, you, yfa, ynm, yho) x := by
  subst ex
  unfold wpY_ruleKind
  dsimp only
  exact br_f (nI_pos (by omega)) (pk_lt r m (fun a => absurd a (by omega)) (fun _ => h))
/-- the day that is asked of: in the year (v), or before it -/
def oh_dy (lp : Nat) (v : Bool) (d : Nat) (x : Int32) : Prop := (v = true ∧ d < 365 + lp ∧ x = nI d) ∨ (v = false ∧ x < 0)
theorem ye_m1 {A B : Prop} {x y : Int32} {v : Bool} {d : Nat} (r : Nat) (ex : x = nI r) (hE : oh_YE fw lp m FL ho yfc yfa yho) (hr : r < m) (hy : oh_dy lp v d y) (h1 : oh_M (oh_sY FL) fw lp ho v d r = true → A) (h0 : oh_M (oh_sY FL) fw lp ho v d r = false → B) : wpY_matches (fun z => (z = 1 → A) ∧ (¬ z = 1 → B)) (nI fw, nI lp, yrl, yhd, yts, yos, ylt, yfc, nI m, yps, yrd, ykp, ytx, you, yfa, ynm, yho) x y := by
  rcases hy with ⟨a, b, c⟩ | ⟨a, b⟩
  · subst a
    exact ye_mt r d ex c hE hr b (oh_brbi1 h1 h0)
  · subst a ex
    have h6 := hE.1.2.2
    unfold wpY_matches
    dsimp only
    refine br_f (nI_pos (by omega)) (pk_le m r (fun a => absurd a (by omega)) (fun _ => br_t b (br_f (by decide) (h0 rfl))))
theorem ye_ac4 {A B : Prop} {y : Int32} {v : Bool} {d r : Nat} (hE : oh_YE fw lp m FL ho yfc yfa yho) (hr : r < m) (hy : oh_dy lp v d y) : ∀ (e q f : Nat), q + e = m → e < f → r < q → ((oh_M (oh_sY FL) fw lp ho v d r && !oh_sup (oh_kk (oh_sY FL)) (oh_M (oh_sY FL) fw lp ho v d) e q) = false → A) → ((oh_M (oh_sY FL) fw lp ho v d r && !oh_sup (oh_kk (oh_sY FL)) (oh_M (oh_sY FL) fw lp ho v d) e q) = true → B) → wY_active_4 (fun z => (z = 0 → A) ∧ (¬ z = 0 → B)) (nI r) y (nI fw) (nI lp) yrl yhd yts yos ylt yfc (nI m) yps yrd ykp ytx you yfa ynm yho f (nI q)
  | e, q, 0, _, hf, _, _, _ => absurd hf (by omega)
  | 0, q, f + 1, he, _, hrq, hA, hB => by
    have h6 := hE.1.2.2
    rw [wY_active_4]
    rw [oh_sup, Bool.not_false, Bool.and_true] at hA hB
    refine pk_le m q (fun _ => ?_) (fun a => absurd a (by omega))
    unfold wY_active_47
    exact ye_m1 r rfl hE hr hy (fun z => br_f (by decide) (hB z)) (fun z => br_t rfl (hA z))
  | e + 1, q, f + 1, he, hf, hrq, hA, hB => by
    have h6 := hE.1.2.2
    obtain ⟨K, k2, ek⟩ := hE.2.2.2.2 q (by omega)
    have hk := oh_kk_eq ek
    rw [wY_active_4]
    rw [oh_sup] at hA hB
    refine pk_le m q (fun a => absurd a (by omega)) (fun _ => ?_)
    refine ye_kind q rfl hE (by omega) ?_
    refine pk_eq (oh_kk (oh_sY FL) q) 2 (fun a => ?_) (fun a => ?_)
    · rw [if_pos a, Bool.not_false, Bool.and_true] at hA hB
      unfold wY_active_47
      exact ye_m1 r rfl hE hr hy (fun z => br_f (by decide) (hB z)) (fun z => br_t rfl (hA z))
    · rw [if_neg a] at hA hB
      refine ye_kind q rfl hE (by omega) ?_
      refine pk_eq (oh_kk (oh_sY FL) q) 0 (fun b => ?_) (fun b => ?_)
      · rw [if_pos b] at hA hB
        refine ye_m1 q rfl hE (by omega) hy (fun z => ?_) (fun z => ?_)
        · rw [if_pos z, Bool.not_true, Bool.and_false] at hA
          exact br_t rfl (hA rfl)
        · rw [if_neg (by rw [z]; decide)] at hA hB
          exact nm_r (nI_1 q) (ye_ac4 hE hr hy e (q + 1) f (by omega) (by omega) (by omega) hA hB)
      · rw [if_neg b] at hA hB
        exact nm_r (nI_1 q) (ye_ac4 hE hr hy e (q + 1) f (by omega) (by omega) (by omega) hA hB)
theorem ye_ac {A B : Prop} {x y : Int32} {v : Bool} {d : Nat} (r : Nat) (ex : x = nI r) (hE : oh_YE fw lp m FL ho yfc yfa yho) (hr : r < m) (hy : oh_dy lp v d y) (hA : oh_act (oh_kk (oh_sY FL)) (oh_M (oh_sY FL) fw lp ho v d) m r = false → A) (hB : oh_act (oh_kk (oh_sY FL)) (oh_M (oh_sY FL) fw lp ho v d) m r = true → B) : wpY_active (fun z => (z = 0 → A) ∧ (¬ z = 0 → B)) (nI fw, nI lp, yrl, yhd, yts, yos, ylt, yfc, nI m, yps, yrd, ykp, ytx, you, yfa, ynm, yho) x y := by
  subst ex
  unfold wpY_active
  dsimp only
  exact nm_r (nI_1 r) ⟨m + 1, ye_ac4 hE hr hy (m - (r + 1)) (r + 1) (m + 1) (by omega) (by omega) (by omega) hA hB⟩
end
end
section
/-! ===== Y: ruleAt, stateAt, nextChange ===== -/
def oh_sr (P : Nat → Bool) : Nat → Nat → Int32
  | 0, _ => -2
  | d + 1, u => if P u then nI u else oh_sr P d (u + 1)
section
variable {yfw ylp yrl yhd yts yos ylt yfc yru yps yrd ykp : Int32} {ytx you yfa yho : Nat → Int32} {ynm : Nat → Int64} {fw lp m hd : Nat} {FL : List (Nat × Nat × Nat × Nat)} {ho : Nat → Bool}
theorem oh_dy_p {t : Nat} (ht : t < 48 * (365 + lp)) (hl : lp ≤ 1) : oh_dy lp (decide (48 ≤ t)) (t / 48 - 1) (nI t / 48 - 1) := by
  rw [oh_d48 (by omega)]
  by_cases h : 48 ≤ t
  · exact Or.inl ⟨decide_eq_true h, by omega, pk_sub (a := t / 48) (b := 1) (by omega)⟩
  · refine Or.inr ⟨decide_eq_false h, ?_⟩
    rw [show t / 48 = 0 by omega]; decide
theorem oh_dy_n {t : Nat} (ht : t < 48 * (365 + lp)) (hl : lp ≤ 1) : oh_dy lp true (t / 48) (nI t / 48) := Or.inl ⟨rfl, by omega, oh_d48 (by omega)⟩
theorem ye_148 {post : Int32 → Prop} {la ow : Nat} (h1 : la < 1000) (h : post (oh_ri (oh_fin2 la ow))) : wY_ruleAt_148 post (oh_ri la) (oh_ri ow) yfw ylp yrl yhd yts yos ylt yfc yru yps yrd ykp ytx you yfa ynm yho := by
  unfold wY_ruleAt_148
  unfold oh_fin2 at h
  refine ek_if (oh_ri_eq h1) (fun a => ?_) (fun a => ?_)
  · rw [if_pos a] at h; exact h
  · rw [if_neg a] at h; exact h
theorem ye_ra30 {post : Int32 → Prop} {t : Nat} (hE : oh_YE fw lp m FL ho yfc yfa yho) (ht : t < 48 * (365 + lp)) : ∀ (d r f la ow : Nat), r + d = m → d < f → la < 1000 → ow < 1000 → post (oh_ri (oh_ra (oh_kk (oh_sY FL)) (oh_Lt (oh_sY FL) fw lp m ho t) (oh_Ot (oh_sY FL) fw lp m ho t) d r la ow)) → wY_ruleAt_30 post (nI t) (nI fw) (nI lp) yrl yhd yts yos ylt yfc (nI m) yps yrd ykp ytx you yfa ynm yho f (oh_ri la) (oh_ri ow) (nI r)
  | d, r, 0, _, _, _, hf, _, _, _ => absurd hf (by omega)
  | 0, r, f + 1, la, ow, hd, _, h1, h2, h => by
    have h6 := hE.1.2.2
    rw [wY_ruleAt_30]
    rw [oh_ra] at h
    exact pk_le m r (fun _ => ye_148 h1 h) (fun a => absurd a (by omega))
  | d + 1, r, f + 1, la, ow, hd, hf, h1, h2, h => by
    have hE2 := hE
    obtain ⟨⟨g1, g2, g3⟩, hF, hK, hh, hkd⟩ := hE2
    obtain ⟨K, k2, ek⟩ := hkd r (by omega)
    have hk := oh_kk_eq ek
    rw [wY_ruleAt_30]
    rw [oh_ra] at h
    have h64 : post (oh_ri (oh_ra (oh_kk (oh_sY FL)) (oh_Lt (oh_sY FL) fw lp m ho t) (oh_Ot (oh_sY FL) fw lp m ho t) d (r + 1) (if oh_Lt (oh_sY FL) fw lp m ho t r then r else la) (if oh_Ot (oh_sY FL) fw lp m ho t r then r else ow))) → wY_ruleAt_64 post (wY_ruleAt_30 post (nI t) (nI fw) (nI lp) yrl yhd yts yos ylt yfc (nI m) yps yrd ykp ytx you yfa ynm yho f) (nI t) (oh_ri la) (oh_ri ow) (nI r) (nI fw) (nI lp) yrl yhd yts yos ylt yfc (nI m) yps yrd ykp ytx you yfa ynm yho := fun h => by
      have h100 : ∀ la', la' < 1000 → (if oh_Lt (oh_sY FL) fw lp m ho t r then r else la) = la' → wY_ruleAt_100 post (wY_ruleAt_30 post (nI t) (nI fw) (nI lp) yrl yhd yts yos ylt yfc (nI m) yps yrd ykp ytx you yfa ynm yho f) (nI t) (oh_ri la') (oh_ri ow) (nI r) (nI fw) (nI lp) yrl yhd yts yos ylt yfc (nI m) yps yrd ykp ytx you yfa ynm yho := fun la' hla e => by
        rw [e] at h
        have hJ0 : oh_Ot (oh_sY FL) fw lp m ho t r = false → wY_ruleAt_30 post (nI t) (nI fw) (nI lp) yrl yhd yts yos ylt yfc (nI m) yps yrd ykp ytx you yfa ynm yho f (oh_ri la') (oh_ri ow) (nI (r + 1)) := fun z => by
          rw [z] at h
          exact ye_ra30 hE ht d (r + 1) f la' ow (by omega) (by omega) hla h2 h
        have hJ1 : oh_Ot (oh_sY FL) fw lp m ho t r = true → wY_ruleAt_30 post (nI t) (nI fw) (nI lp) yrl yhd yts yos ylt yfc (nI m) yps yrd ykp ytx you yfa ynm yho f (oh_ri la') (nI r) (nI (r + 1)) := fun z => by
          rw [z] at h
          have er : oh_ri r = nI r := if_neg (by omega)
          rw [← er]
          exact ye_ra30 hE ht d (r + 1) f la' r (by omega) (by omega) hla (by omega) h
        have h126 : ((oh_sY FL r 5).isEmpty || (oh_sY FL r 5).any (oh_sp (t % 48))) = true → wY_ruleAt_126 post (wY_ruleAt_30 post (nI t) (nI fw) (nI lp) yrl yhd yts yos ylt yfc (nI m) yps yrd ykp ytx you yfa ynm yho f) (nI t) (oh_ri la') (oh_ri ow) (nI r) (nI fw) (nI lp) yrl yhd yts yos ylt yfc (nI m) yps yrd ykp ytx you yfa ynm yho := fun z => by
          unfold wY_ruleAt_126
          refine ⟨by decide, ye_ac r rfl hE (by omega) (oh_dy_n ht g2) (fun a => ?_) (fun a => ?_)⟩
          · exact nm_r (nI_1 r) (hJ0 (by unfold oh_Ot; rw [z, a]; rfl))
          · exact nm_r (nI_1 r) (hJ1 (by unfold oh_Ot; rw [z, a]; rfl))
        unfold wY_ruleAt_100
        refine yf_fact r 5 0 rfl rfl rfl hF hK (by omega) (by omega) (by omega) ?_
        refine oh_brf (oh_sY_sm hK) (fun a => h126 (by rw [a]; rfl)) (fun a => ⟨by decide, ?_⟩)
        refine yf_holds r 5 (t % 48) 0 rfl rfl (oh_r48 (by omega)) rfl hF hK (by omega) (by omega) (by omega) (by omega) ?_
        have e5 : oh_says 5 (t % 48) 0 = oh_sp (t % 48) := rfl
        rw [e5]
        refine oh_brbi (fun b => ?_) (fun b => h126 (by rw [b, Bool.or_true]))
        exact nm_r (nI_1 r) (hJ0 (by unfold oh_Ot; rw [a, b]; rfl))
      unfold wY_ruleAt_64
      refine ⟨by decide, ?_⟩
      refine yf_holds r 5 (t % 48 + 48) 0 rfl rfl (by rw [oh_r48 (by omega)]; exact nI_add _ 48) rfl hF hK (by omega) (by omega) (by omega) (by omega) ?_
      have e5 : oh_says 5 (t % 48 + 48) 0 = oh_sp (t % 48 + 48) := rfl
      rw [e5]
      refine oh_brbi (fun b => ?_) (fun b => ⟨by decide, ?_⟩)
      · exact h100 la h1 (if_neg (by unfold oh_Lt; rw [b, Bool.false_and]; decide))
      · refine ye_ac r rfl hE (by omega) (oh_dy_p ht g2) (fun a => ?_) (fun a => ?_)
        · exact h100 la h1 (if_neg (by unfold oh_Lt; rw [b, a]; decide))
        · have er : oh_ri r = nI r := if_neg (by omega)
          rw [← er]
          exact er ▸ h100 r (by omega) (if_pos (by unfold oh_Lt; rw [b, a]; rfl))
    refine pk_le m r (fun a => absurd a (by omega)) (fun _ => ?_)
    refine ye_kind r rfl hE (by omega) ?_
    refine pk_eq (oh_kk (oh_sY FL) r) 2 (fun a => ?_) (fun a => ?_)
    · refine ek_if (oh_ri_eq h1) (fun b => ek_if (oh_ri_eq h2) (fun c => ?_) (fun c => ?_)) (fun b => ?_)
      · rw [if_neg (fun z => z.2 ⟨b, c⟩)] at h
        exact h64 h
      · rw [if_pos ⟨a, fun z => c z.2⟩] at h
        exact ye_148 h1 h
      · rw [if_pos ⟨a, fun z => b z.1⟩] at h
        exact ye_148 h1 h
    · rw [if_neg (fun z => a z.1)] at h
      exact h64 h
theorem ye_ra {post : Int32 → Prop} {x : Int32} (t : Nat) (ex : x = nI t) (hE : oh_YE fw lp m FL ho yfc yfa yho) (ht : t < 48 * (365 + lp)) (h : post (oh_ri (oh_RA (oh_sY FL) fw lp m ho t))) : wpY_ruleAt post (nI fw, nI lp, yrl, yhd, yts, yos, ylt, yfc, nI m, yps, yrd, ykp, ytx, you, yfa, ynm, yho) x := by
  subst ex
  have hl := hE.1.2.1
  unfold wpY_ruleAt
  dsimp only
  refine br_f (nI_pos (by omega)) ?_
  have e : (48 : Int32) * (365 + nI lp) = nI (48 * (365 + lp)) := by rw [show (365 : Int32) + nI lp = nI (365 + lp) from nI_add 365 lp]; exact pk_mul 48 _
  refine pk_lt t (48 * (365 + lp)) (fun _ => ⟨m + 1, ?_⟩) (fun a => absurd a (by omega)) (hy := e)
  exact ye_ra30 hE ht m 0 (m + 1) 100 100 (by omega) (by omega) (by omega) (by omega) h
theorem ye_ra_n {post : Int32 → Prop} {x : Int32} (hl : lp ≤ 1) (hx : x < 0 ∨ nI (48 * (365 + lp)) ≤ x) (h : post (-1)) : wpY_ruleAt post (yfw, nI lp, yrl, yhd, yts, yos, ylt, yfc, yru, yps, yrd, ykp, ytx, you, yfa, ynm, yho) x := by
  unfold wpY_ruleAt
  dsimp only
  have e : (48 : Int32) * (365 + nI lp) = nI (48 * (365 + lp)) := by rw [show (365 : Int32) + nI lp = nI (365 + lp) from nI_add 365 lp]; exact pk_mul 48 _
  rw [e]
  rcases hx with a | a
  · exact br_t a h
  · exact br_c (fun _ => h) (fun _ => br_f (Int32.not_lt.mpr a) h)
theorem ye_so {post : Int32 → Prop} {x : Int32} (r : Nat) (ex : x = nI r) (hr : r < 100) (hF : oh_YF FL yfc yfa) (hK : oh_FK FL) (h : post (nI (oh_so (oh_sY FL r 6)))) : wpY_stateOf post (yfw, ylp, yrl, yhd, yts, yos, ylt, yfc, yru, yps, yrd, ykp, ytx, you, yfa, ynm, yho) x := by
  subst ex
  unfold wpY_stateOf
  dsimp only
  refine yf_fact r 6 0 rfl rfl rfl hF hK hr (by omega) (by omega) ?_
  refine oh_brg (oh_sY_sm hK) (fun a => ?_) (fun a => ?_)
  · refine yf_fact r 6 0 rfl rfl rfl hF hK hr (by omega) (by omega) ⟨by decide, ?_⟩
    have hs := oh_sY_sm (r := r) (k := 6) hK
    cases hl : oh_sY FL r 6 with
    | nil => rw [hl] at a; cases a
    | cons ab t =>
      rw [hl] at h hs
      have := hs ab List.mem_cons_self
      show post (nI (ab.1 * 512 + ab.2) / 512)
      rw [oh_d512 (by omega), show (ab.1 * 512 + ab.2) / 512 = ab.1 by omega]
      exact h
  · cases hl : oh_sY FL r 6 with
    | nil => rw [hl] at h; exact h
    | cons ab t => rw [hl] at a; cases a
theorem ye_st {post : Int32 → Prop} {x : Int32} (t : Nat) (ex : x = nI t) (hE : oh_YE fw lp m FL ho yfc yfa yho) (ht : t < 48 * (365 + lp)) (h : post (nI (oh_ST (oh_sY FL) fw lp m ho t))) : wpY_stateAt post (nI fw, nI lp, yrl, yhd, yts, yos, ylt, yfc, nI m, yps, yrd, ykp, ytx, you, yfa, ynm, yho) x := by
  have h6 := hE.1.2.2
  have hlt := oh_RA_lt (oh_sY FL) fw lp m ho t
  unfold oh_ST at h
  unfold wpY_stateAt
  dsimp only
  refine ye_ra t ex hE ht ?_
  have hn1 : ¬ oh_ri (oh_RA (oh_sY FL) fw lp m ho t) = -1 := by
    unfold oh_ri
    split
    · decide
    · exact oh_nI_neg (by omega)
  refine br_f hn1 ?_
  refine ek_if (oh_ri_eq (by omega)) (fun a => ?_) (fun a => ?_)
  · rw [if_pos a] at h; exact h
  · rw [if_neg a] at h
    exact ye_so _ (if_neg a) (by omega) hE.2.1 hE.2.2.1 h
theorem ye_st_n {post : Int32 → Prop} {x : Int32} (hl : lp ≤ 1) (hx : x < 0 ∨ nI (48 * (365 + lp)) ≤ x) (h : post (-1)) : wpY_stateAt post (yfw, nI lp, yrl, yhd, yts, yos, ylt, yfc, yru, yps, yrd, ykp, ytx, you, yfa, ynm, yho) x := by
  unfold wpY_stateAt
  dsimp only
  exact ye_ra_n hl hx (br_t rfl h)
theorem ye_nc17 {post : Int32 → Prop} {t s lim : Nat} (hE : oh_YE fw lp m FL ho yfc yfa yho) (hhd : hd ≤ 7) (hs : s < 100) (hl1 : lim = min (t + 48 * hd) (48 * (365 + lp) - 1)) (ht : t < 48 * (365 + lp)) (hST : ∀ u, oh_ST (oh_sY FL) fw lp m ho u < 100) : ∀ (d u f : Nat), u + d = lim + 1 → d < f → t < u → post (oh_sr (fun u => decide (¬ oh_ST (oh_sY FL) fw lp m ho u = s)) d u) → wY_nextChange_17 post (nI t) (nI s) (nI fw) (nI lp) yrl (nI hd) yts yos ylt yfc (nI m) yps yrd ykp ytx you yfa ynm yho f (nI u)
  | d, u, 0, _, hf, _, _ => absurd hf (by omega)
  | 0, u, f + 1, hd0, _, _, h => by
    have hl := hE.1.2.1
    rw [wY_nextChange_17]
    rw [oh_sr] at h
    have e1 : nI t + 48 * nI hd = nI (t + 48 * hd) := by rw [show (48 : Int32) * nI hd = nI (48 * hd) from pk_mul 48 hd, nI_add]
    have e : (48 : Int32) * (365 + nI lp) = nI (48 * (365 + lp)) := by rw [show (365 : Int32) + nI lp = nI (365 + lp) from nI_add 365 lp]; exact pk_mul 48 _
    exact pk_lt (t + 48 * hd) u (fun _ => h) (fun a => pk_le (48 * (365 + lp)) u (fun _ => h) (fun b => absurd b (by omega)) (hx := e)) (hx := e1)
  | d + 1, u, f + 1, hd0, hf, htu, h => by
    have hl := hE.1.2.1
    have hST1 := hST u
    rw [wY_nextChange_17]
    rw [oh_sr] at h
    have e1 : nI t + 48 * nI hd = nI (t + 48 * hd) := by rw [show (48 : Int32) * nI hd = nI (48 * hd) from pk_mul 48 hd, nI_add]
    have e : (48 : Int32) * (365 + nI lp) = nI (48 * (365 + lp)) := by rw [show (365 : Int32) + nI lp = nI (365 + lp) from nI_add 365 lp]; exact pk_mul 48 _
    refine pk_lt (t + 48 * hd) u (fun a => absurd a (by omega)) (fun a => pk_le (48 * (365 + lp)) u (fun b => absurd b (by omega)) (fun b => ?_) (hx := e)) (hx := e1)
    refine ye_st u rfl hE b ?_
    refine pk_eq (oh_ST (oh_sY FL) fw lp m ho u) s (fun z => ?_) (fun z => ?_)
    · rw [decide_eq_false (by omega)] at h
      exact nm_r (nI_1 u) (ye_nc17 hE hhd hs hl1 ht hST d (u + 1) f (by omega) (by omega) (by omega) h)
    · rw [decide_eq_true (by omega)] at h
      exact h
theorem ye_nc {post : Int32 → Prop} {x : Int32} (t : Nat) (ex : x = nI t) (hE : oh_YE fw lp m FL ho yfc yfa yho) (hhd : hd ≤ 7) (ht : t < 48 * (365 + lp)) (hST : ∀ u, oh_ST (oh_sY FL) fw lp m ho u < 100) (h : post (oh_sr (fun u => decide (¬ oh_ST (oh_sY FL) fw lp m ho u = oh_ST (oh_sY FL) fw lp m ho t)) (min (t + 48 * hd) (48 * (365 + lp) - 1) - t) (t + 1))) : wpY_nextChange post (nI fw, nI lp, yrl, nI hd, yts, yos, ylt, yfc, nI m, yps, yrd, ykp, ytx, you, yfa, ynm, yho) x := by
  subst ex
  have hl := hE.1.2.1
  have hST1 := hST t
  unfold wpY_nextChange
  dsimp only
  refine ye_st t rfl hE ht ?_
  refine br_f (oh_nI_neg (by omega)) (nm_r (nI_1 t) ⟨min (t + 48 * hd) (48 * (365 + lp) - 1) - t + 1, ?_⟩)
  exact ye_nc17 hE hhd hST1 rfl ht hST _ (t + 1) _ (by omega) (by omega) (by omega) h
theorem ye_nc_n {post : Int32 → Prop} {x : Int32} (hl : lp ≤ 1) (hx : x < 0 ∨ nI (48 * (365 + lp)) ≤ x) (h : post (-1)) : wpY_nextChange post (yfw, nI lp, yrl, yhd, yts, yos, ylt, yfc, yru, yps, yrd, ykp, ytx, you, yfa, ynm, yho) x := by
  unfold wpY_nextChange
  dsimp only
  exact ye_st_n hl hx (br_t rfl h)
end
end
section
/-! ===== X: applies ===== -/
def oh_XE (fw lp m b : Nat) (FL : List (Nat × Nat × Nat × Nat)) (ho : Nat → Bool) (xdc xho : Nat → Int32) (xki xst xdn xsn xdf xdt xsf xse : Nat → Int32) (xds xtd xtm : Nat → Int64) : Prop := (fw ≤ 6 ∧ lp ≤ 1 ∧ m ≤ 6 ∧ b ≤ 6) ∧ (∀ j, j < 365 + lp → xdc j = nI (oh_dc lp j)) ∧ (∀ j, j < 366 → xho j = oh_bi (ho j)) ∧ (∀ r, r < m → oh_XF xki xst xdn xsn xdf xdt xsf xse xds xtd xtm (b + r) (oh_sY FL r)) ∧ oh_FK FL
theorem oh_b_w32 {w : Int32} {r : Nat} (h : r < 32) : oh_b w.toInt64 r = bt w r := by
  unfold oh_b bt
  rw [Int32.toBitVec_toInt64, BitVec.getLsbD_signExtend]
  simp [h, show r < 64 by omega]
theorem oh_bi_or (h b : Bool) : oh_bi h ||| (if b then 1 else 0) = oh_bi (h || b) := by cases h <;> cases b <;> rfl
section
variable {xfw xlp xdy xrl xhz xhc xts xos xpd xtc xcu xbk xrt : Int32} {xdc xho xtx xou xtk xtv xki xst xdn xsn xdf xdt xsf xse : Nat → Int32} {xnm xds xtd xtm : Nat → Int64} {fw lp m b : Nat} {FL : List (Nat × Nat × Nat × Nat)} {ho : Nat → Bool}
theorem xe_has {A B : Prop} {w : Int64} {x : Int32} (j : Nat) (ex : x = nI j) (hj : j < 64) (h0 : oh_b w j = false → A) (h1 : oh_b w j = true → B) : wpX_has (fun r => (r = 0 → A) ∧ (¬ r = 0 → B)) (xfw, xlp, xdy, xrl, xhz, xhc, xts, xos, xpd, xtc, xcu, xbk, xrt, xdc, xho, xtx, xou, xnm, xtk, xtv, xki, xst, xdn, xsn, xdf, xdt, xsf, xse, xds, xtd, xtm) w x := by
  subst ex
  unfold wpX_has
  dsimp only
  have e := wb_cu j hj
  have hb : (((w.toUInt64 >>> ((nI j).toInt64.toUInt64 &&& Int64.toUInt64 63)).toInt64) &&& 1) = 0 ↔ oh_b w j = false := by
    rw [e]; exact ts_bit hj (u_tn (by omega))
  exact ek_if hb (fun z => br_t rfl (h0 z)) (fun z => br_f (by decide) (h1 (ts_nf z)))
theorem xe_isDay {A B : Prop} {x : Int32} {v : Bool} {d : Nat} (hl : lp ≤ 1) (hx : oh_dy lp v d x) (h0 : v = false → A) (h1 : v = true → B) : wpX_isDay (fun r => (r = 0 → A) ∧ (¬ r = 0 → B)) (xfw, xlp, nI (365 + lp), xrl, xhz, xhc, xts, xos, xpd, xtc, xcu, xbk, xrt, xdc, xho, xtx, xou, xnm, xtk, xtv, xki, xst, xdn, xsn, xdf, xdt, xsf, xse, xds, xtd, xtm) x := by
  unfold wpX_isDay
  dsimp only
  rcases hx with ⟨a, c, e⟩ | ⟨a, c⟩
  · subst e
    exact br_f (nI_pos (by omega)) (pk_le (365 + lp) d (fun q => absurd q (by omega)) (fun _ => br_f (by decide) (h1 a)))
  · exact br_t c (br_t rfl (h0 a))
/-- the marks of a day -/
def oh_mk (fw lp : Nat) (ho : Nat → Bool) (d j : Nat) : Bool := (decide (j = (fw + d) % 7) || (decide (j = 8 + 6 * ((fw + d) % 7) + (oh_dc lp d % 32 - 1) / 7) || ((decide (oh_ml (oh_dc lp d / 32) lp < oh_dc lp d % 32 + 7) && decide (j = 8 + 6 * ((fw + d) % 7) + 5)) || (ho d && decide (j = 7)))))
theorem xe_81 {post : Int64 → Prop} {w : Int64} {d : Nat} {f : Nat → Bool} (hd : d < 366) (hh : xho d = oh_bi (ho d)) (hw : ∀ j, j < 64 → oh_b w j = f j) (h : ∀ mk, (∀ j, j < 64 → oh_b mk j = (f j || (ho d && decide (j = 7)))) → post mk) : wX_dayMarks_81 post (nI d) w xfw xlp xdy xrl xhz xhc xts xos xpd xtc xcu xbk xrt xdc xho xtx xou xnm xtk xtv xki xst xdn xsn xdf xdt xsf xse xds xtd xtm := by
  unfold wX_dayMarks_81
  rw [nI_clamp (by omega), hh]
  refine ⟨vp_in_nI hd (by omega), oh_brbi (fun a => h _ (fun j hj => ?_)) (fun a => h _ (fun j hj => ?_))⟩
  · rw [hw j hj, a, Bool.false_and, Bool.or_false]
  · have e : (128 : Int64) = (1 : Int64) <<< ((nI 7).toInt64 &&& 63) := by decide
    rw [oh_b_or, hw j hj, e, oh_b_one (by omega) hj, a, Bool.true_and]
theorem xe_marks {post : Int64 → Prop} {d : Nat} (hf : fw ≤ 6) (hl : lp ≤ 1) (hd : d < 365 + lp) (hdc : xdc d = nI (oh_dc lp d)) (hh : xho d = oh_bi (ho d)) (h : ∀ mk, (∀ j, j < 64 → oh_b mk j = oh_mk fw lp ho d j) → post mk) : wpX_dayMarks post (nI fw, nI lp, xdy, xrl, xhz, xhc, xts, xos, xpd, xtc, xcu, xbk, xrt, xdc, xho, xtx, xou, xnm, xtk, xtv, xki, xst, xdn, xsn, xdf, xdt, xsf, xse, xds, xtd, xtm) (nI d) := by
  have hv := oh_dc_v lp (by omega) d (by omega) hd
  have hml := oh_ml_in (oh_dc lp d / 32) lp hl
  unfold oh_mk at h
  generalize oh_dc lp d = c at *
  generalize hw : (fw + d) % 7 = w at *
  have w7 : w < 7 := by omega
  unfold wpX_dayMarks
  dsimp only
  rw [nI_clamp (by omega), hdc, oh_r32 (by omega), nI_add, oh_r7 (by omega), oh_d32 (by omega), hw]
  refine ⟨by decide, nm_e ⟨vp_in_nI (by omega) (by omega), by decide, nm_e ?_⟩⟩
  refine nm_r (e' := nI (8 + 6 * w)) (by rw [show (6 : Int32) * nI w = nI (6 * w) from pk_mul 6 w]; exact nI_add 8 _) ⟨by decide, ?_⟩
  have e1 : nI (8 + 6 * w) + (nI (c % 32) - 1) / 7 = nI (8 + 6 * w + (c % 32 - 1) / 7) := by
    rw [show nI (c % 32) - 1 = nI (c % 32 - 1) from pk_sub (a := c % 32) (b := 1) (by omega), oh_d7 (by omega), nI_add]
  rw [e1]
  refine nm_e ⟨vp_in_nI (by omega) (by omega), by decide, ?_⟩
  have hb0 : ∀ j, j < 64 → oh_b ((1 : Int64) <<< ((nI w).toInt64 &&& 63) ||| (1 : Int64) <<< ((nI (8 + 6 * w + (c % 32 - 1) / 7)).toInt64 &&& 63)) j = (decide (j = w) || decide (j = 8 + 6 * w + (c % 32 - 1) / 7)) := fun j hj => by
    rw [oh_b_or, oh_b_one (by omega) hj, oh_b_one (by omega) hj]
  generalize (1 : Int64) <<< ((nI w).toInt64 &&& 63) ||| (1 : Int64) <<< ((nI (8 + 6 * w + (c % 32 - 1) / 7)).toInt64 &&& 63) = mk0 at *
  refine xl_ml (c / 32) lp rfl rfl (by omega) (by omega) hl ?_
  refine pk_le (c % 32 + 7) (oh_ml (c / 32) lp) (fun a => ?_) (fun a => ?_) (hx := nI_add _ 7)
  · refine xe_81 (by omega) hh hb0 (fun mk hmk => h mk (fun j hj => ?_))
    rw [hmk j hj, decide_eq_false (show ¬ oh_ml (c / 32) lp < c % 32 + 7 by omega), Bool.false_and, Bool.false_or, Bool.or_assoc]
  · have e2 : nI (8 + 6 * w) + 5 = nI (8 + 6 * w + 5) := nI_add _ 5
    rw [e2]
    refine nm_e ?_
    refine xe_81 (by omega) hh (f := fun j => (decide (j = w) || decide (j = 8 + 6 * w + (c % 32 - 1) / 7)) || decide (j = 8 + 6 * w + 5)) (fun j hj => ?_) (fun mk hmk => h mk (fun j hj => ?_))
    · rw [oh_b_or, hb0 j hj, oh_b_one (by omega) hj]
    · rw [hmk j hj, decide_eq_true (show oh_ml (c / 32) lp < c % 32 + 7 by omega), Bool.true_and]
      simp only [Bool.or_assoc]
theorem oh_dsb_7 {S : Nat → List (Nat × Nat)} : oh_dsb S 7 = !(S 4).isEmpty := by
  unfold oh_dsb
  rw [if_neg (by omega), if_pos rfl]
  cases S 4 with
  | nil => rfl
  | cons a t => rfl
theorem oh_dsb_lo {S : Nat → List (Nat × Nat)} {w : Nat} (h : w < 7) : oh_dsb S w = (S 2).any (oh_wk w) := by unfold oh_dsb; rw [if_pos h]
theorem oh_dsb_hi {S : Nat → List (Nat × Nat)} {w k : Nat} (h : w < 7) (hk : k ≤ 5) : oh_dsb S (8 + 6 * w + k) = (S 3).any (oh_nt w (k + 1)) := by
  unfold oh_dsb
  rw [if_neg (by omega), if_neg (by omega), if_pos (by omega), show (8 + 6 * w + k - 8) / 6 = w by omega, show (8 + 6 * w + k - 8) % 6 = k by omega]
theorem oh_ds_0 {S : Nat → List (Nat × Nat)} {w : Int64} (hw : ∀ j, j < 64 → oh_b w j = oh_dsb S j) (h2 : ∀ ab, ab ∈ S 2 → ab.1 ≤ 6) (h3 : ∀ ab, ab ∈ S 3 → ab.1 ≤ 6 ∧ 1 ≤ ab.2 ∧ ab.2 ≤ 6) : w = 0 ↔ ((S 2).isEmpty && ((S 3).isEmpty && (S 4).isEmpty)) = true := by
  constructor
  · intro e
    have hz : ∀ j, j < 64 → oh_dsb S j = false := fun j hj => by rw [← hw j hj, e, oh_b_0]
    have e4 : (S 4).isEmpty = true := by have := hz 7 (by omega); rw [oh_dsb_7] at this; simpa using this
    have e2 : (S 2).isEmpty = true := by
      cases hl : S 2 with
      | nil => rfl
      | cons ab t =>
        have a6 := h2 ab (by rw [hl]; exact List.mem_cons_self)
        have := hz ab.1 (by omega)
        rw [oh_dsb_lo (by omega), hl, List.any_cons] at this
        have w1 : oh_wk ab.1 ab = true := by unfold oh_wk; split <;> exact decide_eq_true (by omega)
        rw [w1, Bool.true_or] at this; cases this
    have e3 : (S 3).isEmpty = true := by
      cases hl : S 3 with
      | nil => rfl
      | cons ab t =>
        have a6 := h3 ab (by rw [hl]; exact List.mem_cons_self)
        have := hz (8 + 6 * ab.1 + (ab.2 - 1)) (by omega)
        rw [oh_dsb_hi (by omega) (by omega), hl, List.any_cons] at this
        have w1 : oh_nt ab.1 (ab.2 - 1 + 1) ab = true := by unfold oh_nt; exact decide_eq_true ⟨rfl, by omega⟩
        rw [w1, Bool.true_or] at this; cases this
    rw [e2, e3, e4]; rfl
  · intro e
    refine oh_b_ext (fun j hj => ?_)
    rw [hw j hj, oh_b_0]
    simp only [Bool.and_eq_true, List.isEmpty_iff] at e
    unfold oh_dsb
    rw [e.1, e.2.1, e.2.2]
    (repeat' split) <;> rfl
theorem oh_and_0 {a c : Int64} : a &&& c = 0 ↔ ∀ j, j < 64 → (oh_b a j && oh_b c j) = false := by
  constructor
  · intro e j hj
    rw [← oh_b_and, e, oh_b_0]
  · intro h
    refine oh_b_ext (fun j hj => ?_)
    rw [oh_b_and, h j hj, oh_b_0]
/-- the set against the marks -/
theorem oh_and_mk {S : Nat → List (Nat × Nat)} {a c : Int64} {d : Nat} (hl : lp ≤ 1) (hd : d < 365 + lp) (ha : ∀ j, j < 64 → oh_b a j = oh_dsb S j) (hc : ∀ j, j < 64 → oh_b c j = oh_mk fw lp ho d j) : a &&& c = 0 ↔ (((S 2).any (oh_wk ((fw + d) % 7)) || ((S 3).any (oh_nt ((fw + d) % 7) ((oh_dc lp d % 32 - 1) / 7 + 1)) || (decide (oh_ml (oh_dc lp d / 32) lp < oh_dc lp d % 32 + 7) && (S 3).any (oh_nt ((fw + d) % 7) 6)))) || (ho d && !(S 4).isEmpty)) = false := by
  have hv := oh_dc_v lp (by omega) d (by omega) hd
  have hml := oh_ml_in (oh_dc lp d / 32) lp hl
  have w7 : (fw + d) % 7 < 7 := by omega
  rw [oh_and_0, ← oh_dsb_lo w7, ← oh_dsb_hi (S := S) (k := (oh_dc lp d % 32 - 1) / 7) w7 (by omega), ← oh_dsb_hi (S := S) (k := 5) w7 (by omega), ← oh_dsb_7]
  generalize hc5 : (oh_dc lp d % 32 - 1) / 7 = k5 at *
  have k5l : k5 ≤ 5 := by omega
  unfold oh_mk at hc
  rw [hc5] at hc
  generalize decide (oh_ml (oh_dc lp d / 32) lp < oh_dc lp d % 32 + 7) = la at *
  generalize (fw + d) % 7 = w at *
  generalize ho d = hd' at *
  constructor
  · intro h
    have q1 := h w (by omega)
    have q2 := h (8 + 6 * w + k5) (by omega)
    have q3 := h (8 + 6 * w + 5) (by omega)
    have q4 := h 7 (by omega)
    rw [ha _ (by omega), hc _ (by omega)] at q1 q2 q3 q4
    simp at q1 q2 q3 q4
    rw [q1, q2]
    have z3 : (la && oh_dsb S (8 + 6 * w + 5)) = false := by
      cases la with
      | false => rfl
      | true => cases hx : oh_dsb S (8 + 6 * w + 5) with
        | false => rfl
        | true => exact absurd (q3 hx) (by simp)
    have z4 : (hd' && oh_dsb S 7) = false := by
      cases hd' with
      | false => rfl
      | true => cases hx : oh_dsb S 7 with
        | false => rfl
        | true => exact absurd (q4 hx) (by simp)
    rw [z3, z4]; rfl
  · intro h j hj
    simp only [Bool.or_eq_false_iff] at h
    rw [ha j hj, hc j hj]
    cases hx : oh_dsb S j with
    | false => rfl
    | true =>
      rw [Bool.true_and]
      have n1 : ¬ j = w := fun z => by rw [z] at hx; rw [h.1.1] at hx; cases hx
      have n2 : ¬ j = 8 + 6 * w + k5 := fun z => by rw [z] at hx; rw [h.1.2.1] at hx; cases hx
      have n3 : (la && decide (j = 8 + 6 * w + 5)) = false := by
        by_cases z : j = 8 + 6 * w + 5
        · rw [z] at hx
          have := h.1.2.2
          rw [hx, Bool.and_true] at this
          rw [this]; rfl
        · rw [decide_eq_false z, Bool.and_false]
      have n4 : (hd' && decide (j = 7)) = false := by
        by_cases z : j = 7
        · rw [z] at hx
          have := h.2
          rw [hx, Bool.and_true] at this
          rw [this]; rfl
        · rw [decide_eq_false z, Bool.and_false]
      rw [decide_eq_false n1, decide_eq_false n2, n3, n4]; rfl
theorem xe_ap81 {post : Int32 → Prop} {J : Int32 → Int32 → Prop} {x1 x2 : Int32} {n e a c cc : Nat} (h : Bool) (he : e < 24) (ha : xdf e = nI a) (hc : xdt e = nI c) (ha5 : a < 512) (hc5 : c < 512) (hJ : J (oh_bi (h || oh_wk cc (a, c))) (nI (n + 1))) (x6 z0 : Bool) (e6 : x6 = decide (a ≤ cc)) (e0 : z0 = decide (cc ≤ c)) : wX_applies_81 post J x1 x2 (oh_bi h) (nI n) (nI e) (oh_bi x6) (oh_bi z0) xfw xlp xdy xrl xhz xhc xts xos xpd xtc xcu xbk xrt xdc xho xtx xou xnm xtk xtv xki xst xdn xsn xdf xdt xsf xse xds xtd xtm := by
  unfold wX_applies_81
  rw [nI_clamp (by omega), ha, hc]
  have o0 : oh_bi h ||| 0 = oh_bi (h || false) := oh_bi_or h false
  have o1 : oh_bi h ||| 1 = oh_bi (h || true) := oh_bi_or h true
  rw [o0, o1]
  have J1 : oh_wk cc (a, c) = true → ∀ x3, x3 = oh_bi (h || true) → ∀ x4, x4 = nI n + 1 → J x3 x4 := fun z => by
    rw [z] at hJ; exact nm_e (nm_r (nI_1 n) hJ)
  have J0 : oh_wk cc (a, c) = false → ∀ x3, x3 = oh_bi (h || false) → ∀ x4, x4 = nI n + 1 → J x3 x4 := fun z => by
    rw [z] at hJ; exact nm_e (nm_r (nI_1 n) hJ)
  have wk1 : ¬ c < a → oh_wk cc (a, c) = decide (a ≤ cc ∧ cc ≤ c) := fun z => by unfold oh_wk; exact if_pos (by dsimp only; omega)
  have wk2 : c < a → oh_wk cc (a, c) = decide (a ≤ cc ∨ cc ≤ c) := fun z => by unfold oh_wk; exact if_neg (by dsimp only; omega)
  subst e6 e0
  refine ⟨vp_in_nI he (by omega), vp_in_nI he (by omega), ?_⟩
  refine pk_lt c a (fun y => ?_) (fun y => ?_)
  · refine oh_brbi (fun q => oh_brbi (fun p => ?_) (fun p => ?_)) (fun q => ?_)
    · exact J0 (by rw [wk2 y]; exact decide_eq_false (fun z => z.elim (of_decide_eq_false q) (of_decide_eq_false p)))
    · exact J1 (by rw [wk2 y]; exact decide_eq_true (Or.inr (of_decide_eq_true p)))
    · exact J1 (by rw [wk2 y]; exact decide_eq_true (Or.inl (of_decide_eq_true q)))
  · have y' : ¬ c < a := by omega
    refine oh_brbi (fun q => ?_) (fun q => oh_brbi (fun p => ?_) (fun p => ?_))
    · exact J0 (by rw [wk1 y']; exact decide_eq_false (fun z => of_decide_eq_false q z.1))
    · exact J0 (by rw [wk1 y']; exact decide_eq_false (fun z => of_decide_eq_false p z.2))
    · exact J1 (by rw [wk1 y']; exact decide_eq_true ⟨of_decide_eq_true q, of_decide_eq_true p⟩)
theorem xe_ap18 {post : Int32 → Prop} {i d c : Nat} {l : List (Nat × Nat)} (hi : i < 12) (hd : d < 366) (hdc : xdc d = nI c) (hc5 : c < 512) (hD : oh_XD xdn xdf xdt i l) (hs : oh_sm l)
    (h1 : ∀ H : Bool, H = ((decide (l.length = 0)) || l.any (oh_wk c)) → ((oh_bi H = 0 → post 0) ∧ (¬ oh_bi H = 0 → vp_in (nI i) 12 ∧ ((xds (nI i).toNatClampNeg = 0 → post 1) ∧ (¬ xds (nI i).toNatClampNeg = 0 → vp_in (nI i) 12 ∧ wpX_dayMarks (fun r_9 => ((xds (nI i).toNatClampNeg &&& r_9 = 0 → post 0) ∧ (¬ xds (nI i).toNatClampNeg &&& r_9 = 0 → post 1))) (xfw, xlp, xdy, xrl, xhz, xhc, xts, xos, xpd, xtc, xcu, xbk, xrt, xdc, xho, xtx, xou, xnm, xtk, xtv, xki, xst, xdn, xsn, xdf, xdt, xsf, xse, xds, xtd, xtm) (nI d)))))) : ∀ (e n f : Nat), n + e = l.length → e < f → wX_applies_18 post (nI i) (nI d) xfw xlp xdy xrl xhz xhc xts xos xpd xtc xcu xbk xrt xdc xho xtx xou xnm xtk xtv xki xst xdn xsn xdf xdt xsf xse xds xtd xtm f (oh_bi ((decide (l.length = 0)) || (l.take n).any (oh_wk c))) (nI n)
  | e, n, 0, _, hf => absurd hf (by omega)
  | 0, n, f + 1, he, _ => by
    rw [wX_applies_18]
    have hn : n = l.length := by omega
    refine ⟨vp_in_nI hi (by omega), pk_le l.length n (fun _ => ?_) (fun a => absurd a (by omega)) (hx := by rw [nI_clamp (by omega)]; exact hD.1) (ha := by have := hD.2.1; omega) (hb := by have := hD.2.1; omega)⟩
    exact h1 _ (by rw [hn, List.take_length])
  | e + 1, n, f + 1, he, hf => by
    have hl2 := hD.2.1
    have hn : n < l.length := by omega
    have hdn := hD.2.2 n hn
    have hsm := hs _ (oh_gM (d := (0, 0)) hn)
    have ih := xe_ap18 hi hd hdc hc5 hD hs h1 e (n + 1) f (by omega) (by omega)
    have et : (l.take (n + 1)).any (oh_wk c) = ((l.take n).any (oh_wk c) || oh_wk c (l.getD n (0, 0))) := by
      rw [List.take_succ, List.any_append, List.getD_eq_getElem?_getD, List.getElem?_eq_getElem hn]
      simp
    rw [et, ← Bool.or_assoc] at ih
    generalize l.getD n (0, 0) = ac at *
    obtain ⟨a, c2⟩ := ac
    dsimp only at hdn hsm ih
    rw [wX_applies_18]
    refine ⟨vp_in_nI hi (by omega), pk_le l.length n (fun a => absurd a (by omega)) (fun _ => ?_) (hx := by rw [nI_clamp (by omega)]; exact hD.1)⟩
    have e5 : nI i * 2 + nI n = nI (2 * i + n) := by rw [show nI i * 2 = nI (i * 2) from pk_mul i 2, nI_add, Nat.mul_comm]
    refine nm_r e5 ⟨vp_in_nI hd (by omega), vp_in_nI (by omega) (by omega), ?_⟩
    rw [nI_clamp (n := d) (by omega), nI_clamp (n := 2 * i + n) (by omega), hdc, hdn.1]
    have h58 : ∀ z0 : Bool, z0 = decide (a ≤ c) → wX_applies_58 post (wX_applies_18 post (nI i) (nI d) xfw xlp xdy xrl xhz xhc xts xos xpd xtc xcu xbk xrt xdc xho xtx xou xnm xtk xtv xki xst xdn xsn xdf xdt xsf xse xds xtd xtm f) (nI i) (nI d) (oh_bi ((decide (l.length = 0)) || (l.take n).any (oh_wk c))) (nI n) (nI (2 * i + n)) (oh_bi z0) xfw xlp xdy xrl xhz xhc xts xos xpd xtc xcu xbk xrt xdc xho xtx xou xnm xtk xtv xki xst xdn xsn xdf xdt xsf xse xds xtd xtm := fun z0 hz => by
      unfold wX_applies_58
      refine ⟨vp_in_nI hd (by omega), vp_in_nI (by omega) (by omega), ?_⟩
      rw [nI_clamp (n := d) (by omega), nI_clamp (n := 2 * i + n) (by omega), hdc, hdn.2]
      refine pk_lt c2 c (fun y => ?_) (fun y => ?_)
      · exact xe_ap81 _ (by omega) hdn.1 hdn.2 hsm.1 hsm.2 ih z0 false hz (decide_eq_false (by omega)).symm
      · exact xe_ap81 _ (by omega) hdn.1 hdn.2 hsm.1 hsm.2 ih z0 true hz (decide_eq_true (by omega)).symm
    exact pk_lt c a (fun y => h58 false (decide_eq_false (by omega)).symm) (fun y => h58 true (decide_eq_true (by omega)).symm)
theorem xe_ap {A B : Prop} {x y : Int32} (r d : Nat) (ex : x = nI (b + r)) (ey : y = nI d) (hE : oh_XE fw lp m b FL ho xdc xho xki xst xdn xsn xdf xdt xsf xse xds xtd xtm) (hr : r < m) (hd : d < 365 + lp) (h0 : oh_mt (oh_sY FL r) lp (oh_dc lp d) ((fw + d) % 7) (ho d) = false → A) (h1 : oh_mt (oh_sY FL r) lp (oh_dc lp d) ((fw + d) % 7) (ho d) = true → B) : wpX_applies (fun z => (z = 0 → A) ∧ (¬ z = 0 → B)) (nI fw, nI lp, xdy, xrl, xhz, xhc, xts, xos, xpd, xtc, xcu, xbk, xrt, xdc, xho, xtx, xou, xnm, xtk, xtv, xki, xst, xdn, xsn, xdf, xdt, xsf, xse, xds, xtd, xtm) x y := by
  subst ex ey
  obtain ⟨⟨g1, g2, g3, g4⟩, hdc, hho, hXF, hK⟩ := hE
  obtain ⟨hD, hP, hb, _⟩ := hXF r hr
  have hv := oh_dc_v lp (by omega) d (by omega) hd
  have hc := nI_clamp (n := b + r) (by omega)
  have hs1 := oh_sY_sm (r := r) (k := 1) hK
  have h2 : ∀ ab, ab ∈ oh_sY FL r 2 → ab.1 ≤ 6 := fun ab hab => by have := oh_sY_v hK hab; unfold oh_vi at this; dsimp only at this; omega
  have h3 : ∀ ab, ab ∈ oh_sY FL r 3 → ab.1 ≤ 6 ∧ 1 ≤ ab.2 ∧ ab.2 ≤ 6 := fun ab hab => by have := oh_sY_v hK hab; unfold oh_vi at this; dsimp only at this; omega
  have hds := oh_ds_0 hb h2 h3
  have key : ∀ f h, h = decide ((oh_sY FL r 1).length = 0) → (oh_sY FL r 1).length < f → wX_applies_18 (fun z => (z = 0 → A) ∧ (¬ z = 0 → B)) (nI (b + r)) (nI d) (nI fw) (nI lp) xdy xrl xhz xhc xts xos xpd xtc xcu xbk xrt xdc xho xtx xou xnm xtk xtv xki xst xdn xsn xdf xdt xsf xse xds xtd xtm f (oh_bi h) 0 := fun f h hh hf => by
    have := xe_ap18 (xfw := nI fw) (xlp := nI lp) (xdy := xdy) (xrl := xrl) (xhz := xhz) (xhc := xhc) (xts := xts) (xos := xos) (xpd := xpd) (xtc := xtc) (xcu := xcu) (xbk := xbk) (xrt := xrt) (xho := xho) (xtx := xtx) (xou := xou) (xtk := xtk) (xtv := xtv) (xki := xki) (xst := xst) (xsn := xsn) (xsf := xsf) (xse := xse) (xnm := xnm) (xds := xds) (xtd := xtd) (xtm := xtm) (post := fun z => (z = 0 → A) ∧ (¬ z = 0 → B)) (i := b + r) (d := d) (c := oh_dc lp d) (l := oh_sY FL r 1) (by omega) (by omega) (hdc d hd) hv.2.2.2.2 hD hs1 (fun H eH => ?_) (oh_sY FL r 1).length 0 f (by omega) hf
    · rw [List.take_zero, List.any_nil, Bool.or_false, ← hh] at this
      exact this
    · have eH2 : H = ((oh_sY FL r 1).isEmpty || (oh_sY FL r 1).any (oh_wk (oh_dc lp d))) := by
        rw [eH]
        congr 1
        cases oh_sY FL r 1 with
        | nil => rfl
        | cons a t => rfl
      unfold oh_mt at h0 h1
      rw [← eH2] at h0 h1
      refine oh_brbi (fun a => ?_) (fun a => ⟨vp_in_nI (by omega) (by omega), ?_⟩)
      · rw [a, Bool.false_and] at h0
        exact br_t rfl (h0 rfl)
      · rw [a, Bool.true_and] at h0 h1
        rw [hc]
        refine ek_if hds (fun z => ?_) (fun z => ⟨vp_in_nI (by omega) (by omega), ?_⟩)
        · rw [z] at h1
          exact br_f (by decide) (h1 (by simp))
        · rw [ts_nt z, Bool.false_or] at h0 h1
          refine xe_marks g1 g2 hd (hdc d hd) (hho d (by omega)) (fun mk hmk => ?_)
          refine ek_if (oh_and_mk g2 hd hb hmk) (fun q => br_t rfl (h0 q)) (fun q => br_f (by decide) (h1 (ts_nf q)))
  unfold wpX_applies
  dsimp only
  rw [hc, hD.1]
  have hl2 := hD.2.1
  refine ⟨vp_in_nI (by omega) (by omega), pk_eq (oh_sY FL r 1).length 0 (fun a => ⟨4, ?_⟩) (fun a => ⟨4, ?_⟩)⟩
  · exact key 4 true (decide_eq_true a).symm (by omega)
  · exact key 4 false (decide_eq_false a).symm (by omega)
end
end
section
/-! ===== X: activeRules, ruleAt, stateAt, nextChange ===== -/
def oh_fb (kk : Nat → Nat) : Nat → Nat → Bool
  | 0, _ => false
  | d + 1, q => decide (kk q = 2) || oh_fb kk d (q + 1)
theorem oh_fb_s (kk : Nat → Nat) : ∀ d q, oh_fb kk (d + 1) q = (oh_fb kk d q || decide (kk (q + d) = 2))
  | 0, q => by simp [oh_fb]
  | d + 1, q => by
    have ih := oh_fb_s kk d (q + 1)
    rw [show q + (d + 1) = q + 1 + d by omega]
    show (decide (kk q = 2) || oh_fb kk (d + 1) (q + 1)) = ((decide (kk q = 2) || oh_fb kk d (q + 1)) || _)
    rw [ih, Bool.or_assoc]
theorem oh_sup_s (kk : Nat → Nat) (M : Nat → Bool) : ∀ d q, oh_sup kk M (d + 1) q = (oh_sup kk M d q || (!oh_fb kk d q && (decide (kk (q + d) = 0) && M (q + d))))
  | 0, q => by
    rw [oh_sup, oh_sup, oh_fb, Nat.add_zero]
    by_cases h2 : kk q = 2
    · rw [if_pos h2]; simp [h2]
    · rw [if_neg h2]
      by_cases h0 : kk q = 0
      · rw [if_pos h0]
        cases hM : M q <;> simp [h0, oh_sup]
      · rw [if_neg h0]; simp [h0, oh_sup]
  | d + 1, q => by
    have ih := oh_sup_s kk M d (q + 1)
    have e : q + (d + 1) = q + 1 + d := by omega
    rw [oh_sup, e]
    rw [show oh_sup kk M (d + 1) q = (if kk q = 2 then false else if kk q = 0 then (if M q then true else oh_sup kk M d (q + 1)) else oh_sup kk M d (q + 1)) from rfl, show oh_fb kk (d + 1) q = (decide (kk q = 2) || oh_fb kk d (q + 1)) from rfl]
    by_cases h2 : kk q = 2
    · rw [if_pos h2, if_pos h2]; simp [h2]
    · rw [if_neg h2, if_neg h2, decide_eq_false h2, Bool.false_or]
      by_cases h0 : kk q = 0
      · rw [if_pos h0, if_pos h0]
        cases hM : M q
        · exact ih
        · simp
      · rw [if_neg h0, if_neg h0]; exact ih
def oh_A (kk : Nat → Nat) (M : Nat → Bool) (i r : Nat) : Bool := M r && !oh_sup kk M (i - (r + 1)) (r + 1)
def oh_F (kk : Nat → Nat) (i r : Nat) : Bool := oh_fb kk (i - (r + 1)) (r + 1)
theorem oh_A_lt {kk : Nat → Nat} {M : Nat → Bool} {i r : Nat} (h : r < i) : oh_A kk M (i + 1) r = (oh_A kk M i r && !(!oh_F kk i r && (decide (kk i = 0) && M i))) := by
  unfold oh_A oh_F
  rw [show i + 1 - (r + 1) = (i - (r + 1)) + 1 by omega, oh_sup_s, show r + 1 + (i - (r + 1)) = i by omega, Bool.not_or, Bool.and_assoc]
theorem oh_F_lt {kk : Nat → Nat} {i r : Nat} (h : r < i) : oh_F kk (i + 1) r = (oh_F kk i r || decide (kk i = 2)) := by
  unfold oh_F
  rw [show i + 1 - (r + 1) = (i - (r + 1)) + 1 by omega, oh_fb_s, show r + 1 + (i - (r + 1)) = i by omega]
theorem oh_A_eq {kk : Nat → Nat} {M : Nat → Bool} {i : Nat} : oh_A kk M (i + 1) i = M i ∧ oh_F kk (i + 1) i = false := by
  unfold oh_A oh_F
  rw [Nat.sub_self]
  exact ⟨by rw [oh_sup, Bool.not_false, Bool.and_true], rfl⟩
theorem oh_bt1 {n i : Nat} (hn : n < 32) (hi : i < 32) : bt ((1 : Int32) <<< (nI n &&& 31)) i = decide (i = n) := by
  rw [b_shl n hn _ hi]
  have h1 : ∀ k, k < 32 → bt 1 k = decide (k = 0) := by decide +kernel
  rw [h1 _ (by omega)]
  by_cases z : i = n
  · rw [decide_eq_true z, decide_eq_true (show n ≤ i by omega), decide_eq_true (show i - n = 0 by omega)]; rfl
  · by_cases y : n ≤ i
    · rw [decide_eq_false z, decide_eq_false (show ¬ i - n = 0 by omega), Bool.and_false]
    · rw [decide_eq_false z, decide_eq_false y, Bool.false_and]
def oh_EG (kk : Nat → Nat) (M : Nat → Bool) (i : Nat) (x y : Int32) : Prop := ∀ r, r < 32 → bt x r = (decide (r < i) && (oh_A kk M i r && oh_F kk i r)) ∧ bt y r = (decide (r < i) && (oh_A kk M i r && !oh_F kk i r))
theorem oh_EG_0 {kk : Nat → Nat} {M : Nat → Bool} : oh_EG kk M 0 0 0 := fun r _ => by rw [b_0]; simp
/-- one rule more: k its kind, y' the group after it -/
theorem oh_EG_s {kk : Nat → Nat} {M : Nat → Bool} {i : Nat} {x y x' y' : Int32} (h : oh_EG kk M i x y) (hx : ∀ r, r < 32 → bt x' r = if kk i = 2 then (bt x r || bt y r) else bt x r) (hy : ∀ r, r < 32 → bt y' r = if M i then (if kk i = 1 then (bt y r || decide (r = i)) else decide (r = i)) else if kk i = 2 then false else bt y r) (hk : kk i ≤ 2) : oh_EG kk M (i + 1) x' y' := fun r hr => by
  obtain ⟨h1, h2⟩ := h r hr
  rw [hx r hr, hy r hr, h1, h2]
  rcases Nat.lt_trichotomy r i with z | z | z
  · rw [oh_A_lt z, oh_F_lt z, decide_eq_true z, decide_eq_true (show r < i + 1 by omega), decide_eq_false (show ¬ r = i by omega)]
    generalize oh_A kk M i r = A
    generalize oh_F kk i r = F
    rcases (show kk i = 0 ∨ kk i = 1 ∨ kk i = 2 by omega) with k | k | k <;> rw [k] <;> cases A <;> cases F <;> cases M i <;> simp
  · subst z
    rw [(oh_A_eq (kk := kk) (M := M) (i := r)).1, (oh_A_eq (kk := kk) (M := M) (i := r)).2, decide_eq_false (Nat.lt_irrefl r), decide_eq_true (Nat.lt_succ_self r), decide_eq_true rfl]
    rcases (show kk r = 0 ∨ kk r = 1 ∨ kk r = 2 by omega) with k | k | k <;> rw [k] <;> cases M r <;> simp
  · rw [decide_eq_false (show ¬ r < i by omega), decide_eq_false (show ¬ r < i + 1 by omega), decide_eq_false (show ¬ r = i by omega)]
    rcases (show kk i = 0 ∨ kk i = 1 ∨ kk i = 2 by omega) with k | k | k <;> rw [k] <;> cases M i <;> simp
theorem oh_EG_or {kk : Nat → Nat} {M : Nat → Bool} {m : Nat} {x y : Int32} (h : oh_EG kk M m x y) {r : Nat} (hr : r < m) (hm : m ≤ 32) : bt (x ||| y) r = oh_act kk M m r := by
  have := h r (by omega)
  rw [b_or, this.1, this.2, decide_eq_true hr]
  unfold oh_act oh_A
  generalize (M r && !oh_sup kk M (m - (r + 1)) (r + 1)) = A
  generalize oh_F kk m r = F
  cases A <;> cases F <;> rfl
section
variable {xfw xlp xdy xrl xhz xhc xts xos xpd xtc xcu xbk xrt : Int32} {xdc xho xtx xou xtk xtv xki xst xdn xsn xdf xdt xsf xse : Nat → Int32} {xnm xds xtd xtm : Nat → Int64} {fw lp m b : Nat} {FL : List (Nat × Nat × Nat × Nat)} {ho : Nat → Bool}
theorem xe_ar7 {post : Int32 → Prop} {x : Int32} {d : Nat} (hE : oh_XE fw lp m b FL ho xdc xho xki xst xdn xsn xdf xdt xsf xse xds xtd xtm) (hd : d < 365 + lp) (ex : x = nI d) (h : ∀ w, (∀ r, r < m → bt w r = oh_act (oh_kk (oh_sY FL)) (oh_M (oh_sY FL) fw lp ho true d) m r) → post w) : ∀ (e i f : Nat) (x2 x3 : Int32), i + e = m → e < f → oh_EG (oh_kk (oh_sY FL)) (oh_M (oh_sY FL) fw lp ho true d) i x2 x3 → wX_activeRules_7 post x (nI fw) (nI lp) (nI (365 + lp)) xrl xhz xhc xts xos xpd xtc xcu (nI b) (nI m) xdc xho xtx xou xnm xtk xtv xki xst xdn xsn xdf xdt xsf xse xds xtd xtm f x2 x3 (nI i)
  | e, i, 0, _, _, _, hf, _ => absurd hf (by omega)
  | 0, i, f + 1, x2, x3, he, _, hG => by
    have h6 := hE.1.2.2.1
    rw [wX_activeRules_7]
    have : i = m := by omega
    subst this
    exact pk_le i i (fun _ => h _ (fun r hr => oh_EG_or hG hr (by omega))) (fun a => absurd a (by omega))
  | e + 1, i, f + 1, x2, x3, he, hf, hG => by
    have hE2 := hE
    obtain ⟨⟨g1, g2, g3, g4⟩, hdc, hho, hXF, hK⟩ := hE2
    obtain ⟨_, _, _, _, _, ⟨K, k2, ek, eki⟩, _⟩ := hXF i (by omega)
    have hk := oh_kk_eq ek
    rw [wX_activeRules_7]
    refine pk_le m i (fun a => absurd a (by omega)) (fun _ => ?_)
    refine xe_isDay (v := true) (d := d) g2 (Or.inl ⟨rfl, hd, ex⟩) (fun z => absurd z (by decide)) (fun _ => ?_)
    rw [nI_add, nI_clamp (by omega), eki]
    refine ⟨vp_in_nI (by omega) (by omega), nm_e ?_⟩
    have key : ∀ x2' x3' : Int32, (∀ r, r < 32 → bt x2' r = if oh_kk (oh_sY FL) i = 2 then (bt x2 r || bt x3 r) else bt x2 r) → (∀ r, r < 32 → bt x3' r = if oh_kk (oh_sY FL) i = 2 then false else bt x3 r) → wX_activeRules_56 post (wX_activeRules_7 post x (nI fw) (nI lp) (nI (365 + lp)) xrl xhz xhc xts xos xpd xtc xcu (nI b) (nI m) xdc xho xtx xou xnm xtk xtv xki xst xdn xsn xdf xdt xsf xse xds xtd xtm f) x x2' x3' (nI i) (nI K) (nI fw) (nI lp) (nI (365 + lp)) xrl xhz xhc xts xos xpd xtc xcu (nI b) (nI m) xdc xho xtx xou xnm xtk xtv xki xst xdn xsn xdf xdt xsf xse xds xtd xtm := fun x2' x3' hx2 hx3 => by
      unfold wX_activeRules_56
      have hM : oh_M (oh_sY FL) fw lp ho true d i = oh_mt (oh_sY FL i) lp (oh_dc lp d) ((fw + d) % 7) (ho d) := Bool.true_and _
      refine xe_ap i d (nI_add b i) ex hE (by omega) hd (fun z => ?_) (fun z => ?_)
      · refine nm_r (nI_1 i) (xe_ar7 hE hd ex h e (i + 1) f x2' x3' (by omega) (by omega) (oh_EG_s hG hx2 (fun r hr => ?_) (by omega)))
        rw [hx3 r hr, hM, z]; rfl
      · refine pk_eq K 1 (fun k1 => ?_) (fun k1 => ?_)
        · refine nm_e (nm_r (nI_1 i) (xe_ar7 hE hd ex h e (i + 1) f x2' _ (by omega) (by omega) (oh_EG_s hG hx2 (fun r hr => ?_) (by omega))))
          rw [b_or, oh_bt1 (by omega) hr, hx3 r hr, hM, z, hk, k1]; rfl
        · refine nm_e (nm_r (nI_1 i) (xe_ar7 hE hd ex h e (i + 1) f x2' _ (by omega) (by omega) (oh_EG_s hG hx2 (fun r hr => ?_) (by omega))))
          rw [oh_bt1 (by omega) hr, hM, z, hk, if_neg k1]; rfl
    unfold wX_activeRules_48
    refine pk_eq K 2 (fun a => nm_e (br_t (by rw [a]; rfl) ?_)) (fun a => br_f (fun z => a ((nI_eq (by omega) (by omega)).mp z)) ?_)
    · refine key _ 0 (fun r hr => ?_) (fun r hr => ?_)
      · rw [b_or, hk, if_pos a]
      · rw [b_0, hk, if_pos a]
    · refine key x2 x3 (fun r hr => ?_) (fun r hr => ?_)
      · rw [hk, if_neg a]
      · rw [hk, if_neg a]
theorem xe_ar {post : Int32 → Prop} {x : Int32} {v : Bool} {d : Nat} (hE : oh_XE fw lp m b FL ho xdc xho xki xst xdn xsn xdf xdt xsf xse xds xtd xtm) (hx : oh_dy lp v d x) (h : ∀ w, (∀ r, r < m → bt w r = oh_act (oh_kk (oh_sY FL)) (oh_M (oh_sY FL) fw lp ho v d) m r) → post w) : wpX_activeRules post (nI fw, nI lp, nI (365 + lp), xrl, xhz, xhc, xts, xos, xpd, xtc, xcu, nI b, nI m, xdc, xho, xtx, xou, xnm, xtk, xtv, xki, xst, xdn, xsn, xdf, xdt, xsf, xse, xds, xtd, xtm) x := by
  have g2 := hE.1.2.1
  have g3 := hE.1.2.2.1
  unfold wpX_activeRules
  have hx0 := hx
  rcases hx with ⟨a, c, e⟩ | ⟨a, c⟩
  · subst a
    exact ⟨m + 1, xe_ar7 hE c e h m 0 (m + 1) 0 0 (by omega) (by omega) oh_EG_0⟩
  · have hz : post (0 ||| 0) := h _ (fun r hr => by
      rw [show (0 : Int32) ||| 0 = 0 by decide, b_0]
      unfold oh_act oh_M
      rw [a]; rfl)
    refine ⟨1, ?_⟩
    rw [wX_activeRules_7]
    refine pk_le m 0 (fun _ => hz) (fun _ => ?_)
    exact xe_isDay g2 hx0 (fun _ => hz) (fun z => by rw [a] at z; cases z)
theorem xe_166 {post : Int32 → Prop} {la ow : Nat} (h1 : la < 1000) (h : post (oh_ri (oh_fin2 la ow))) : wX_ruleAt_166 post (oh_ri la) (oh_ri ow) xfw xlp xdy xrl xhz xhc xts xos xpd xtc xcu xbk xrt xdc xho xtx xou xnm xtk xtv xki xst xdn xsn xdf xdt xsf xse xds xtd xtm := by
  unfold wX_ruleAt_166
  unfold oh_fin2 at h
  refine ek_if (oh_ri_eq h1) (fun a => ?_) (fun a => ?_)
  · rw [if_pos a] at h; exact h
  · rw [if_neg a] at h; exact h
theorem xe_ra48 {post : Int32 → Prop} {t : Nat} {bf nw : Int32} (hE : oh_XE fw lp m b FL ho xdc xho xki xst xdn xsn xdf xdt xsf xse xds xtd xtm) (ht : t < 48 * (365 + lp)) (hbf : ∀ r, r < m → bt bf r = oh_act (oh_kk (oh_sY FL)) (oh_M (oh_sY FL) fw lp ho (decide (48 ≤ t)) (t / 48 - 1)) m r) (hnw : ∀ r, r < m → bt nw r = oh_act (oh_kk (oh_sY FL)) (oh_M (oh_sY FL) fw lp ho true (t / 48)) m r) : ∀ (d r f la ow : Nat), r + d = m → d < f → la < 1000 → ow < 1000 → post (oh_ri (oh_ra (oh_kk (oh_sY FL)) (oh_Lt (oh_sY FL) fw lp m ho t) (oh_Ot (oh_sY FL) fw lp m ho t) d r la ow)) → wX_ruleAt_48 post (nI t) bf nw xfw xlp xdy xrl xhz xhc xts xos xpd xtc xcu (nI b) (nI m) xdc xho xtx xou xnm xtk xtv xki xst xdn xsn xdf xdt xsf xse xds xtd xtm f (oh_ri la) (oh_ri ow) (nI r)
  | d, r, 0, _, _, _, hf, _, _, _ => absurd hf (by omega)
  | 0, r, f + 1, la, ow, hd, _, h1, h2, h => by
    have h6 := hE.1.2.2.1
    rw [wX_ruleAt_48]
    rw [oh_ra] at h
    exact pk_le m r (fun _ => xe_166 h1 h) (fun a => absurd a (by omega))
  | d + 1, r, f + 1, la, ow, hd, hf, h1, h2, h => by
    have hE2 := hE
    obtain ⟨⟨g1, g2, g3, g4⟩, hdc, hho, hXF, hK⟩ := hE2
    obtain ⟨_, _, _, htd, htm, ⟨K, k2, ek, eki⟩, _⟩ := hXF r (by omega)
    have hk := oh_kk_eq ek
    have hb1 := hbf r (by omega)
    have hb2 := hnw r (by omega)
    have t48 : t % 48 < 48 := by omega
    have er48 : nI t - nI t / 48 * 48 = nI (t % 48) := oh_r48 (by omega)
    rw [wX_ruleAt_48]
    rw [oh_ra] at h
    have h94 : post (oh_ri (oh_ra (oh_kk (oh_sY FL)) (oh_Lt (oh_sY FL) fw lp m ho t) (oh_Ot (oh_sY FL) fw lp m ho t) d (r + 1) (if oh_Lt (oh_sY FL) fw lp m ho t r then r else la) (if oh_Ot (oh_sY FL) fw lp m ho t r then r else ow))) → wX_ruleAt_94 post (wX_ruleAt_48 post (nI t) bf nw xfw xlp xdy xrl xhz xhc xts xos xpd xtc xcu (nI b) (nI m) xdc xho xtx xou xnm xtk xtv xki xst xdn xsn xdf xdt xsf xse xds xtd xtm f) (nI t) bf nw (oh_ri la) (oh_ri ow) (nI r) (nI (b + r)) xfw xlp xdy xrl xhz xhc xts xos xpd xtc xcu (nI b) (nI m) xdc xho xtx xou xnm xtk xtv xki xst xdn xsn xdf xdt xsf xse xds xtd xtm := fun h => by
      have h127 : ∀ la', la' < 1000 → (if oh_Lt (oh_sY FL) fw lp m ho t r then r else la) = la' → wX_ruleAt_127 post (wX_ruleAt_48 post (nI t) bf nw xfw xlp xdy xrl xhz xhc xts xos xpd xtc xcu (nI b) (nI m) xdc xho xtx xou xnm xtk xtv xki xst xdn xsn xdf xdt xsf xse xds xtd xtm f) (nI t) bf nw (oh_ri la') (oh_ri ow) (nI r) (nI (b + r)) xfw xlp xdy xrl xhz xhc xts xos xpd xtc xcu (nI b) (nI m) xdc xho xtx xou xnm xtk xtv xki xst xdn xsn xdf xdt xsf xse xds xtd xtm := fun la' hla e => by
        rw [e] at h
        have hJ0 : oh_Ot (oh_sY FL) fw lp m ho t r = false → wX_ruleAt_48 post (nI t) bf nw xfw xlp xdy xrl xhz xhc xts xos xpd xtc xcu (nI b) (nI m) xdc xho xtx xou xnm xtk xtv xki xst xdn xsn xdf xdt xsf xse xds xtd xtm f (oh_ri la') (oh_ri ow) (nI (r + 1)) := fun z => by
          rw [z] at h
          exact xe_ra48 hE ht hbf hnw d (r + 1) f la' ow (by omega) (by omega) hla h2 h
        have hJ1 : oh_Ot (oh_sY FL) fw lp m ho t r = true → wX_ruleAt_48 post (nI t) bf nw xfw xlp xdy xrl xhz xhc xts xos xpd xtc xcu (nI b) (nI m) xdc xho xtx xou xnm xtk xtv xki xst xdn xsn xdf xdt xsf xse xds xtd xtm f (oh_ri la') (nI r) (nI (r + 1)) := fun z => by
          rw [z] at h
          have er : oh_ri r = nI r := if_neg (by omega)
          rw [← er]
          exact xe_ra48 hE ht hbf hnw d (r + 1) f la' r (by omega) (by omega) hla (by omega) h
        unfold wX_ruleAt_127
        refine xe_has r rfl (by omega) (fun a => ?_) (fun a => ⟨vp_in_nI (by omega) (by omega), by decide, ?_⟩)
        · rw [oh_b_w32 (by omega), hb2] at a
          exact nm_r (nI_1 r) (hJ0 (by unfold oh_Ot; rw [a, Bool.and_false]))
        · rw [oh_b_w32 (by omega), hb2] at a
          rw [nI_clamp (by omega)]
          refine xe_has (t % 48) er48 (by omega) (fun c => ?_) (fun c => ?_)
          · rw [htd _ t48] at c
            exact nm_r (nI_1 r) (hJ0 (by unfold oh_Ot; rw [c, Bool.false_and]))
          · rw [htd _ t48] at c
            exact nm_r (nI_1 r) (hJ1 (by unfold oh_Ot; rw [c, a]; rfl))
      unfold wX_ruleAt_94
      refine xe_has r rfl (by omega) (fun a => ?_) (fun a => ⟨vp_in_nI (by omega) (by omega), by decide, ?_⟩)
      · rw [oh_b_w32 (by omega), hb1] at a
        exact h127 la h1 (if_neg (by unfold oh_Lt; rw [a, Bool.and_false]; decide))
      · rw [oh_b_w32 (by omega), hb1] at a
        rw [nI_clamp (by omega)]
        refine xe_has (t % 48) er48 (by omega) (fun c => ?_) (fun c => ?_)
        · rw [htm _ t48] at c
          exact h127 la h1 (if_neg (by unfold oh_Lt; rw [c, Bool.false_and]; decide))
        · rw [htm _ t48] at c
          have er : oh_ri r = nI r := if_neg (by omega)
          have := h127 r (by omega) (if_pos (by unfold oh_Lt; rw [c, a]; rfl))
          rw [er] at this
          exact this
    refine pk_le m r (fun a => absurd a (by omega)) (fun _ => nm_r (nI_add b r) ⟨vp_in_nI (by omega) (by omega), ?_⟩)
    rw [nI_clamp (by omega), eki]
    refine pk_eq K 2 (fun a => ?_) (fun a => ?_)
    · refine ek_if (oh_ri_eq h1) (fun b => ek_if (oh_ri_eq h2) (fun c => ?_) (fun c => ?_)) (fun b => ?_)
      · rw [if_neg (fun z => z.2 ⟨b, c⟩)] at h
        exact h94 h
      · rw [if_pos ⟨hk.trans a, fun z => c z.2⟩] at h
        exact xe_166 h1 h
      · rw [if_pos ⟨hk.trans a, fun z => b z.1⟩] at h
        exact xe_166 h1 h
    · rw [if_neg (fun z => a (hk.symm.trans z.1))] at h
      exact h94 h
theorem xe_ra {post : Int32 → Prop} {x : Int32} (t : Nat) (ex : x = nI t) (hE : oh_XE fw lp m b FL ho xdc xho xki xst xdn xsn xdf xdt xsf xse xds xtd xtm) (ht : t < 48 * (365 + lp)) (h : post (oh_ri (oh_RA (oh_sY FL) fw lp m ho t))) : wpX_ruleAt post (nI fw, nI lp, nI (365 + lp), xrl, xhz, xhc, xts, xos, xpd, xtc, xcu, nI b, nI m, xdc, xho, xtx, xou, xnm, xtk, xtv, xki, xst, xdn, xsn, xdf, xdt, xsf, xse, xds, xtd, xtm) x := by
  subst ex
  have hl := hE.1.2.1
  unfold wpX_ruleAt
  dsimp only
  refine br_f (nI_pos (by omega)) ?_
  have e : (48 : Int32) * nI (365 + lp) = nI (48 * (365 + lp)) := pk_mul 48 _
  refine pk_lt t (48 * (365 + lp)) (fun _ => ⟨by decide, ?_⟩) (fun a => absurd a (by omega)) (hy := e)
  refine xe_ar hE (oh_dy_p ht hl) (fun bf hbf => ⟨by decide, ?_⟩)
  refine xe_ar hE (oh_dy_n ht hl) (fun nw hnw => ⟨m + 1, ?_⟩)
  exact xe_ra48 hE ht hbf hnw m 0 (m + 1) 100 100 (by omega) (by omega) (by omega) (by omega) h
theorem xe_ra_n {post : Int32 → Prop} {x : Int32} (hl : lp ≤ 1) (hx : x < 0 ∨ nI (48 * (365 + lp)) ≤ x) (h : post (-1)) : wpX_ruleAt post (xfw, xlp, nI (365 + lp), xrl, xhz, xhc, xts, xos, xpd, xtc, xcu, xbk, xrt, xdc, xho, xtx, xou, xnm, xtk, xtv, xki, xst, xdn, xsn, xdf, xdt, xsf, xse, xds, xtd, xtm) x := by
  unfold wpX_ruleAt
  dsimp only
  have e : (48 : Int32) * nI (365 + lp) = nI (48 * (365 + lp)) := pk_mul 48 _
  rw [e]
  rcases hx with a | a
  · exact br_t a h
  · exact br_c (fun _ => h) (fun _ => br_f (Int32.not_lt.mpr a) h)
theorem xe_st {post : Int32 → Prop} {x : Int32} (t : Nat) (ex : x = nI t) (hE : oh_XE fw lp m b FL ho xdc xho xki xst xdn xsn xdf xdt xsf xse xds xtd xtm) (ht : t < 48 * (365 + lp)) (h : post (nI (oh_ST (oh_sY FL) fw lp m ho t))) : wpX_stateAt post (nI fw, nI lp, nI (365 + lp), xrl, xhz, xhc, xts, xos, xpd, xtc, xcu, nI b, nI m, xdc, xho, xtx, xou, xnm, xtk, xtv, xki, xst, xdn, xsn, xdf, xdt, xsf, xse, xds, xtd, xtm) x := by
  have hE2 := hE
  obtain ⟨⟨g1, g2, g3, g4⟩, hdc, hho, hXF, hK⟩ := hE2
  have hlt := oh_RA_lt (oh_sY FL) fw lp m ho t
  unfold oh_ST at h
  unfold wpX_stateAt
  dsimp only
  refine xe_ra t ex hE ht ?_
  have hn1 : ¬ oh_ri (oh_RA (oh_sY FL) fw lp m ho t) = -1 := by
    unfold oh_ri
    split
    · decide
    · exact oh_nI_neg (by omega)
  refine br_f hn1 ?_
  refine ek_if (oh_ri_eq (by omega)) (fun a => ?_) (fun a => ?_)
  · rw [if_pos a] at h; exact h
  · rw [if_neg a] at h
    have er : oh_ri (oh_RA (oh_sY FL) fw lp m ho t) = nI (oh_RA (oh_sY FL) fw lp m ho t) := if_neg a
    have hs := (hXF (oh_RA (oh_sY FL) fw lp m ho t) (by omega)).2.2.2.2.2.2
    rw [er, nI_add, nI_clamp (by omega), hs]
    exact ⟨vp_in_nI (by omega) (by omega), h⟩
theorem xe_st_n {post : Int32 → Prop} {x : Int32} (hl : lp ≤ 1) (hx : x < 0 ∨ nI (48 * (365 + lp)) ≤ x) (h : post (-1)) : wpX_stateAt post (xfw, xlp, nI (365 + lp), xrl, xhz, xhc, xts, xos, xpd, xtc, xcu, xbk, xrt, xdc, xho, xtx, xou, xnm, xtk, xtv, xki, xst, xdn, xsn, xdf, xdt, xsf, xse, xds, xtd, xtm) x := by
  unfold wpX_stateAt
  dsimp only
  exact xe_ra_n hl hx (br_t rfl h)
end
end
section
/-! ===== X: boundaries, nextChange ===== -/
theorem oh_b_shl1 {w : Int64} {j : Nat} (h0 : 0 < j) (hj : j < 64) : oh_b (w <<< ((1 : Int32).toInt64 &&& 63)) j = oh_b w (j - 1) := by
  obtain ⟨n, hn, rfl⟩ := wb_of w
  have := wb_shl n (k := 1) (by omega)
  rw [show lN n <<< ((1 : Int32).toInt64 &&& 63) = lN (n * 2 ^ 1) from this, oh_b_lN, oh_b_lN, Nat.testBit_mul_two_pow, decide_eq_true hj, decide_eq_true (show 1 ≤ j by omega), decide_eq_true (show j - 1 < 64 by omega)]
  rfl
theorem oh_ra_c {kk : Nat → Nat} {L O L' O' : Nat → Bool} : ∀ (d r la ow : Nat), (∀ q, r ≤ q → q < r + d → L q = L' q ∧ O q = O' q) → oh_ra kk L O d r la ow = oh_ra kk L' O' d r la ow
  | 0, r, la, ow, _ => rfl
  | d + 1, r, la, ow, h => by
    rw [oh_ra, oh_ra, (h r (by omega) (by omega)).1, (h r (by omega) (by omega)).2, oh_ra_c d (r + 1) _ _ (fun q h1 h2 => h q (by omega) (by omega))]
theorem oh_ST_step {S : Nat → Nat → List (Nat × Nat)} {fw lp m : Nat} {ho : Nat → Bool} {u : Nat} (hu : 0 < u % 48) (h : ∀ r, r < m → ((S r 5).isEmpty || (S r 5).any (oh_sp (u % 48))) = ((S r 5).isEmpty || (S r 5).any (oh_sp (u % 48 - 1))) ∧ (S r 5).any (oh_sp (u % 48 + 48)) = (S r 5).any (oh_sp (u % 48 - 1 + 48))) : oh_ST S fw lp m ho u = oh_ST S fw lp m ho (u - 1) := by
  have e1 : (u - 1) % 48 = u % 48 - 1 := by omega
  have e2 : (u - 1) / 48 = u / 48 := by omega
  have e3 : decide (48 ≤ u - 1) = decide (48 ≤ u) := by
    by_cases z : 48 ≤ u
    · rw [decide_eq_true z, decide_eq_true (show 48 ≤ u - 1 by omega)]
    · rw [decide_eq_false z, decide_eq_false (show ¬ 48 ≤ u - 1 by omega)]
  have : oh_RA S fw lp m ho u = oh_RA S fw lp m ho (u - 1) := by
    unfold oh_RA
    refine oh_ra_c m 0 100 100 (fun q _ hq => ?_)
    have := h q (by omega)
    unfold oh_Lt oh_Ot
    rw [e1, e2, e3, this.1, this.2]
    exact ⟨rfl, rfl⟩
  unfold oh_ST
  rw [this]
theorem oh_ST_lt {FL : List (Nat × Nat × Nat × Nat)} {fw lp m : Nat} {ho : Nat → Bool} (hK : oh_FK FL) (u : Nat) : oh_ST (oh_sY FL) fw lp m ho u < 100 := by
  unfold oh_ST
  split
  · omega
  · cases hl : oh_sY FL (oh_RA (oh_sY FL) fw lp m ho u) 6 with
    | nil => decide
    | cons ab t =>
      have := oh_sY_v hK (r := oh_RA (oh_sY FL) fw lp m ho u) (k := 6) (ab := ab) (by rw [hl]; exact List.mem_cons_self)
      unfold oh_vi at this
      dsimp only at this
      show ab.1 < 100
      omega
section
variable {xfw xlp xdy xrl xhz xhc xts xos xpd xtc xcu xbk xrt : Int32} {xdc xho xtx xou xtk xtv xki xst xdn xsn xdf xdt xsf xse : Nat → Int32} {xnm xds xtd xtm : Nat → Int64} {fw lp m b hd : Nat} {FL : List (Nat × Nat × Nat × Nat)} {ho : Nat → Bool}
def oh_MB (b m : Nat) (xtd xtm : Nat → Int64) (w : Int64) : Prop := oh_b w 0 = true ∧ ∀ j, 0 < j → j < 48 → oh_b w j = false → ∀ r, r < m → oh_b (xtd (b + r)) j = oh_b (xtd (b + r)) (j - 1) ∧ oh_b (xtm (b + r)) j = oh_b (xtm (b + r)) (j - 1)
theorem xe_bo4 {post : Int64 → Prop} (hb : b ≤ 6) (hm : m ≤ 6) (h : ∀ w, oh_MB b m xtd xtm w → post w) : ∀ (d i f : Nat) (w : Int64), i + d = m → d < f → oh_MB b i xtd xtm w → wX_boundaries_4 post xfw xlp xdy xrl xhz xhc xts xos xpd xtc xcu (nI b) (nI m) xdc xho xtx xou xnm xtk xtv xki xst xdn xsn xdf xdt xsf xse xds xtd xtm f w (nI i)
  | d, i, 0, _, _, hf, _ => absurd hf (by omega)
  | 0, i, f + 1, w, hd, _, hw => by
    rw [wX_boundaries_4]
    have : i = m := by omega
    subst this
    exact pk_le i i (fun _ => h w hw) (fun a => absurd a (by omega))
  | d + 1, i, f + 1, w, hd, hf, hw => by
    rw [wX_boundaries_4]
    refine pk_le m i (fun a => absurd a (by omega)) (fun _ => nm_r (nI_add b i) ?_)
    have hv : vp_in (nI (b + i)) 12 := vp_in_nI (by omega) (by omega)
    rw [nI_clamp (by omega)]
    refine ⟨hv, hv, hv, hv, nm_e (nm_r (nI_1 i) ?_)⟩
    refine xe_bo4 hb hm h d (i + 1) f _ (by omega) (by omega) ⟨?_, fun j h0 h48 hf2 r hr => ?_⟩
    · rw [oh_b_or, hw.1, Bool.true_or]
    · rw [oh_b_or, oh_b_or, oh_b_xor, oh_b_xor, oh_b_shl1 h0 (by omega), oh_b_shl1 h0 (by omega)] at hf2
      simp only [Bool.or_eq_false_iff] at hf2
      rcases Nat.lt_or_ge r i with z | z
      · exact hw.2 j h0 h48 hf2.1 r z
      · have : r = i := by omega
        subst this
        refine ⟨?_, ?_⟩
        · have := hf2.2.1
          cases h1 : oh_b (xtd (b + r)) j <;> cases h2 : oh_b (xtd (b + r)) (j - 1) <;> rw [h1, h2] at this <;> first | rfl | cases this
        · have := hf2.2.2
          cases h1 : oh_b (xtm (b + r)) j <;> cases h2 : oh_b (xtm (b + r)) (j - 1) <;> rw [h1, h2] at this <;> first | rfl | cases this
theorem xe_bo {post : Int64 → Prop} (hb : b ≤ 6) (hm : m ≤ 6) (h : ∀ w, oh_MB b m xtd xtm w → post w) : wpX_boundaries post (xfw, xlp, xdy, xrl, xhz, xhc, xts, xos, xpd, xtc, xcu, nI b, nI m, xdc, xho, xtx, xou, xnm, xtk, xtv, xki, xst, xdn, xsn, xdf, xdt, xsf, xse, xds, xtd, xtm) := by
  unfold wpX_boundaries
  refine ⟨m + 1, xe_bo4 hb hm h m 0 (m + 1) 1 (by omega) (by omega) ⟨by decide, fun j _ _ _ r hr => absurd hr (by omega)⟩⟩
theorem xe_nc45 {post : Int32 → Prop} {t s lim : Nat} {w : Int64} (hE : oh_XE fw lp m b FL ho xdc xho xki xst xdn xsn xdf xdt xsf xse xds xtd xtm) (hw : oh_MB b m xtd xtm w) (hs : s = oh_ST (oh_sY FL) fw lp m ho t) (hl1 : lim < 48 * (365 + lp)) (ht : t < 48 * (365 + lp)) : ∀ (d u f : Nat), u + d = lim + 1 → d < f → t < u → oh_ST (oh_sY FL) fw lp m ho (u - 1) = s → post (oh_sr (fun u => decide (¬ oh_ST (oh_sY FL) fw lp m ho u = s)) d u) → wX_nextChange_45 post (nI s) (nI lim) w (nI fw) (nI lp) (nI (365 + lp)) xrl xhz xhc xts xos xpd xtc xcu (nI b) (nI m) xdc xho xtx xou xnm xtk xtv xki xst xdn xsn xdf xdt xsf xse xds xtd xtm f (nI u)
  | d, u, 0, _, hf, _, _, _ => absurd hf (by omega)
  | 0, u, f + 1, hd0, _, _, _, h => by
    have hl := hE.1.2.1
    rw [wX_nextChange_45]
    rw [oh_sr] at h
    exact pk_lt lim u (fun _ => h) (fun a => absurd a (by omega))
  | d + 1, u, f + 1, hd0, hf, htu, hpr, h => by
    have hl := hE.1.2.1
    have hK := hE.2.2.2.2
    have hST1 := oh_ST_lt (fw := fw) (lp := lp) (m := m) (ho := ho) hK u
    have hST2 := oh_ST_lt (fw := fw) (lp := lp) (m := m) (ho := ho) hK t
    rw [wX_nextChange_45]
    rw [oh_sr] at h
    refine pk_lt lim u (fun a => absurd a (by omega)) (fun a => ⟨by decide, ?_⟩)
    have hnext : oh_ST (oh_sY FL) fw lp m ho u = s → wX_nextChange_45 post (nI s) (nI lim) w (nI fw) (nI lp) (nI (365 + lp)) xrl xhz xhc xts xos xpd xtc xcu (nI b) (nI m) xdc xho xtx xou xnm xtk xtv xki xst xdn xsn xdf xdt xsf xse xds xtd xtm f (nI (u + 1)) := fun z => by
      rw [decide_eq_false (by omega)] at h
      exact xe_nc45 hE hw hs hl1 ht d (u + 1) f (by omega) (by omega) (by omega) z h
    refine xe_has (u % 48) (oh_r48 (by omega)) (by omega) (fun c => ?_) (fun c => ?_)
    · refine nm_r (nI_1 u) (hnext ?_)
      have h0 : 0 < u % 48 := by
        rcases Nat.eq_zero_or_pos (u % 48) with z | z
        · rw [z, hw.1] at c; cases c
        · exact z
      rw [← hpr]
      refine oh_ST_step h0 (fun r hr => ?_)
      obtain ⟨_, _, _, htd, htm, _⟩ := hE.2.2.2.1 r hr
      have := hw.2 (u % 48) h0 (by omega) c r hr
      rw [htd _ (by omega), htd _ (by omega), htm _ (by omega), htm _ (by omega)] at this
      exact this
    · refine xe_st u rfl hE (by omega) ?_
      refine pk_eq (oh_ST (oh_sY FL) fw lp m ho u) s (fun z => nm_r (nI_1 u) (hnext z)) (fun z => ?_)
      rw [decide_eq_true (by omega)] at h
      exact h
theorem xe_nc {post : Int32 → Prop} {x : Int32} (t : Nat) (ex : x = nI t) (hE : oh_XE fw lp m b FL ho xdc xho xki xst xdn xsn xdf xdt xsf xse xds xtd xtm) (hhd : hd ≤ 7) (ht : t < 48 * (365 + lp)) (h : post (oh_sr (fun u => decide (¬ oh_ST (oh_sY FL) fw lp m ho u = oh_ST (oh_sY FL) fw lp m ho t)) (min (t + 48 * hd) (48 * (365 + lp) - 1) - t) (t + 1))) : wpX_nextChange post (nI fw, nI lp, nI (365 + lp), xrl, nI (48 * hd), xhc, xts, xos, xpd, xtc, xcu, nI b, nI m, xdc, xho, xtx, xou, xnm, xtk, xtv, xki, xst, xdn, xsn, xdf, xdt, xsf, xse, xds, xtd, xtm) x := by
  subst ex
  have hl := hE.1.2.1
  have hK := hE.2.2.2.2
  have hST2 := oh_ST_lt (fw := fw) (lp := lp) (m := m) (ho := ho) hK t
  unfold wpX_nextChange
  dsimp only
  refine xe_st t rfl hE ht ?_
  refine br_f (oh_nI_neg (by omega)) ?_
  have e : (48 : Int32) * nI (365 + lp) - 1 = nI (48 * (365 + lp) - 1) := by rw [show (48 : Int32) * nI (365 + lp) = nI (48 * (365 + lp)) from pk_mul 48 _]; exact pk_sub (a := 48 * (365 + lp)) (b := 1) (by omega)
  rw [nI_add, e]
  have hrest : ∀ lim, lim = min (t + 48 * hd) (48 * (365 + lp) - 1) → wpX_boundaries (fun r_66 => ∀ x6_98 : Int32, x6_98 = nI t + 1 → ∃ n45 : Nat, wX_nextChange_45 post (nI (oh_ST (oh_sY FL) fw lp m ho t)) (nI lim) r_66 (nI fw) (nI lp) (nI (365 + lp)) xrl (nI (48 * hd)) xhc xts xos xpd xtc xcu (nI b) (nI m) xdc xho xtx xou xnm xtk xtv xki xst xdn xsn xdf xdt xsf xse xds xtd xtm n45 x6_98) (nI fw, nI lp, nI (365 + lp), xrl, nI (48 * hd), xhc, xts, xos, xpd, xtc, xcu, nI b, nI m, xdc, xho, xtx, xou, xnm, xtk, xtv, xki, xst, xdn, xsn, xdf, xdt, xsf, xse, xds, xtd, xtm) := fun lim hlim => by
    refine xe_bo hE.1.2.2.2 hE.1.2.2.1 (fun w hw => nm_r (nI_1 t) ⟨lim - t + 1, ?_⟩)
    rw [← hlim] at h
    exact xe_nc45 hE hw rfl (by omega) ht (lim - t) (t + 1) _ (by omega) (by omega) (by omega) rfl h
  unfold wpX_clamp
  dsimp only
  refine pk_le t (t + 48 * hd) (fun _ => pk_le (t + 48 * hd) (48 * (365 + lp) - 1) (fun q => hrest _ (by omega)) (fun q => hrest _ (by omega))) (fun a => absurd a (by omega))
theorem xe_nc_n {post : Int32 → Prop} {x : Int32} (hl : lp ≤ 1) (hx : x < 0 ∨ nI (48 * (365 + lp)) ≤ x) (h : post (-1)) : wpX_nextChange post (xfw, xlp, nI (365 + lp), xrl, xhz, xhc, xts, xos, xpd, xtc, xcu, xbk, xrt, xdc, xho, xtx, xou, xnm, xtk, xtv, xki, xst, xdn, xsn, xdf, xdt, xsf, xse, xds, xtd, xtm) x := by
  unfold wpX_nextChange
  dsimp only
  exact xe_st_n hl hx (br_t rfl h)
end
end
section
/-! ===== dayNumber, holidays ===== -/
theorem oh_rng {x : Int32} (a c : Nat) (h1 : ¬ x < nI a) (h2 : ¬ nI c < x) (hc : c < 2 ^ 31) (ha : a < 2 ^ 31) : ∃ j, a ≤ j ∧ j ≤ c ∧ x = nI j := by
  rw [Int32.lt_iff_toInt_lt, nI_toInt ha] at h1
  rw [Int32.lt_iff_toInt_lt, nI_toInt hc] at h2
  refine ⟨x.toInt.toNat, by omega, by omega, ?_⟩
  apply Int32.toInt_inj.mp
  rw [nI_toInt (by omega)]
  omega
def oh_cm (lp : Nat) : Nat → Nat
  | 0 => 0
  | m + 1 => oh_cm lp m + oh_ml (m + 1) lp
theorem oh_cm_dc : ∀ lp, lp < 2 → ∀ m, m < 12 → ∀ d, d < 31 → d < oh_ml (m + 1) lp → oh_cm lp m + d < 365 + lp ∧ oh_dc lp (oh_cm lp m + d) = 32 * (m + 1) + (d + 1) := by decide +kernel
theorem oh_dc_cm : ∀ lp, lp < 2 → ∀ u, u < 366 → u < 365 + lp → oh_cm lp (oh_dc lp u / 32 - 1) + (oh_dc lp u % 32 - 1) = u := by decide +kernel
def oh_vm (lp : Nat) (x y : Int32) : Prop := ∃ m d, m < 12 ∧ d < oh_ml (m + 1) lp ∧ x = nI (m + 1) ∧ y = nI (d + 1)
section
variable {xfw xlp xdy xrl xhz xhc xts xos xpd xtc xcu xbk xrt : Int32} {xdc xho xtx xou xtk xtv xki xst xdn xsn xdf xdt xsf xse : Nat → Int32} {xnm xds xtd xtm : Nat → Int64} {yfw ylp yrl yhd yts yos ylt yfc yru yps yrd ykp : Int32} {ytx you yfa yho : Nat → Int32} {ynm : Nat → Int64} {lp : Nat}
theorem yd_no {post : Int32 → Prop} {x y : Int32} (hl : lp ≤ 1) (hn : ¬ oh_vm lp x y) (h : post (-1)) : ∀ (e u f : Nat), u + e = 365 + lp → e < f → wY_dayNumber_2 post x y yfw (nI lp) yrl yhd yts yos ylt yfc yru yps yrd ykp ytx you yfa ynm yho f (nI u)
  | e, u, 0, _, hf => absurd hf (by omega)
  | 0, u, f + 1, he, _ => by
    rw [wY_dayNumber_2]
    exact pk_le (365 + lp) u (fun _ => h) (fun a => absurd a (by omega)) (hx := nI_add 365 lp)
  | e + 1, u, f + 1, he, hf => by
    rw [wY_dayNumber_2]
    have hv := oh_dc_v lp (by omega) u (by omega) (by omega)
    refine pk_le (365 + lp) u (fun a => absurd a (by omega)) (fun _ => ?_) (hx := nI_add 365 lp)
    refine ye_date u rfl hl (by omega) ⟨by decide, ?_⟩
    rw [oh_d32 (by omega)]
    refine br_c (fun a => ye_date u rfl hl (by omega) ⟨by decide, ?_⟩) (fun a => nm_r (nI_1 u) (yd_no hl hn h e (u + 1) f (by omega) (by omega)))
    rw [oh_r32 (by omega)]
    refine br_c (fun c => ?_) (fun c => nm_r (nI_1 u) (yd_no hl hn h e (u + 1) f (by omega) (by omega)))
    refine absurd ⟨oh_dc lp u / 32 - 1, oh_dc lp u % 32 - 1, by omega, ?_, ?_, ?_⟩ hn
    · rw [show oh_dc lp u / 32 - 1 + 1 = oh_dc lp u / 32 by omega]; omega
    · rw [← a]; congr 1; omega
    · rw [← c]; congr 1; omega
theorem yd_yes {post : Int32 → Prop} {m d : Nat} (hl : lp ≤ 1) (hm : m < 12) (hd : d < oh_ml (m + 1) lp) (h : post (nI (oh_cm lp m + d))) : ∀ (e u f : Nat), u + e = oh_cm lp m + d → e < f → wY_dayNumber_2 post (nI (m + 1)) (nI (d + 1)) yfw (nI lp) yrl yhd yts yos ylt yfc yru yps yrd ykp ytx you yfa ynm yho f (nI u) := by
  have hml := oh_ml_in (m + 1) lp hl
  have hc := oh_cm_dc lp (by omega) m hm d (by omega) hd
  intro e
  induction e with
  | zero =>
    intro u f he hf
    obtain ⟨f, rfl⟩ : ∃ g, f = g + 1 := ⟨f - 1, by omega⟩
    have : u = oh_cm lp m + d := by omega
    subst this
    rw [wY_dayNumber_2]
    refine pk_le (365 + lp) (oh_cm lp m + d) (fun a => absurd a (by omega)) (fun _ => ?_) (hx := nI_add 365 lp)
    refine ye_date _ rfl hl hc.1 ⟨by decide, ?_⟩
    rw [oh_d32 (by omega), hc.2]
    refine pk_eq ((32 * (m + 1) + (d + 1)) / 32) (m + 1) (fun _ => ye_date _ rfl hl hc.1 ⟨by decide, ?_⟩) (fun a => absurd a (by omega))
    rw [oh_r32 (by omega), hc.2]
    exact pk_eq ((32 * (m + 1) + (d + 1)) % 32) (d + 1) (fun _ => h) (fun a => absurd a (by omega))
  | succ e ih =>
    intro u f he hf
    obtain ⟨f, rfl⟩ : ∃ g, f = g + 1 := ⟨f - 1, by omega⟩
    have hv := oh_dc_v lp (by omega) u (by omega) (by omega)
    have hi := oh_dc_cm lp (by omega) u (by omega) (by omega)
    rw [wY_dayNumber_2]
    refine pk_le (365 + lp) u (fun a => absurd a (by omega)) (fun _ => ?_) (hx := nI_add 365 lp)
    refine ye_date u rfl hl (by omega) ⟨by decide, ?_⟩
    rw [oh_d32 (by omega)]
    refine pk_eq (oh_dc lp u / 32) (m + 1) (fun a => ye_date u rfl hl (by omega) ⟨by decide, ?_⟩) (fun a => nm_r (nI_1 u) (ih (u + 1) f (by omega) (by omega)))
    rw [oh_r32 (by omega)]
    refine pk_eq (oh_dc lp u % 32) (d + 1) (fun c => ?_) (fun c => nm_r (nI_1 u) (ih (u + 1) f (by omega) (by omega)))
    rw [a, c] at hi
    exact absurd hi (by simp only [Nat.add_sub_cancel]; omega)
theorem xd_22 {post : Int32 → Prop} {m d : Nat} (hl : lp ≤ 1) (hm : m < 12) (hd : d < 31) (h : post (nI (oh_cm lp m + d))) : ∀ (e i f : Nat), i + e = m → e < f → wX_dayNumber_22 post (nI (m + 1)) xfw (nI lp) xdy xrl xhz xhc xts xos xpd xtc xcu xbk xrt xdc xho xtx xou xnm xtk xtv xki xst xdn xsn xdf xdt xsf xse xds xtd xtm f (nI (oh_cm lp i + d)) (nI (i + 1)) := by
  have hcm : ∀ i, i < 12 → oh_cm lp i ≤ 366 := by
    have : ∀ lp, lp < 2 → ∀ i, i < 12 → oh_cm lp i ≤ 366 := by decide +kernel
    exact this lp (by omega)
  intro e
  induction e with
  | zero =>
    intro i f he hf
    obtain ⟨f, rfl⟩ : ∃ g, f = g + 1 := ⟨f - 1, by omega⟩
    have : i = m := by omega
    subst this
    rw [wX_dayNumber_22]
    exact pk_le (i + 1) (i + 1) (fun _ => h) (fun a => absurd a (by omega))
  | succ e ih =>
    intro i f he hf
    obtain ⟨f, rfl⟩ : ∃ g, f = g + 1 := ⟨f - 1, by omega⟩
    have := hcm i (by omega)
    rw [wX_dayNumber_22]
    refine pk_le (m + 1) (i + 1) (fun a => absurd a (by omega)) (fun _ => pk_le 12 (i + 1) (fun a => absurd a (by omega)) (fun _ => ?_))
    refine xl_ml (i + 1) lp rfl rfl (by omega) (by omega) hl ?_
    refine nm_r (e' := nI (oh_cm lp (i + 1) + d)) ?_ (nm_r (nI_1 _) (ih (i + 1) f (by omega) (by omega)))
    rw [nI_add]
    congr 1
    show oh_cm lp i + d + oh_ml (i + 1) lp = oh_cm lp i + oh_ml (i + 1) lp + d
    omega
theorem od_num {x y : Int32} (hl : lp ≤ 1) : ∃ r : Int32, (∀ post : Int32 → Prop, post r → wpX_dayNumber post (xfw, nI lp, xdy, xrl, xhz, xhc, xts, xos, xpd, xtc, xcu, xbk, xrt, xdc, xho, xtx, xou, xnm, xtk, xtv, xki, xst, xdn, xsn, xdf, xdt, xsf, xse, xds, xtd, xtm) x y) ∧ (∀ post : Int32 → Prop, post r → wpY_dayNumber post (yfw, nI lp, yrl, yhd, yts, yos, ylt, yfc, yru, yps, yrd, ykp, ytx, you, yfa, ynm, yho) x y) := by
  by_cases hv : oh_vm lp x y
  · obtain ⟨m, d, hm, hd, rfl, rfl⟩ := hv
    have hml := oh_ml_in (m + 1) lp hl
    refine ⟨nI (oh_cm lp m + d), fun post h => ?_, fun post h => ?_⟩
    · unfold wpX_dayNumber
      dsimp only
      refine xl_isDate (m + 1) (d + 1) lp rfl rfl rfl (by omega) (by omega) (by omega) hl (fun _ => ?_) (fun z => absurd z (by omega))
      refine nm_r (e' := nI (oh_cm lp 0 + d)) ?_ ⟨m + 1, xd_22 hl hm (by omega) h m 0 (m + 1) (by omega) (by omega)⟩
      rw [show oh_cm lp 0 + d = d + 1 - 1 by rw [show oh_cm lp 0 = 0 from rfl]; omega]
      exact pk_sub (a := d + 1) (b := 1) (by omega)
    · have hc := oh_cm_dc lp (by omega) m hm d (by omega) hd
      unfold wpY_dayNumber
      exact ⟨oh_cm lp m + d + 1, yd_yes hl hm hd h (oh_cm lp m + d) 0 _ (by omega) (by omega)⟩
  · refine ⟨-1, fun post h => ?_, fun post h => ?_⟩
    · unfold wpX_dayNumber wpX_isDate
      dsimp only
      refine br_c (fun _ => br_t rfl h) (fun a => br_c (fun _ => br_t rfl h) (fun c => br_c (fun _ => br_t rfl h) (fun e => ?_)))
      obtain ⟨m, m1, m2, rfl⟩ := oh_rng 1 12 a c (by omega) (by omega)
      have hml := oh_ml_in m lp hl
      refine xl_ml m lp rfl rfl m1 m2 hl ?_
      refine br_c (fun _ => br_t rfl h) (fun g => ?_)
      obtain ⟨d, d1, d2, rfl⟩ := oh_rng 1 (oh_ml m lp) e g (by omega) (by omega)
      exact absurd ⟨m - 1, d - 1, by omega, by rw [show m - 1 + 1 = m by omega]; omega, by congr 1; omega, by congr 1; omega⟩ hv
    · unfold wpY_dayNumber
      exact ⟨365 + lp + 1, yd_no hl hv h (365 + lp) 0 _ (by omega) (by omega)⟩
end
/-! holidays -/
def oh_cn (ho : Nat → Bool) : Nat → Nat
  | 0 => 0
  | n + 1 => oh_cn ho n + (if ho n then 1 else 0)
def oh_ot (ho : Nat → Bool) (d : Nat) : Nat → Nat
  | 0 => 0
  | n + 1 => oh_ot ho d n + (if ¬ n = d ∧ ho n then 1 else 0)
def oh_hs (ho : Nat → Bool) (d : Nat) (v : Bool) : Nat → Bool := fun j => if j = d then v else ho j
theorem oh_ot_le (ho : Nat → Bool) (d : Nat) : ∀ n, oh_ot ho d n ≤ n
  | 0 => Nat.le_refl _
  | n + 1 => by have := oh_ot_le ho d n; rw [oh_ot]; split <;> omega
theorem oh_ot_hs (ho : Nat → Bool) (d : Nat) (v : Bool) : ∀ n, oh_ot (oh_hs ho d v) d n = oh_ot ho d n
  | 0 => rfl
  | n + 1 => by
    rw [oh_ot, oh_ot, oh_ot_hs ho d v n]
    by_cases z : n = d
    · rw [if_neg (fun q => q.1 z), if_neg (fun q => q.1 z)]
    · have : oh_hs ho d v n = ho n := if_neg z
      rw [this]
theorem oh_cn_ot (ho : Nat → Bool) (d : Nat) : ∀ n, oh_cn ho n = oh_ot ho d n + (if d < n ∧ ho d then 1 else 0)
  | 0 => by simp [oh_cn, oh_ot]
  | n + 1 => by
    rw [oh_cn, oh_ot, oh_cn_ot ho d n]
    rcases Nat.lt_trichotomy d n with z | z | z
    · cases h1 : ho d <;> cases h2 : ho n <;> simp [z, show d < n + 1 by omega, show ¬ n = d by omega]
    · subst z
      cases h1 : ho d <;> simp
    · have a : ¬ d < n := by omega
      have c : ¬ d < n + 1 := by omega
      cases h2 : ho n <;> simp [a, c, show ¬ n = d by omega]
theorem oh_cn_d {ho : Nat → Bool} {d : Nat} (hd : d < 366) : oh_cn ho 366 = oh_ot ho d 366 + (if ho d then 1 else 0) := by
  rw [oh_cn_ot ho d 366]
  cases h : ho d <;> simp [hd]
theorem oh_nar (v : Bool) : vp_nar .boolean (oh_bi v) = oh_bi v := by cases v <;> rfl
theorem oh_bi_eq (a c : Bool) : oh_bi a = oh_bi c ↔ a = c := by cases a <;> cases c <;> decide
section
variable {xfw xlp xdy xrl xhz xhc xts xos xpd xtc xcu xbk xrt : Int32} {xdc xho xtx xou xtk xtv xki xst xdn xsn xdf xdt xsf xse : Nat → Int32} {xnm xds xtd xtm : Nat → Int64} {yfw ylp yrl yhd yts yos ylt yfc yru yps yrd ykp : Int32} {ytx you yfa yho : Nat → Int32} {ynm : Nat → Int64} {lp : Nat} {ho : Nat → Bool}
theorem xh_34 {post : Int32 → SX → Prop} {d : Nat} (v : Bool) (hd : d < 366) (hh : ∀ j, j < 366 → xho j = oh_bi (ho j)) (h : ∀ xho', (∀ j, j < 366 → xho' j = oh_bi (oh_hs ho d v j)) → post (nI (oh_cn (oh_hs ho d v) 366)) (xfw, xlp, xdy, xrl, xhz, nI (oh_cn (oh_hs ho d v) 366), xts, xos, xpd, xtc, xcu, xbk, xrt, xdc, xho', xtx, xou, xnm, xtk, xtv, xki, xst, xdn, xsn, xdf, xdt, xsf, xse, xds, xtd, xtm)) : wX_setHoliday_34 post (nI d) (oh_bi v) xfw xlp xdy xrl xhz (nI (oh_cn ho 366)) xts xos xpd xtc xcu xbk xrt xdc xho xtx xou xnm xtk xtv xki xst xdn xsn xdf xdt xsf xse xds xtd xtm := by
  have hc := nI_clamp (n := d) (by omega)
  have hv : vp_in (nI d) 366 := vp_in_nI hd (by omega)
  have hle := oh_ot_le ho d 366
  have e1 := oh_cn_d (ho := ho) hd
  have e2 := oh_cn_d (ho := oh_hs ho d v) hd
  rw [oh_ot_hs, show oh_hs ho d v d = v from if_pos rfl] at e2
  have hx : ∀ j, j < 366 → upd xho d (oh_bi v) j = oh_bi (oh_hs ho d v j) := fun j hj => by
    by_cases z : j = d
    · subst z; rw [pk_us, show oh_hs ho j v j = v from if_pos rfl]
    · rw [pk_un z, show oh_hs ho d v j = ho j from if_neg z]; exact hh j hj
  have h62 : ∀ n, n = oh_cn (oh_hs ho d v) 366 → wX_setHoliday_62 post (nI d) (oh_bi v) xfw xlp xdy xrl xhz (nI n) xts xos xpd xtc xcu xbk xrt xdc xho xtx xou xnm xtk xtv xki xst xdn xsn xdf xdt xsf xse xds xtd xtm := fun n en => by
    subst en
    unfold wX_setHoliday_62
    rw [hc, oh_nar]
    exact ⟨hv, nm_e (h _ hx)⟩
  unfold wX_setHoliday_34
  rw [hc, hh d hd]
  refine ⟨hv, ek_if (oh_bi_eq v (ho d)) (fun a => h62 _ ?_) (fun a => ?_)⟩
  · rw [e1, e2, a]
  · unfold wX_setHoliday_58
    refine oh_brbi (fun c => ?_) (fun c => ?_)
    · have hd1 : ho d = true := by cases h : ho d <;> rw [c, h] at a <;> simp at a ⊢
      rw [hd1] at e1
      refine nm_r (e' := nI (oh_ot ho d 366)) ?_ (h62 _ (by rw [e2, c]; simp))
      rw [e1]
      exact pk_m1 _
    · have hd1 : ho d = false := by cases h : ho d <;> rw [c, h] at a <;> simp at a ⊢
      rw [hd1] at e1
      refine nm_r (nI_1 _) (h62 _ ?_)
      rw [e1, e2, c]; simp
theorem yh_77 {post : Int32 → SY → Prop} {d n : Nat} (v : Bool) (hd : d < 366) (hh : ∀ j, j < 366 → yho j = oh_bi (ho j)) (hn : n = oh_ot ho d 366) (h : ∀ yho', (∀ j, j < 366 → yho' j = oh_bi (oh_hs ho d v j)) → post (nI (oh_cn (oh_hs ho d v) 366)) (yfw, ylp, yrl, yhd, yts, yos, ylt, yfc, yru, yps, yrd, ykp, ytx, you, yfa, ynm, yho')) : wY_setHoliday_77 post (nI d) (oh_bi v) (nI n) yfw ylp yrl yhd yts yos ylt yfc yru yps yrd ykp ytx you yfa ynm yho := by
  have hc := nI_clamp (n := d) (by omega)
  have e2 := oh_cn_d (ho := oh_hs ho d v) hd
  rw [oh_ot_hs, show oh_hs ho d v d = v from if_pos rfl] at e2
  have hx : ∀ j, j < 366 → upd yho d (oh_bi v) j = oh_bi (oh_hs ho d v j) := fun j hj => by
    by_cases z : j = d
    · subst z; rw [pk_us, show oh_hs ho j v j = v from if_pos rfl]
    · rw [pk_un z, show oh_hs ho d v j = ho j from if_neg z]; exact hh j hj
  unfold wY_setHoliday_77
  rw [hc, oh_nar]
  refine ⟨vp_in_nI hd (by omega), nm_e (oh_brbi (fun c => ?_) (fun c => ?_))⟩
  · have := h _ hx
    rw [e2, c, ← hn] at this
    rw [c]
    exact this
  · have := h _ hx
    rw [e2, c, ← hn] at this
    rw [nI_1, c]
    exact this
theorem yh_23 {post : Int32 → SY → Prop} {d : Nat} (v : Bool) (hd : d < 366) (hh : ∀ j, j < 366 → yho j = oh_bi (ho j)) (h1 : ¬ (v = true ∧ ho d = false ∧ 8 ≤ oh_ot ho d 366) → ∀ yho', (∀ j, j < 366 → yho' j = oh_bi (oh_hs ho d v j)) → post (nI (oh_cn (oh_hs ho d v) 366)) (yfw, ylp, yrl, yhd, yts, yos, ylt, yfc, yru, yps, yrd, ykp, ytx, you, yfa, ynm, yho')) (h0 : v = true ∧ ho d = false ∧ 8 ≤ oh_ot ho d 366 → post (-1) (yfw, ylp, yrl, yhd, yts, yos, ylt, yfc, yru, yps, yrd, ykp, ytx, you, yfa, ynm, yho)) : ∀ (e i f : Nat), i + e = 366 → e < f → wY_setHoliday_23 post (nI d) (oh_bi v) yfw ylp yrl yhd yts yos ylt yfc yru yps yrd ykp ytx you yfa ynm yho f (nI (oh_ot ho d i)) (nI i)
  | e, i, 0, _, hf => absurd hf (by omega)
  | 0, i, f + 1, he, _ => by
    have : i = 366 := by omega
    subst this
    have hle := oh_ot_le ho d 366
    rw [wY_setHoliday_23]
    refine pk_le 366 366 (fun _ => ?_) (fun a => absurd a (by omega))
    refine oh_brbi (fun c => yh_77 v hd hh rfl (h1 (fun z => by rw [c] at z; exact absurd z.1 (by decide)))) (fun c => ⟨vp_in_nI hd (by omega), ?_⟩)
    rw [nI_clamp (by omega), hh d hd]
    refine oh_brbi (fun g => pk_lt (oh_ot ho d 366) 8 (fun q => yh_77 v hd hh rfl (h1 (fun z => by omega))) (fun q => h0 ⟨c, g, q⟩)) (fun g => yh_77 v hd hh rfl (h1 (fun z => by rw [g] at z; exact absurd z.2.1 (by decide))))
  | e + 1, i, f + 1, he, hf => by
    have hle := oh_ot_le ho d i
    rw [wY_setHoliday_23]
    refine pk_le 366 i (fun a => absurd a (by omega)) (fun _ => ?_)
    have ih := yh_23 v hd hh h1 h0 e (i + 1) f (by omega) (by omega)
    rw [oh_ot] at ih
    refine pk_eq i d (fun a => ?_) (fun a => ⟨vp_in_nI (by omega) (by omega), ?_⟩)
    · rw [if_neg (fun z => z.1 a), Nat.add_zero] at ih
      exact nm_r (nI_1 i) ih
    · rw [nI_clamp (by omega), hh i (by omega)]
      refine oh_brbi (fun g => ?_) (fun g => ?_)
      · rw [if_neg (fun z => by rw [g] at z; exact absurd z.2 (by decide)), Nat.add_zero] at ih
        exact nm_r (nI_1 i) ih
      · rw [if_pos ⟨a, g⟩] at ih
        exact nm_r (nI_1 _) (nm_r (nI_1 i) ih)
theorem oh_dayx (lp : Nat) (hl : lp ≤ 1) (x : Int32) : x < 0 ∨ nI (365 + lp) ≤ x ∨ ∃ d, d < 365 + lp ∧ x = nI d := pk_ix x (by omega)
/-- set: one outcome for both -/
theorem oh_setH {x : Int32} (v : Bool) (hl : lp ≤ 1) (hx : ∀ j, j < 366 → xho j = oh_bi (ho j)) (hy : ∀ j, j < 366 → yho j = oh_bi (ho j)) : ∃ (r : Int32) (ho' : Nat → Bool), (∀ j, 365 + lp ≤ j → ho' j = ho j) ∧ (∀ post : Int32 → SX → Prop, (∀ xho', (∀ j, j < 366 → xho' j = oh_bi (ho' j)) → post r (xfw, xlp, nI (365 + lp), xrl, xhz, nI (oh_cn ho' 366), xts, xos, xpd, xtc, xcu, xbk, xrt, xdc, xho', xtx, xou, xnm, xtk, xtv, xki, xst, xdn, xsn, xdf, xdt, xsf, xse, xds, xtd, xtm)) → wpX_setHoliday post (xfw, xlp, nI (365 + lp), xrl, xhz, nI (oh_cn ho 366), xts, xos, xpd, xtc, xcu, xbk, xrt, xdc, xho, xtx, xou, xnm, xtk, xtv, xki, xst, xdn, xsn, xdf, xdt, xsf, xse, xds, xtd, xtm) x (oh_bi v)) ∧ (∀ post : Int32 → SY → Prop, (∀ yho', (∀ j, j < 366 → yho' j = oh_bi (ho' j)) → post r (yfw, nI lp, yrl, yhd, yts, yos, ylt, yfc, yru, yps, yrd, ykp, ytx, you, yfa, ynm, yho')) → wpY_setHoliday post (yfw, nI lp, yrl, yhd, yts, yos, ylt, yfc, yru, yps, yrd, ykp, ytx, you, yfa, ynm, yho) x (oh_bi v)) := by
  rcases oh_dayx lp hl x with a | a | ⟨d, hd, rfl⟩
  · refine ⟨-1, ho, fun _ _ => rfl, fun post h => ?_, fun post h => ?_⟩
    · unfold wpX_setHoliday
      dsimp only
      exact xe_isDay (v := false) (d := 0) hl (Or.inr ⟨rfl, a⟩) (fun _ => h xho hx) (fun z => absurd z (by decide))
    · unfold wpY_setHoliday
      dsimp only
      exact br_t a (h yho hy)
  · refine ⟨-1, ho, fun _ _ => rfl, fun post h => ?_, fun post h => ?_⟩
    · unfold wpX_setHoliday wpX_isDay
      dsimp only
      exact br_c (fun _ => br_t rfl (h xho hx)) (fun _ => br_t a (br_t rfl (h xho hx)))
    · unfold wpY_setHoliday
      dsimp only
      rw [show (365 : Int32) + nI lp = nI (365 + lp) from nI_add 365 lp]
      exact br_c (fun _ => h yho hy) (fun _ => br_f (Int32.not_lt.mpr a) (h yho hy))
  · have hle := oh_ot_le ho d 366
    have e1 := oh_cn_d (ho := ho) (d := d) (by omega)
    by_cases hc : v = true ∧ ho d = false ∧ 8 ≤ oh_ot ho d 366
    · refine ⟨-1, ho, fun _ _ => rfl, fun post h => ?_, fun post h => ?_⟩
      · unfold wpX_setHoliday
        dsimp only
        refine xe_isDay (v := true) (d := d) hl (Or.inl ⟨rfl, hd, rfl⟩) (fun z => absurd z (by decide)) (fun _ => ?_)
        refine oh_brbi (fun c => by rw [hc.1] at c; cases c) (fun c => ⟨vp_in_nI (by omega) (by omega), ?_⟩)
        rw [nI_clamp (by omega), hx d (by omega)]
        rw [hc.2.1] at e1
        simp at e1
        refine oh_brbi (fun g => pk_lt (oh_cn ho 366) 8 (fun q => absurd q (by omega)) (fun _ => h xho hx)) (fun g => by rw [hc.2.1] at g; cases g)
      · unfold wpY_setHoliday
        dsimp only
        refine br_f (nI_pos (by omega)) (pk_lt d (365 + lp) (fun _ => ⟨367, ?_⟩) (fun q => absurd q (by omega)) (hy := nI_add 365 lp))
        exact yh_23 v (by omega) hy (fun z => absurd hc z) (fun _ => h yho hy) 366 0 367 (by omega) (by omega)
    · refine ⟨nI (oh_cn (oh_hs ho d v) 366), oh_hs ho d v, fun j hj => if_neg (by omega), fun post h => ?_, fun post h => ?_⟩
      · unfold wpX_setHoliday
        dsimp only
        refine xe_isDay (v := true) (d := d) hl (Or.inl ⟨rfl, hd, rfl⟩) (fun z => absurd z (by decide)) (fun _ => ?_)
        have h34 := xh_34 (post := post) (xfw := xfw) (xlp := xlp) (xdy := nI (365 + lp)) (xrl := xrl) (xhz := xhz) (xts := xts) (xos := xos) (xpd := xpd) (xtc := xtc) (xcu := xcu) (xbk := xbk) (xrt := xrt) (xdc := xdc) (xho := xho) (xtx := xtx) (xou := xou) (xtk := xtk) (xtv := xtv) (xki := xki) (xst := xst) (xdn := xdn) (xsn := xsn) (xdf := xdf) (xdt := xdt) (xsf := xsf) (xse := xse) (xnm := xnm) (xds := xds) (xtd := xtd) (xtm := xtm) (ho := ho) (d := d) v (by omega) hx h
        refine oh_brbi (fun c => h34) (fun c => ⟨vp_in_nI (by omega) (by omega), ?_⟩)
        rw [nI_clamp (by omega), hx d (by omega)]
        refine oh_brbi (fun g => pk_lt (oh_cn ho 366) 8 (fun _ => h34) (fun q => ?_) (ha := by split at e1 <;> omega)) (fun g => h34)
        rw [g] at e1
        simp at e1
        exact absurd ⟨c, g, by omega⟩ hc
      · unfold wpY_setHoliday
        dsimp only
        refine br_f (nI_pos (by omega)) (pk_lt d (365 + lp) (fun _ => ⟨367, ?_⟩) (fun q => absurd q (by omega)) (hy := nI_add 365 lp))
        exact yh_23 v (by omega) hy (fun _ => h) (fun z => absurd z hc) 366 0 367 (by omega) (by omega)
theorem oh_isH {x : Int32} (hl : lp ≤ 1) (hx : ∀ j, j < 366 → xho j = oh_bi (ho j)) (hy : ∀ j, j < 366 → yho j = oh_bi (ho j)) : ∃ r : Int32, (∀ post : Int32 → Prop, post r → wpX_isHoliday post (xfw, xlp, nI (365 + lp), xrl, xhz, xhc, xts, xos, xpd, xtc, xcu, xbk, xrt, xdc, xho, xtx, xou, xnm, xtk, xtv, xki, xst, xdn, xsn, xdf, xdt, xsf, xse, xds, xtd, xtm) x) ∧ (∀ post : Int32 → Prop, post r → wpY_isHoliday post (yfw, nI lp, yrl, yhd, yts, yos, ylt, yfc, yru, yps, yrd, ykp, ytx, you, yfa, ynm, yho) x) := by
  rcases oh_dayx lp hl x with a | a | ⟨d, hd, rfl⟩
  · refine ⟨-1, fun post h => ?_, fun post h => ?_⟩
    · unfold wpX_isHoliday
      dsimp only
      exact xe_isDay (v := false) (d := 0) hl (Or.inr ⟨rfl, a⟩) (fun _ => h) (fun z => absurd z (by decide))
    · unfold wpY_isHoliday
      dsimp only
      exact br_t a h
  · refine ⟨-1, fun post h => ?_, fun post h => ?_⟩
    · unfold wpX_isHoliday wpX_isDay
      dsimp only
      exact br_c (fun _ => br_t rfl h) (fun _ => br_t a (br_t rfl h))
    · unfold wpY_isHoliday
      dsimp only
      rw [show (365 : Int32) + nI lp = nI (365 + lp) from nI_add 365 lp]
      exact br_c (fun _ => h) (fun _ => br_f (Int32.not_lt.mpr a) h)
  · refine ⟨oh_bi (ho d), fun post h => ?_, fun post h => ?_⟩
    · unfold wpX_isHoliday
      dsimp only
      refine xe_isDay (v := true) (d := d) hl (Or.inl ⟨rfl, hd, rfl⟩) (fun z => absurd z (by decide)) (fun _ => ⟨vp_in_nI (by omega) (by omega), ?_⟩)
      rw [nI_clamp (by omega), hx d (by omega)]
      exact oh_brbi (fun g => by rw [g] at h; exact h) (fun g => by rw [g] at h; exact h)
    · unfold wpY_isHoliday
      dsimp only
      refine br_f (nI_pos (by omega)) (pk_lt d (365 + lp) (fun _ => ⟨vp_in_nI (by omega) (by omega), ?_⟩) (fun q => absurd q (by omega)) (hy := nI_add 365 lp))
      rw [nI_clamp (by omega), hy d (by omega)]
      exact oh_brbi (fun g => by rw [g] at h; exact h) (fun g => by rw [g] at h; exact h)
end
end
section
/-! ===== put, textWord ===== -/
theorem oh_su64 : ∀ k, k < 64 → ((UInt64.ofNat k).toBitVec % 64).toNat = k := by decide +kernel
theorem oh_ss64 : ∀ k, k < 64 → (((nI k).toInt64 &&& 63).toBitVec.smod 64).toNat = k := by decide +kernel
theorem oh_b_ushr {w : Int64} {k j : Nat} (hk : k < 64) : oh_b ((w.toUInt64 >>> ((nI k).toInt64.toUInt64 &&& Int64.toUInt64 63)).toInt64) j = oh_b w (k + j) := by
  rw [wb_cu k hk]
  show (w.toUInt64 >>> UInt64.ofNat k).toBitVec.getLsbD j = w.toUInt64.toBitVec.getLsbD (k + j)
  rw [UInt64.toBitVec_shiftRight]
  show (w.toUInt64.toBitVec >>> ((UInt64.ofNat k).toBitVec % 64).toNat).getLsbD j = _
  rw [oh_su64 k hk, BitVec.getLsbD_ushiftRight]
theorem oh_b_sshr {w : Int64} {k j : Nat} (hk : k < 64) (hj : k + j < 64) : oh_b (w >>> ((nI k).toInt64 &&& 63)) j = oh_b w (k + j) := by
  unfold oh_b
  rw [Int64.toBitVec_shiftRight]
  show (w.toBitVec.sshiftRight (((nI k).toInt64 &&& 63).toBitVec.smod 64).toNat).getLsbD j = _
  rw [oh_ss64 k hk, BitVec.getLsbD_sshiftRight]
  simp [hj, show j < 64 by omega]
theorem oh_bt_i32 {w : Int64} {j : Nat} (hj : j < 32) : bt w.toInt32 j = oh_b w j := by
  unfold bt oh_b
  rw [Int64.toBitVec_toInt32, BitVec.getLsbD_signExtend]
  simp [hj, show j < 64 by omega]
/-- the byte at place i -/
def oh_by (w : Int64) (i : Nat) : Nat := (((w.toUInt64 >>> ((nI (8 * i)).toInt64.toUInt64 &&& Int64.toUInt64 63)).toInt64).toInt32).toBitVec.toNat % 2 ^ 8
theorem oh_by_x (w : Int64) (i : Nat) : (((w.toUInt64 >>> ((nI (8 * i)).toInt64.toUInt64 &&& Int64.toUInt64 63)).toInt64).toInt32) &&& 255 = nI (oh_by w i) := pk_and _ 8 (by decide)
theorem oh_by_y (w : Int64) {i : Nat} (hi : i < 8) : ((w >>> ((nI (8 * i)).toInt64 &&& 63)).toInt32) &&& 255 = nI (oh_by w i) := by
  rw [← oh_by_x]
  refine b_ext (fun j hj => ?_)
  rw [b_and, b_and, b_255]
  by_cases z : j < 8
  · rw [oh_bt_i32 hj, oh_bt_i32 hj, oh_b_sshr (by omega) (by omega), oh_b_ushr (by omega)]
  · rw [decide_eq_false z, Bool.and_false, Bool.and_false]
theorem oh_by_lt (w : Int64) (i : Nat) : oh_by w i < 256 := Nat.mod_lt _ (by decide)
def oh_pu (by_ : Nat → Nat) : Nat → Nat → Nat → (Nat → Nat) → Bool × Nat × (Nat → Nat)
  | 0, _, s, ch => (true, s, ch)
  | d + 1, i, s, ch => if by_ i = 0 then oh_pu by_ d (i + 1) s ch else if by_ i < 32 ∨ 126 < by_ i ∨ 128 ≤ s then (false, s, ch) else oh_pu by_ d (i + 1) (s + 1) (fun j => if j = s then by_ i else ch j)
theorem oh_pu_T {by_ : Nat → Nat} {n : Nat} : ∀ (d i s : Nat) (ch : Nat → Nat), n ≤ s → oh_T ch s → (oh_pu by_ d i s ch).2.1 ≤ 128 ∧ oh_T (oh_pu by_ d i s ch).2.2 (oh_pu by_ d i s ch).2.1 ∧ n ≤ (oh_pu by_ d i s ch).2.1
  | 0, i, s, ch, hn, h => ⟨h.1, h, hn⟩
  | d + 1, i, s, ch, hn, h => by
    rw [oh_pu]
    split
    · exact oh_pu_T d (i + 1) s ch hn h
    · split
      · exact ⟨h.1, h, hn⟩
      · rename_i h1 h2
        refine oh_pu_T d (i + 1) (s + 1) _ (by omega) ⟨by omega, fun j => ?_, fun j hj => ?_⟩
        · dsimp only
          split
          · omega
          · exact h.2.1 j
        · dsimp only
          split
          · omega
          · exact h.2.2 j (by omega)
theorem oh_T_mono {ch : Nat → Nat} {n s : Nat} (h : oh_T ch s) (hn : n ≤ s) : oh_T ch n := ⟨by have := h.1; omega, h.2.1, fun j hj => h.2.2 j (by omega)⟩
theorem oh_cast {c : Nat} (h : c < 256) : vp_nar .char (((nI c).toUInt32 % 65536).toInt32) = nI c := by
  have h2 : ∀ c, c < 256 → ((nI c).toUInt32 % 65536).toInt32 = nI c := by decide +kernel
  rw [pk_vc]; exact h2 c h
section
variable {xfw xlp xdy xrl xhz xhc xts xos xpd xtc xcu xbk xrt : Int32} {xdc xho xtx xou xtk xtv xki xst xdn xsn xdf xdt xsf xse : Nat → Int32} {xnm xds xtd xtm : Nat → Int64} {yfw ylp yrl yhd yts yos ylt yfc yru yps yrd ykp : Int32} {ytx you yfa yho : Nat → Int32} {ynm : Nat → Int64}
theorem xp_put {post : Int32 → SX → Prop} {w : Int64} : ∀ (d i f s : Nat) (ch : Nat → Nat) (xtx : Nat → Int32), i + d = 8 → d < f → s ≤ 128 → (∀ j, xtx j = nI (ch j)) → (∀ xtx', (∀ j, xtx' j = nI ((oh_pu (oh_by w) d i s ch).2.2 j)) → ((oh_pu (oh_by w) d i s ch).1 = true → post (nI (oh_pu (oh_by w) d i s ch).2.1) (xfw, xlp, xdy, xrl, xhz, xhc, nI (oh_pu (oh_by w) d i s ch).2.1, xos, xpd, xtc, xcu, xbk, xrt, xdc, xho, xtx', xou, xnm, xtk, xtv, xki, xst, xdn, xsn, xdf, xdt, xsf, xse, xds, xtd, xtm)) ∧ ((oh_pu (oh_by w) d i s ch).1 = false → post (-1) (xfw, xlp, xdy, xrl, xhz, xhc, xts, xos, xpd, xtc, xcu, xbk, xrt, xdc, xho, xtx', xou, xnm, xtk, xtv, xki, xst, xdn, xsn, xdf, xdt, xsf, xse, xds, xtd, xtm))) → wX_put_8 post w xfw xlp xdy xrl xhz xhc xts xos xpd xtc xcu xbk xrt f (nI s) (nI (8 * i)) xdc xho xtx xou xnm xtk xtv xki xst xdn xsn xdf xdt xsf xse xds xtd xtm
  | d, i, 0, _, _, _, _, hf, _, _, _ => absurd hf (by omega)
  | 0, i, f + 1, s, ch, xtx, hd, _, hs, hx, h => by
    have : i = 8 := by omega
    subst this
    rw [wX_put_8]
    exact pk_le 64 64 (fun _ => (h xtx hx).1 rfl) (fun a => absurd a (by omega))
  | d + 1, i, f + 1, s, ch, xtx, hd, hf, hs, hx, h => by
    have hb := oh_by_lt w i
    rw [oh_pu] at h
    rw [wX_put_8]
    refine pk_le 64 (8 * i) (fun a => absurd a (by omega)) (fun _ => nm_r (oh_by_x w i) ?_)
    have e8 : nI (8 * i) + 8 = nI (8 * (i + 1)) := nI_add (8 * i) 8
    refine pk_eq (oh_by w i) 0 (fun a => ?_) (fun a => ?_)
    · rw [if_pos a] at h
      exact nm_r e8 (xp_put d (i + 1) f s ch xtx (by omega) (by omega) hs hx h)
    · rw [if_neg a] at h
      refine pk_lt (oh_by w i) 32 (fun c => ?_) (fun c => pk_lt 126 (oh_by w i) (fun e => ?_) (fun e => pk_lt s 128 (fun g => ?_) (fun g => ?_)))
      · rw [if_pos (Or.inl c)] at h
        exact (h xtx hx).2 rfl
      · rw [if_pos (Or.inr (Or.inl e))] at h
        exact (h xtx hx).2 rfl
      · rw [if_neg (by omega)] at h
        refine nm_r (nI_1 s) ⟨vp_in_nI g (by omega), ?_⟩
        rw [nI_clamp (by omega), oh_cast hb]
        refine nm_e (nm_r e8 (xp_put d (i + 1) f (s + 1) _ _ (by omega) (by omega) (by omega) (fun j => ?_) h))
        by_cases z : j = s
        · subst z; rw [pk_us]; simp
        · rw [pk_un z, hx j]; simp [z]
      · rw [if_pos (Or.inr (Or.inr g))] at h
        exact (h xtx hx).2 rfl
theorem yp_put {post : Int32 → SY → Prop} {w : Int64} : ∀ (d i f s : Nat) (ch : Nat → Nat) (ytx : Nat → Int32), i + d = 8 → d < f → s ≤ 128 → (∀ j, ytx j = nI (ch j)) → (∀ ytx', (∀ j, ytx' j = nI ((oh_pu (oh_by w) d i s ch).2.2 j)) → ((oh_pu (oh_by w) d i s ch).1 = true → post (nI (oh_pu (oh_by w) d i s ch).2.1) (yfw, ylp, yrl, yhd, nI (oh_pu (oh_by w) d i s ch).2.1, yos, ylt, yfc, yru, yps, yrd, ykp, ytx', you, yfa, ynm, yho)) ∧ ((oh_pu (oh_by w) d i s ch).1 = false → post (-1) (yfw, ylp, yrl, yhd, yts, yos, ylt, yfc, yru, yps, yrd, ykp, ytx', you, yfa, ynm, yho))) → wY_put_8 post w yfw ylp yrl yhd yts yos ylt yfc yru yps yrd ykp f (nI s) (nI i) ytx you yfa ynm yho
  | d, i, 0, _, _, _, _, hf, _, _, _ => absurd hf (by omega)
  | 0, i, f + 1, s, ch, ytx, hd, _, hs, hx, h => by
    have : i = 8 := by omega
    subst this
    rw [wY_put_8]
    exact pk_le 8 8 (fun _ => (h ytx hx).1 rfl) (fun a => absurd a (by omega))
  | d + 1, i, f + 1, s, ch, ytx, hd, hf, hs, hx, h => by
    have hb := oh_by_lt w i
    rw [oh_pu] at h
    rw [wY_put_8]
    have ei : (8 : Int32) * nI i = nI (8 * i) := pk_mul 8 i
    refine pk_le 8 i (fun a => absurd a (by omega)) (fun _ => nm_r (e' := nI (oh_by w i)) (by rw [ei]; exact oh_by_y w (by omega)) ?_)
    refine pk_eq (oh_by w i) 0 (fun a => ?_) (fun a => ?_)
    · rw [if_pos a] at h
      unfold wY_put_57
      exact br_t (by rw [a]; rfl) (nm_r (nI_1 i) (yp_put d (i + 1) f s ch ytx (by omega) (by omega) hs hx h))
    · rw [if_neg a] at h
      refine pk_lt (oh_by w i) 32 (fun c => ?_) (fun c => pk_lt 126 (oh_by w i) (fun e => ?_) (fun e => pk_lt s 128 (fun g => ?_) (fun g => ?_)))
      · rw [if_pos (Or.inl c)] at h
        exact (h ytx hx).2 rfl
      · rw [if_pos (Or.inr (Or.inl e))] at h
        exact (h ytx hx).2 rfl
      · rw [if_neg (by omega)] at h
        unfold wY_put_57
        refine br_f (nI_ne0 (by omega) (by omega)) (nm_r (nI_1 s) ⟨vp_in_nI g (by omega), ?_⟩)
        rw [nI_clamp (by omega)]
        refine nm_e (nm_r (nI_1 i) (yp_put d (i + 1) f (s + 1) _ _ (by omega) (by omega) (by omega) (fun j => ?_) h))
        by_cases z : j = s
        · subst z; rw [pk_us]; simp
        · rw [pk_un z, hx j]; simp [z]
      · rw [if_pos (Or.inr (Or.inr g))] at h
        exact (h ytx hx).2 rfl
/-! words of the text -/
def oh_ls (v : Nat → Nat) (p : Nat) : Nat → Nat
  | 0 => 0
  | d + 1 => v p + 256 * oh_ls v (p + 1) d
end
theorem oh_ls_s (v : Nat → Nat) : ∀ (d p : Nat), oh_ls v p (d + 1) = oh_ls v p d + v (p + d) * 256 ^ d
  | 0, p => by simp [oh_ls]
  | d + 1, p => by
    have ih := oh_ls_s v d (p + 1)
    rw [show oh_ls v p (d + 1 + 1) = v p + 256 * oh_ls v (p + 1) (d + 1) from rfl, ih, show oh_ls v p (d + 1) = v p + 256 * oh_ls v (p + 1) d from rfl, Nat.pow_succ, show p + (d + 1) = p + 1 + d by omega, Nat.mul_add, Nat.mul_comm (256 ^ d) 256, Nat.mul_left_comm 256 (v (p + 1 + d)), ← Nat.add_assoc (v p)]
theorem oh_ls_le (v : Nat → Nat) (p : Nat) : ∀ k, oh_ls v p k = oh_le (oh_seg v p k)
  | 0 => rfl
  | k + 1 => by rw [oh_ls_s, oh_ls_le v p k, oh_seg, oh_le_s, oh_seg_len]
def oh_vt (ch : Nat → Nat) (n j : Nat) : Nat := if j < n then ch j else 0
theorem oh_ls_c {v v' : Nat → Nat} (p : Nat) : ∀ k, (∀ j, j < k → v (p + j) = v' (p + j)) → oh_ls v p k = oh_ls v' p k
  | 0, _ => rfl
  | k + 1, h => by rw [oh_ls_s, oh_ls_s, oh_ls_c p k (fun j hj => h j (by omega)), h k (by omega)]
theorem oh_ls_z {v : Nat → Nat} {p K : Nat} : ∀ d, (∀ j, K ≤ j → v (p + j) = 0) → oh_ls v p (K + d) = oh_ls v p K
  | 0, _ => rfl
  | d + 1, h => by rw [show K + (d + 1) = K + d + 1 by omega, oh_ls_s, oh_ls_z d h, h (K + d) (by omega), Nat.zero_mul, Nat.add_zero]
section
variable {xfw xlp xdy xrl xhz xhc xts xos xpd xtc xcu xbk xrt : Int32} {xdc xho xtx xou xtk xtv xki xst xdn xsn xdf xdt xsf xse : Nat → Int32} {xnm xds xtd xtm : Nat → Int64} {yfw ylp yrl yhd yts yos ylt yfc yru yps yrd ykp : Int32} {ytx you yfa yho : Nat → Int32} {ynm : Nat → Int64}
theorem xp_tw {post : Int64 → Prop} {ch : Nat → Nat} {n i : Nat} (hT : oh_T ch n) (hx : ∀ j, xtx j = nI (ch j)) (hi : i ≤ 15) (h : post (lN (oh_ls (oh_vt ch n) (8 * i) 8))) : ∀ (d k f : Nat), k + d = 8 → d < f → (8 * i + k ≤ n ∨ k = 0) → wX_textWord_17 post (nI i) xfw xlp xdy xrl xhz xhc (nI n) xos xpd xtc xcu xbk xrt xdc xho xtx xou xnm xtk xtv xki xst xdn xsn xdf xdt xsf xse xds xtd xtm f (lN (oh_le (oh_seg ch (8 * i) k))) (nI k)
  | d, k, 0, _, hf, _ => absurd hf (by omega)
  | d, k, f + 1, hd, hf, hk => by
    have hn := hT.1
    have e8 : (8 : Int32) * nI i + nI k = nI (8 * i + k) := by rw [show (8 : Int32) * nI i = nI (8 * i) from pk_mul 8 i, nI_add]
    have hend : k = 8 ∨ n ≤ 8 * i + k → post (lN (oh_le (oh_seg ch (8 * i) k))) := fun z => by
      have e : oh_ls (oh_vt ch n) (8 * i) 8 = oh_le (oh_seg ch (8 * i) k) := by
        rw [← oh_ls_le]
        rcases z with z | z
        · subst z
          exact oh_ls_c _ 8 (fun j hj => if_pos (by omega))
        · have := oh_ls_z (v := oh_vt ch n) (p := 8 * i) (K := k) (8 - k) (fun j hj => if_neg (by omega))
          rw [show k + (8 - k) = 8 by omega] at this
          rw [this]
          exact oh_ls_c _ k (fun j hj => if_pos (by omega))
      rw [e] at h; exact h
    rw [wX_textWord_17]
    refine pk_le 8 k (fun a => hend (Or.inl (by omega))) (fun a => pk_le n (8 * i + k) (fun c => hend (Or.inr c)) (fun c => ?_) (hy := e8))
    rw [e8, nI_clamp (by omega), hx]
    refine ⟨vp_in_nI (by omega) (by omega), nm_r (e' := lN (oh_le (oh_seg ch (8 * i) (k + 1)))) ?_ (nm_r (nI_1 k) (xp_tw hT hx hi h (d - 1) (k + 1) f (by omega) (by omega) (Or.inl (by omega))))⟩
    have ew := oh_wordX hT (p := 8 * i) (k := k) (by omega) (by omega)
    rw [pk_sub (by omega), show 8 * i + k - 8 * i = k by omega] at ew
    exact ew
theorem yp_tw {post : Int64 → Prop} {ch : Nat → Nat} {n i : Nat} (hn : n ≤ 128) (hc : ∀ j, ch j ≤ 126) (hx : ∀ j, ytx j = nI (ch j)) (hi : i ≤ 15) (h : post (lN (oh_ls (oh_vt ch n) (8 * i) 8))) : ∀ (k f : Nat), k ≤ 8 → k < f → wY_textWord_23 post (nI i) yfw ylp yrl yhd (nI n) yos ylt yfc yru yps yrd ykp ytx you yfa ynm yho f (lN (oh_ls (oh_vt ch n) (8 * i + k) (8 - k))) (nI (8 * i + k) - 1)
  | k, 0, _, hf => absurd hf (by omega)
  | 0, f + 1, _, _ => by
    have e8 : (8 : Int32) * nI i = nI (8 * i) := pk_mul 8 i
    have hlt : nI (8 * i + 0) - 1 < (8 : Int32) * nI i := by
      rw [e8, Nat.add_zero, Int32.lt_iff_toInt_lt]
      have := pk_sub_toInt (a := 8 * i) (b := 1) (by omega) (by omega)
      rw [show nI (8 * i) - 1 = nI (8 * i) - nI 1 from rfl, this, nI_toInt (by omega)]
      omega
    rw [wY_textWord_23]
    exact br_t hlt h
  | k + 1, f + 1, hk, hf => by
    have e8 : (8 : Int32) * nI i = nI (8 * i) := pk_mul 8 i
    have e1 : nI (8 * i + (k + 1)) - 1 = nI (8 * i + k) := pk_sub (a := 8 * i + (k + 1)) (b := 1) (by omega)
    have ih := yp_tw hn hc hx hi h k f (by omega) (by omega)
    have es : oh_ls (oh_vt ch n) (8 * i + k) (8 - k) = oh_vt ch n (8 * i + k) + 256 * oh_ls (oh_vt ch n) (8 * i + (k + 1)) (8 - (k + 1)) := by
      rw [show 8 - k = (8 - (k + 1)) + 1 by omega]; rfl
    have em : ∀ c : Nat, lN (oh_ls (oh_vt ch n) (8 * i + (k + 1)) (8 - (k + 1))) * 256 + lN c = lN (c + 256 * oh_ls (oh_vt ch n) (8 * i + (k + 1)) (8 - (k + 1))) := fun c => by
      rw [show lN (oh_ls (oh_vt ch n) (8 * i + (k + 1)) (8 - (k + 1))) * 256 = lN (oh_ls (oh_vt ch n) (8 * i + (k + 1)) (8 - (k + 1)) * 256) from lN_mul _ 256, lN_add]
      congr 1; omega
    have ed : nI (8 * i + k) + (-1) = nI (8 * i + k) - 1 := by
      rw [Int32.sub_eq_add_neg]
    rw [wY_textWord_23, e1, e8]
    refine pk_lt (8 * i + k) (8 * i) (fun a => absurd a (by omega)) (fun _ => pk_le n (8 * i + k) (fun c => ?_) (fun c => ⟨vp_in_nI (by omega) (by omega), ?_⟩))
    · have ev : oh_vt ch n (8 * i + k) = 0 := if_neg (by omega)
      rw [ev] at es
      refine nm_r (e' := lN (oh_ls (oh_vt ch n) (8 * i + k) (8 - k))) (by rw [es]; exact em 0) (nm_r ed ih)
    · have ev : oh_vt ch n (8 * i + k) = ch (8 * i + k) := if_pos (by omega)
      have := hc (8 * i + k)
      rw [ev] at es
      rw [nI_clamp (by omega), hx, nI_l (by omega)]
      refine nm_r (e' := lN (oh_ls (oh_vt ch n) (8 * i + k) (8 - k))) (by rw [es]; exact em _) (nm_r ed ih)
theorem oh_tw {x : Int32} {ch : Nat → Nat} {n : Nat} (hT : oh_T ch n) (hx : ∀ j, xtx j = nI (ch j)) (hy : ∀ j, ytx j = nI (ch j)) : ∃ r : Int64, (∀ post : Int64 → Prop, post r → wpX_textWord post (xfw, xlp, xdy, xrl, xhz, xhc, nI n, xos, xpd, xtc, xcu, xbk, xrt, xdc, xho, xtx, xou, xnm, xtk, xtv, xki, xst, xdn, xsn, xdf, xdt, xsf, xse, xds, xtd, xtm) x) ∧ (∀ post : Int64 → Prop, post r → wpY_textWord post (yfw, ylp, yrl, yhd, nI n, yos, ylt, yfc, yru, yps, yrd, ykp, ytx, you, yfa, ynm, yho) x) := by
  have hn := hT.1
  by_cases h0 : x < 0
  · refine ⟨0, fun post h => ?_, fun post h => ?_⟩
    · unfold wpX_textWord; dsimp only; exact br_t h0 h
    · unfold wpY_textWord; dsimp only; exact br_t h0 h
  · by_cases h15 : x ≤ 15
    · obtain ⟨i, hi, rfl⟩ := nI_of2 (n := 15) (by decide) h0 h15
      refine ⟨lN (oh_ls (oh_vt ch n) (8 * i) 8), fun post h => ?_, fun post h => ?_⟩
      · unfold wpX_textWord; dsimp only
        exact br_f h0 (br_t h15 ⟨9, xp_tw hT hx hi h 8 0 9 (by omega) (by omega) (Or.inr rfl)⟩)
      · unfold wpY_textWord; dsimp only
        refine br_f h0 (br_t h15 (nm_r (e' := nI (8 * i + 8) - 1) ?_ ⟨9, ?_⟩))
        · rw [show (8 : Int32) * nI i = nI (8 * i) from pk_mul 8 i, show nI (8 * i) + 7 = nI (8 * i + 7) from nI_add (8 * i) 7]
          exact (pk_sub (a := 8 * i + 8) (b := 1) (by omega)).symm
        · exact yp_tw hn hT.2.1 hy hi h 8 9 (by omega) (by omega)
    · refine ⟨0, fun post h => ?_, fun post h => ?_⟩
      · unfold wpX_textWord; dsimp only; exact br_f h0 (br_f h15 h)
      · unfold wpY_textWord; dsimp only; exact br_f h0 (br_f h15 h)
end
end
section
/-! ===== pure: what is printed ===== -/
def oh_em (s : Nat × (Nat → Int32)) (c : Nat) : Nat × (Nat → Int32) := (s.1 + 1, if s.1 < 128 then upd s.2 s.1 (nI c) else s.2)
def oh_es (s : Nat × (Nat → Int32)) (l : List Nat) : Nat × (Nat → Int32) := l.foldl oh_em s
theorem oh_es_a (s : Nat × (Nat → Int32)) (a b : List Nat) : oh_es (oh_es s a) b = oh_es s (a ++ b) := by unfold oh_es; rw [List.foldl_append]
theorem oh_es_0 (s : Nat × (Nat → Int32)) : oh_es s [] = s := rfl
theorem oh_es_1 : ∀ (l : List Nat) (s : Nat × (Nat → Int32)), (oh_es s l).1 = s.1 + l.length
  | [], s => rfl
  | c :: t, s => by
    have := oh_es_1 t (oh_em s c)
    show (oh_es (oh_em s c) t).1 = _
    rw [this, List.length_cons]
    show s.1 + 1 + t.length = _
    omega
def oh_NX : List (List Nat) := oh_NS ++ [[59, 32], [44, 32], [32, 124, 124, 32]]
def oh_nm (i : Nat) : List Nat := oh_NX.getD i []
theorem oh_nm_f : ∀ i, i < 27 → (∀ c, c ∈ oh_nm i → 0 < c ∧ c ≤ 126) ∧ (oh_nm i).length ≤ 7 := by decide +kernel
theorem oh_nm_x : ∀ i, i < 27 → ∀ k, k < 8 → oh_by (lN (oh_le (oh_nm i))) k = (oh_nm i).getD k 0 := by decide +kernel
theorem oh_nm_y : ∀ i, i < 27 → ∀ k, k < 7 → (lN (oh_be (oh_nm i)) >>> ((nI (8 * k)).toInt64 &&& 63)) &&& 255 = lN ((oh_nm i).reverse.getD k 0) := by decide +kernel
theorem oh_nm_NS : ∀ i, i < 24 → oh_nm i = oh_NS.getD i [] := by decide +kernel
def oh_s0 (c : Nat) : List Nat := if c = 0 then [] else [c]
def oh_tw2 (v : Nat) : List Nat := [48 + v / 10, 48 + v % 10]
def oh_pd (j lp : Nat) : Nat := if lp = 0 then 0 else if lp = j then 44 else 32
def oh_t1 (wh : Bool) (v : Nat) : List Nat := if wh then [] else 32 :: oh_tw2 v
def oh_d101 (sm wh : Bool) (a b : Nat) : List Nat := if sm && decide (a ≤ b) then [] else 45 :: (oh_nm (b / 32 - 1) ++ oh_t1 wh (b % 32))
def oh_d77 (sm wh : Bool) (a b : Nat) : List Nat := (if sm && (decide (a < b) && !wh) then 45 :: oh_tw2 (b % 32) else []) ++ oh_d101 sm wh a b
def oh_wh (a b : Nat) : Bool := decide (a % 32 = 1 ∧ b % 32 = oh_ml (b / 32) 1)
def oh_sm2 (a b : Nat) : Bool := decide (a / 32 = b / 32)
def oh_dl (ab : Nat × Nat) : List Nat := oh_nm (ab.1 / 32 - 1) ++ (oh_t1 (oh_wh ab.1 ab.2) (ab.1 % 32) ++ oh_d77 (oh_sm2 ab.1 ab.2) (oh_wh ab.1 ab.2) ab.1 ab.2)
def oh_bl (j : Nat) : Nat → List (List Nat) → List Nat
  | _, [] => []
  | lp, b :: t => (oh_s0 (oh_pd j lp) ++ b) ++ oh_bl j j t
def oh_lp (j lp : Nat) (bs : List (List Nat)) : Nat := if bs.isEmpty then lp else j
def oh_cl (e : Nat) : Nat := if e ≤ 48 then e else e - 48
def oh_sl (ab : Nat × Nat) : List Nat := oh_tw2 (ab.1 / 2) ++ (58 :: oh_tw2 (ab.1 % 2 * 30) ++ (45 :: oh_tw2 (oh_cl ab.2 / 2) ++ (58 :: oh_tw2 (oh_cl ab.2 % 2 * 30))))
def oh_nl (n : Nat) : List Nat := oh_nm (12 + n / 6) ++ ([91] ++ ((if n % 6 = 5 then [45, 49] else [49 + n % 6]) ++ [93]))
theorem oh_s0_len (c : Nat) : (oh_s0 c).length ≤ 1 := by unfold oh_s0; split <;> simp
theorem oh_tw2_len (v : Nat) : (oh_tw2 v).length = 2 := rfl
theorem oh_pd_lt (j lp : Nat) : oh_pd j lp < 256 := by unfold oh_pd; (repeat' split) <;> omega
theorem oh_t1_len (wh : Bool) (v : Nat) : (oh_t1 wh v).length ≤ 3 := by unfold oh_t1; split <;> simp [oh_tw2]
theorem oh_nm_len {i : Nat} (h : i < 27) : (oh_nm i).length ≤ 7 := (oh_nm_f i h).2
section
variable {xfw xlp xdy xrl xhz xhc xts xos xpd xtc xcu xbk xrt : Int32} {xdc xho xtx xou xtk xtv xki xst xdn xsn xdf xdt xsf xse : Nat → Int32} {xnm xds xtd xtm : Nat → Int64}
theorem xw_emit {post : SX → Prop} {s : Nat × (Nat → Int32)} {x : Int32} (c : Nat) (ex : x = nI c) (hs : s.1 ≤ 1000000) (hc : c < 256) (h : post (xfw, xlp, xdy, xrl, xhz, xhc, xts, nI (oh_es s (oh_s0 c)).1, xpd, xtc, xcu, xbk, xrt, xdc, xho, xtx, (oh_es s (oh_s0 c)).2, xnm, xtk, xtv, xki, xst, xdn, xsn, xdf, xdt, xsf, xse, xds, xtd, xtm)) : wpX_emit post (xfw, xlp, xdy, xrl, xhz, xhc, xts, nI s.1, xpd, xtc, xcu, xbk, xrt, xdc, xho, xtx, s.2, xnm, xtk, xtv, xki, xst, xdn, xsn, xdf, xdt, xsf, xse, xds, xtd, xtm) x := by
  subst ex
  unfold wpX_emit
  dsimp only
  unfold wX_emit_25
  unfold oh_s0 at h
  refine pk_eq c 0 (fun a => ?_) (fun a => ?_)
  · rw [if_pos a] at h
    exact br_t (by rw [a]; rfl) h
  · rw [if_neg a] at h
    have hn : ¬ nI c = 0 := nI_ne0 (by omega) (by omega)
    have e : oh_es s [c] = (s.1 + 1, if s.1 < 128 then upd s.2 s.1 (nI c) else s.2) := rfl
    rw [e] at h
    refine pk_le 128 s.1 (fun b => ?_) (fun b => ⟨vp_in_nI b (by omega), ?_⟩)
    · rw [if_neg (by omega)] at h
      exact br_f hn (nm_r (nI_1 _) h)
    · rw [if_pos b] at h
      rw [nI_clamp (by omega), oh_cast hc]
      exact nm_e (br_f hn (nm_r (nI_1 _) h))
theorem xw_w7 {post : SX → Prop} {i : Nat} (hi : i < 27) (hn : xnm i = lN (oh_le (oh_nm i))) : ∀ (d k f : Nat) (s : Nat × (Nat → Int32)), k + d = 8 → d < f → s.1 + d ≤ 1000000 → post (xfw, xlp, xdy, xrl, xhz, xhc, xts, nI (oh_es s ((oh_nm i).drop k)).1, 44, xtc, xcu, xbk, xrt, xdc, xho, xtx, (oh_es s ((oh_nm i).drop k)).2, xnm, xtk, xtv, xki, xst, xdn, xsn, xdf, xdt, xsf, xse, xds, xtd, xtm) → wX_write_7 post (nI i) f (nI (8 * k)) xfw xlp xdy xrl xhz xhc xts (nI s.1) xpd xtc xcu xbk xrt xdc xho xtx s.2 xnm xtk xtv xki xst xdn xsn xdf xdt xsf xse xds xtd xtm
  | d, k, 0, _, _, hf, _, _ => absurd hf (by omega)
  | 0, k, f + 1, s, hd, _, hs, h => by
    have : k = 8 := by omega
    subst this
    have hl := oh_nm_len hi
    rw [List.drop_eq_nil_of_le (by omega)] at h
    rw [wX_write_7]
    exact pk_le 64 64 (fun _ => h) (fun a => absurd a (by omega))
  | d + 1, k, f + 1, s, hd, hf, hs, h => by
    have hl := oh_nm_f i hi
    have hb := oh_nm_x i hi k (by omega)
    rw [wX_write_7]
    refine pk_le 64 (8 * k) (fun a => absurd a (by omega)) (fun _ => ⟨vp_in_nI (by omega) (by omega), ?_⟩)
    rw [nI_clamp (by omega), hn, oh_by_x, hb]
    refine xw_emit _ rfl (by omega) (by rw [← hb]; exact oh_by_lt _ _) ?_
    dsimp only
    refine nm_r (nI_add (8 * k) 8) ?_
    have h1 := oh_es_1 (oh_s0 ((oh_nm i).getD k 0)) s
    have h2 := oh_s0_len ((oh_nm i).getD k 0)
    refine xw_w7 hi hn d (k + 1) f (oh_es s (oh_s0 ((oh_nm i).getD k 0))) (by omega) (by omega) (by omega) ?_
    rw [oh_es_a]
    have e : oh_s0 ((oh_nm i).getD k 0) ++ (oh_nm i).drop (k + 1) = (oh_nm i).drop k := by
      rcases Nat.lt_or_ge k (oh_nm i).length with z | z
      · have := (hl.1 _ (oh_gM (d := 0) z)).1
        rw [oh_dropc 0 z]
        unfold oh_s0
        rw [if_neg (by omega)]; rfl
      · rw [oh_gN z, List.drop_eq_nil_of_le z, List.drop_eq_nil_of_le (by omega)]; rfl
    rw [e]; exact h
theorem xw_write {post : SX → Prop} {s : Nat × (Nat → Int32)} {x y : Int32} (c i : Nat) (ex : x = nI c) (ey : y = nI i) (hs : s.1 + 10 ≤ 1000000) (hc : c < 256) (hi : i < 27) (hn : ∀ i, i < 27 → xnm i = lN (oh_le (oh_nm i))) (h : post (xfw, xlp, xdy, xrl, xhz, xhc, xts, nI (oh_es s (oh_s0 c ++ oh_nm i)).1, 44, xtc, xcu, xbk, xrt, xdc, xho, xtx, (oh_es s (oh_s0 c ++ oh_nm i)).2, xnm, xtk, xtv, xki, xst, xdn, xsn, xdf, xdt, xsf, xse, xds, xtd, xtm)) : wpX_write post (xfw, xlp, xdy, xrl, xhz, xhc, xts, nI s.1, xpd, xtc, xcu, xbk, xrt, xdc, xho, xtx, s.2, xnm, xtk, xtv, xki, xst, xdn, xsn, xdf, xdt, xsf, xse, xds, xtd, xtm) x y := by
  subst ey
  have h1 := oh_es_1 (oh_s0 c) s
  have h2 := oh_s0_len c
  unfold wpX_write
  dsimp only
  refine xw_emit c ex (by omega) hc ?_
  dsimp only
  refine ⟨9, xw_w7 hi (hn i hi) 8 0 9 _ (by omega) (by omega) (by omega) ?_⟩
  rw [oh_es_a]; exact h
theorem xw_two {post : SX → Prop} {s : Nat × (Nat → Int32)} {x y : Int32} (c v : Nat) (ex : x = nI c) (ey : y = nI v) (hs : s.1 + 10 ≤ 1000000) (hc : c < 256) (hv : v < 100) (h : post (xfw, xlp, xdy, xrl, xhz, xhc, xts, nI (oh_es s (oh_s0 c ++ oh_tw2 v)).1, xpd, xtc, xcu, xbk, xrt, xdc, xho, xtx, (oh_es s (oh_s0 c ++ oh_tw2 v)).2, xnm, xtk, xtv, xki, xst, xdn, xsn, xdf, xdt, xsf, xse, xds, xtd, xtm)) : wpX_writeTwo post (xfw, xlp, xdy, xrl, xhz, xhc, xts, nI s.1, xpd, xtc, xcu, xbk, xrt, xdc, xho, xtx, s.2, xnm, xtk, xtv, xki, xst, xdn, xsn, xdf, xdt, xsf, xse, xds, xtd, xtm) x y := by
  subst ey
  have h1 := oh_es_1 (oh_s0 c) s
  have h2 := oh_s0_len c
  unfold wpX_writeTwo
  dsimp only
  refine xw_emit c ex (by omega) hc ?_
  dsimp only
  refine ⟨by decide, xw_emit (48 + v / 10) (by rw [oh_d10 (by omega)]; exact nI_add 48 _) (by omega) (by omega) ?_⟩
  dsimp only
  have e1 : oh_s0 (48 + v / 10) = [48 + v / 10] := if_neg (by omega)
  have e2 : oh_s0 (48 + v % 10) = [48 + v % 10] := if_neg (by omega)
  rw [e1]
  have h3 := oh_es_1 [48 + v / 10] (oh_es s (oh_s0 c))
  rw [List.length_singleton] at h3
  refine ⟨by decide, xw_emit (48 + v % 10) (by rw [oh_r10 (by omega)]; exact nI_add 48 _) (by omega) (by omega) ?_⟩
  rw [e2, oh_es_a, oh_es_a]
  exact h
theorem xw_101 {post : SX → Prop} {s : Nat × (Nat → Int32)} {a b : Nat} (sm wh : Bool) (ha : oh_vd a) (hb : oh_vd b) (hn : ∀ i, i < 27 → xnm i = lN (oh_le (oh_nm i))) (hs : s.1 + 20 ≤ 1000000) (h : post (xfw, xlp, xdy, xrl, xhz, xhc, xts, nI (oh_es s (oh_d101 sm wh a b)).1, 44, xtc, xcu, xbk, xrt, xdc, xho, xtx, (oh_es s (oh_d101 sm wh a b)).2, xnm, xtk, xtv, xki, xst, xdn, xsn, xdf, xdt, xsf, xse, xds, xtd, xtm)) : wX_writeDate_101 post (nI a) (nI b) (oh_bi sm) (oh_bi wh) xfw xlp xdy xrl xhz xhc xts (nI s.1) 44 xtc xcu xbk xrt xdc xho xtx s.2 xnm xtk xtv xki xst xdn xsn xdf xdt xsf xse xds xtd xtm := by
  have a5 := oh_vd_lt ha
  have b5 := oh_vd_lt hb
  unfold oh_vd at hb
  have h111 : oh_d101 sm wh a b = 45 :: (oh_nm (b / 32 - 1) ++ oh_t1 wh (b % 32)) → wX_writeDate_111 post (nI b) (oh_bi wh) xfw xlp xdy xrl xhz xhc xts (nI s.1) 44 xtc xcu xbk xrt xdc xho xtx s.2 xnm xtk xtv xki xst xdn xsn xdf xdt xsf xse xds xtd xtm := fun e => by
    rw [e] at h
    unfold wX_writeDate_111
    have hl := oh_nm_len (i := b / 32 - 1) (by omega)
    have h1 := oh_es_1 (oh_s0 45 ++ oh_nm (b / 32 - 1)) s
    rw [List.length_append] at h1
    have h2 := oh_s0_len 45
    refine ⟨by decide, xw_write 45 (b / 32 - 1) rfl (by rw [oh_d32 (by omega)]; exact pk_sub (a := b / 32) (b := 1) (by omega)) (by omega) (by omega) (by omega) hn ?_⟩
    dsimp only
    unfold oh_t1 at h
    refine oh_brbi (fun z => ⟨by decide, ?_⟩) (fun z => ?_)
    · rw [z, if_neg (by decide)] at h
      refine xw_two 32 (b % 32) rfl (oh_r32 (by omega)) (by omega) (by omega) (by omega) ?_
      rw [oh_es_a]
      exact h
    · rw [z, if_pos rfl, List.append_nil] at h
      exact h
  unfold wX_writeDate_101
  unfold oh_d101 at h h111
  refine oh_brbi (fun z => h111 (by rw [z]; rfl)) (fun z => pk_lt b a (fun y => h111 (by rw [decide_eq_false (show ¬ a ≤ b by omega), Bool.and_false]; rfl)) (fun y => ?_))
  rw [z, decide_eq_true (show a ≤ b by omega)] at h
  exact h
theorem xw_77 {post : SX → Prop} {s : Nat × (Nat → Int32)} {a b : Nat} (sm wh : Bool) (ha : oh_vd a) (hb : oh_vd b) (hn : ∀ i, i < 27 → xnm i = lN (oh_le (oh_nm i))) (hs : s.1 + 30 ≤ 1000000) (h : post (xfw, xlp, xdy, xrl, xhz, xhc, xts, nI (oh_es s (oh_d77 sm wh a b)).1, 44, xtc, xcu, xbk, xrt, xdc, xho, xtx, (oh_es s (oh_d77 sm wh a b)).2, xnm, xtk, xtv, xki, xst, xdn, xsn, xdf, xdt, xsf, xse, xds, xtd, xtm)) : wX_writeDate_77 post (nI a) (nI b) (oh_bi sm) (oh_bi wh) xfw xlp xdy xrl xhz xhc xts (nI s.1) 44 xtc xcu xbk xrt xdc xho xtx s.2 xnm xtk xtv xki xst xdn xsn xdf xdt xsf xse xds xtd xtm := by
  have a5 := oh_vd_lt ha
  have b5 := oh_vd_lt hb
  have h0 : (sm && (decide (a < b) && !wh)) = false → wX_writeDate_101 post (nI a) (nI b) (oh_bi sm) (oh_bi wh) xfw xlp xdy xrl xhz xhc xts (nI s.1) 44 xtc xcu xbk xrt xdc xho xtx s.2 xnm xtk xtv xki xst xdn xsn xdf xdt xsf xse xds xtd xtm := fun e => by
    unfold oh_d77 at h
    rw [e] at h
    exact xw_101 sm wh ha hb hn (by omega) h
  unfold wX_writeDate_77
  refine oh_brbi (fun z => h0 (by rw [z]; rfl)) (fun z => pk_le b a (fun y => h0 (by rw [decide_eq_false (show ¬ a < b by omega), Bool.false_and, Bool.and_false])) (fun y => oh_brbi (fun w => ⟨by decide, ?_⟩) (fun w => h0 (by rw [w, Bool.not_true, Bool.and_false, Bool.and_false]))))
  unfold oh_d77 at h
  rw [z, w, decide_eq_true y] at h
  have h1 := oh_es_1 (oh_s0 45 ++ oh_tw2 (b % 32)) s
  rw [List.length_append, oh_tw2_len] at h1
  have h2 := oh_s0_len 45
  refine xw_two 45 (b % 32) rfl (oh_r32 (by omega)) (by omega) (by omega) (by omega) ?_
  dsimp only
  refine xw_101 sm wh ha hb hn (by omega) ?_
  rw [oh_es_a, z, w]
  exact h
theorem xw_46 {post : SX → Prop} {s : Nat × (Nat → Int32)} {a b c : Nat} (sm wh : Bool) (hc : c < 256) (ha : oh_vd a) (hb : oh_vd b) (hn : ∀ i, i < 27 → xnm i = lN (oh_le (oh_nm i))) (hs : s.1 + 60 ≤ 1000000) (h : post (xfw, xlp, xdy, xrl, xhz, xhc, xts, nI (oh_es s (oh_s0 c ++ (oh_nm (a / 32 - 1) ++ (oh_t1 wh (a % 32) ++ oh_d77 sm wh a b)))).1, 44, xtc, xcu, xbk, xrt, xdc, xho, xtx, (oh_es s (oh_s0 c ++ (oh_nm (a / 32 - 1) ++ (oh_t1 wh (a % 32) ++ oh_d77 sm wh a b)))).2, xnm, xtk, xtv, xki, xst, xdn, xsn, xdf, xdt, xsf, xse, xds, xtd, xtm)) : wX_writeDate_46 post (nI a) (nI b) (oh_bi sm) (oh_bi wh) xfw xlp xdy xrl xhz xhc xts (nI s.1) (nI c) xtc xcu xbk xrt xdc xho xtx s.2 xnm xtk xtv xki xst xdn xsn xdf xdt xsf xse xds xtd xtm := by
  have a5 := oh_vd_lt ha
  have hl := oh_nm_len (i := a / 32 - 1) (by unfold oh_vd at ha; omega)
  have h2 := oh_s0_len c
  have h1 := oh_es_1 (oh_s0 c ++ oh_nm (a / 32 - 1)) s
  rw [List.length_append] at h1
  unfold wX_writeDate_46
  refine ⟨by decide, xw_write c (a / 32 - 1) rfl (by rw [oh_d32 (by omega)]; exact pk_sub (a := a / 32) (b := 1) (by omega)) (by omega) hc (by unfold oh_vd at ha; omega) hn ?_⟩
  dsimp only
  refine oh_brbi (fun z => ⟨by decide, ?_⟩) (fun z => ?_)
  · have h3 := oh_es_1 (oh_s0 32 ++ oh_tw2 (a % 32)) (oh_es s (oh_s0 c ++ oh_nm (a / 32 - 1)))
    rw [List.length_append, oh_tw2_len] at h3
    have h4 := oh_s0_len 32
    refine xw_two 32 (a % 32) rfl (oh_r32 (by omega)) (by omega) (by omega) (by omega) ?_
    dsimp only
    refine xw_77 sm wh ha hb hn (by omega) ?_
    rw [oh_es_a, oh_es_a]
    have e : oh_t1 wh (a % 32) = oh_s0 32 ++ oh_tw2 (a % 32) := by rw [z]; rfl
    rw [e] at h
    simp only [List.append_assoc] at h ⊢
    exact h
  · refine xw_77 sm wh ha hb hn (by omega) ?_
    rw [oh_es_a]
    have e : oh_t1 wh (a % 32) = [] := by rw [z]; rfl
    rw [e, List.nil_append] at h
    simp only [List.append_assoc] at h ⊢
    exact h
theorem xw_date {post : SX → Prop} {s : Nat × (Nat → Int32)} {a b c : Nat} {x y : Int32} (ex : x = nI a) (ey : y = nI b) (hc : c < 256) (ha : oh_vd a) (hb : oh_vd b) (hn : ∀ i, i < 27 → xnm i = lN (oh_le (oh_nm i))) (hs : s.1 + 60 ≤ 1000000) (h : post (xfw, xlp, xdy, xrl, xhz, xhc, xts, nI (oh_es s (oh_s0 c ++ oh_dl (a, b))).1, 44, xtc, xcu, xbk, xrt, xdc, xho, xtx, (oh_es s (oh_s0 c ++ oh_dl (a, b))).2, xnm, xtk, xtv, xki, xst, xdn, xsn, xdf, xdt, xsf, xse, xds, xtd, xtm)) : wpX_writeDate post (xfw, xlp, xdy, xrl, xhz, xhc, xts, nI s.1, nI c, xtc, xcu, xbk, xrt, xdc, xho, xtx, s.2, xnm, xtk, xtv, xki, xst, xdn, xsn, xdf, xdt, xsf, xse, xds, xtd, xtm) x y := by
  subst ex ey
  have a5 := oh_vd_lt ha
  have b5 := oh_vd_lt hb
  have hml := oh_ml_in (b / 32) 1 (by omega)
  have h16 : ∀ sm, sm = oh_sm2 a b → wX_writeDate_16 post (nI a) (nI b) (oh_bi sm) xfw xlp xdy xrl xhz xhc xts (nI s.1) (nI c) xtc xcu xbk xrt xdc xho xtx s.2 xnm xtk xtv xki xst xdn xsn xdf xdt xsf xse xds xtd xtm := fun sm esm => by
    unfold wX_writeDate_16
    have h46 : ∀ wh, wh = oh_wh a b → wX_writeDate_46 post (nI a) (nI b) (oh_bi sm) (oh_bi wh) xfw xlp xdy xrl xhz xhc xts (nI s.1) (nI c) xtc xcu xbk xrt xdc xho xtx s.2 xnm xtk xtv xki xst xdn xsn xdf xdt xsf xse xds xtd xtm := fun wh ewh => by
      refine xw_46 sm wh hc ha hb hn hs ?_
      rw [esm, ewh]
      exact h
    have hb' := hb
    unfold oh_vd at hb'
    rw [oh_r32 (a := a) (by omega)]
    refine ⟨by decide, pk_eq (a % 32) 1 (fun z => ⟨by decide, by decide, ?_⟩) (fun z => h46 false (by unfold oh_wh; exact (decide_eq_false (fun q => z q.1)).symm))⟩
    refine xl_ml (b / 32) 1 (oh_d32 (by omega)) rfl (by omega) (by omega) (by omega) ?_
    rw [oh_r32 (a := b) (by omega)]
    exact pk_eq (b % 32) (oh_ml (b / 32) 1) (fun y => h46 true (by unfold oh_wh; exact (decide_eq_true ⟨z, y⟩).symm)) (fun y => h46 false (by unfold oh_wh; exact (decide_eq_false (fun q => y q.2)).symm))
  unfold wpX_writeDate
  dsimp only
  rw [oh_d32 (a := a) (by omega), oh_d32 (a := b) (by omega)]
  exact ⟨by decide, by decide, pk_eq (a / 32) (b / 32) (fun z => h16 true (by unfold oh_sm2; exact (decide_eq_true z).symm)) (fun z => h16 false (by unfold oh_sm2; exact (decide_eq_false z).symm))⟩
theorem xw_span {post : SX → Prop} {s : Nat × (Nat → Int32)} {a b c : Nat} {x y : Int32} (ex : x = nI a) (ey : y = nI b) (hc : c < 256) (ha : a ≤ 47) (hb : b ≤ 95) (hs : s.1 + 60 ≤ 1000000) (h : post (xfw, xlp, xdy, xrl, xhz, xhc, xts, nI (oh_es s (oh_s0 c ++ oh_sl (a, b))).1, 44, xtc, xcu, xbk, xrt, xdc, xho, xtx, (oh_es s (oh_s0 c ++ oh_sl (a, b))).2, xnm, xtk, xtv, xki, xst, xdn, xsn, xdf, xdt, xsf, xse, xds, xtd, xtm)) : wpX_writeSpan post (xfw, xlp, xdy, xrl, xhz, xhc, xts, nI s.1, nI c, xtc, xcu, xbk, xrt, xdc, xho, xtx, s.2, xnm, xtk, xtv, xki, xst, xdn, xsn, xdf, xdt, xsf, xse, xds, xtd, xtm) x y := by
  subst ex ey
  have h14 : ∀ e, oh_cl b = e → e ≤ 48 → wX_writeSpan_14 post (nI a) (nI e) xfw xlp xdy xrl xhz xhc xts (nI s.1) (nI c) xtc xcu xbk xrt xdc xho xtx s.2 xnm xtk xtv xki xst xdn xsn xdf xdt xsf xse xds xtd xtm := fun e he he2 => by
    have l1 := oh_es_1 (oh_s0 c ++ oh_tw2 (a / 2)) s
    rw [List.length_append, oh_tw2_len] at l1
    have l2 := oh_s0_len c
    unfold wX_writeSpan_14
    refine ⟨by decide, xw_two c (a / 2) rfl (oh_d2 (by omega)) (by omega) hc (by omega) ?_⟩
    dsimp only
    refine ⟨by decide, xw_two 58 (a % 2 * 30) rfl (by rw [oh_r2 (by omega)]; exact pk_mul _ 30) (by omega) (by omega) (by omega) ?_⟩
    dsimp only
    rw [oh_es_a]
    have l3 := oh_es_1 (oh_s0 c ++ oh_tw2 (a / 2) ++ (oh_s0 58 ++ oh_tw2 (a % 2 * 30))) s
    simp only [List.length_append, oh_tw2_len] at l3
    have l4 := oh_s0_len 58
    refine ⟨by decide, xw_two 45 (e / 2) rfl (oh_d2 (by omega)) (by omega) (by omega) (by omega) ?_⟩
    dsimp only
    rw [oh_es_a]
    have l5 := oh_es_1 (oh_s0 c ++ oh_tw2 (a / 2) ++ (oh_s0 58 ++ oh_tw2 (a % 2 * 30)) ++ (oh_s0 45 ++ oh_tw2 (e / 2))) s
    simp only [List.length_append, oh_tw2_len] at l5
    have l6 := oh_s0_len 45
    refine ⟨by decide, xw_two 58 (e % 2 * 30) rfl (by rw [oh_r2 (by omega)]; exact pk_mul _ 30) (by omega) (by omega) (by omega) ?_⟩
    dsimp only
    rw [oh_es_a]
    unfold oh_sl at h
    dsimp only at h
    rw [he] at h
    have e5 : oh_s0 58 = [58] := rfl
    have e6 : oh_s0 45 = [45] := rfl
    rw [e5, e6]
    simp only [List.append_assoc, List.cons_append, List.nil_append] at h ⊢
    exact h
  unfold wpX_writeSpan
  dsimp only
  refine pk_le b 48 (fun z => h14 b (if_pos z) z) (fun z => ?_)
  rw [show nI b - 48 = nI (b - 48) from pk_sub (a := b) (b := 48) (by omega)]
  exact h14 (b - 48) (if_neg (by omega)) (by omega)
end
end
section
/-! ===== pure: the days of a rule, its whole text ===== -/
def oh_ax (W : Nat → Bool) : Nat → Nat → List (Bool × Nat)
  | 0, _ => []
  | e + 1, d => if W d && !((decide (0 < d) && W (d - 1)) && (decide (d < 6) && W (d + 1))) then ((decide (0 < d) && W (d - 1)), d) :: oh_ax W e (d + 1) else oh_ax W e (d + 1)
def oh_dm : Nat → List (Bool × Nat) → List Nat
  | _, [] => []
  | lp, a :: t => ((if a.1 then [45] else oh_s0 (oh_pd 2 lp)) ++ oh_nm (12 + a.2)) ++ oh_dm 2 t
def oh_re (W : Nat → Bool) : Nat → Nat → Nat
  | 0, e => e
  | d + 1, e => if W (e + 1) then oh_re W d (e + 1) else e
def oh_rp (W : Nat → Bool) : Nat → Nat → List (Nat × Nat)
  | 0, _ => []
  | e + 1, w => if W w && !(decide (0 < w) && W (w - 1)) then (w, oh_re W (6 - w) w) :: oh_rp W e (w + 1) else oh_rp W e (w + 1)
def oh_rn (we : Nat × Nat) : List Nat := oh_nm (12 + we.1) ++ (if we.1 < we.2 then 45 :: oh_nm (12 + we.2) else [])
def oh_fl : List (Nat × Nat) → List (Bool × Nat)
  | [] => []
  | we :: t => (false, we.1) :: ((if we.1 < we.2 then [(true, we.2)] else []) ++ oh_fl t)
theorem oh_ax_b : ∀ b0 b1 b2 b3 b4 b5 b6 : Bool, oh_ax (fun d => [b0, b1, b2, b3, b4, b5, b6].getD d false) 7 0 = oh_fl (oh_rp (fun d => [b0, b1, b2, b3, b4, b5, b6].getD d false) 7 0) := by decide +kernel
theorem oh_ax_c {W W' : Nat → Bool} (h : ∀ d, d < 7 → W d = W' d) : ∀ e d, d + e = 7 → oh_ax W e d = oh_ax W' e d
  | 0, d, _ => rfl
  | e + 1, d, hd => by
    have e1 : (decide (0 < d) && W (d - 1)) = (decide (0 < d) && W' (d - 1)) := by rw [h (d - 1) (by omega)]
    have e2 : (decide (d < 6) && W (d + 1)) = (decide (d < 6) && W' (d + 1)) := by
      by_cases z : d < 6
      · rw [h (d + 1) (by omega)]
      · rw [decide_eq_false z]; rfl
    rw [oh_ax, oh_ax, h d (by omega), e1, e2, oh_ax_c h e (d + 1) (by omega)]
theorem oh_re_c {W W' : Nat → Bool} (h : ∀ d, d < 7 → W d = W' d) : ∀ d e, e + d = 6 → oh_re W d e = oh_re W' d e
  | 0, e, _ => rfl
  | d + 1, e, hd => by rw [oh_re, oh_re, h (e + 1) (by omega), oh_re_c h d (e + 1) (by omega)]
theorem oh_rp_c {W W' : Nat → Bool} (h : ∀ d, d < 7 → W d = W' d) : ∀ e w, w + e = 7 → oh_rp W e w = oh_rp W' e w
  | 0, w, _ => rfl
  | e + 1, w, hd => by
    have e1 : (decide (0 < w) && W (w - 1)) = (decide (0 < w) && W' (w - 1)) := by rw [h (w - 1) (by omega)]
    rw [oh_rp, oh_rp, h w (by omega), e1, oh_re_c h (6 - w) w (by omega), oh_rp_c h e (w + 1) (by omega)]
theorem oh_ax_rp (W : Nat → Bool) : oh_ax W 7 0 = oh_fl (oh_rp W 7 0) := by
  have h : ∀ d, d < 7 → W d = (fun d => [W 0, W 1, W 2, W 3, W 4, W 5, W 6].getD d false) d := fun d hd => by
    rcases (show d = 0 ∨ d = 1 ∨ d = 2 ∨ d = 3 ∨ d = 4 ∨ d = 5 ∨ d = 6 by omega) with z | z | z | z | z | z | z <;> subst z <;> rfl
  rw [oh_ax_c h 7 0 (by omega), oh_rp_c h 7 0 (by omega)]
  exact oh_ax_b _ _ _ _ _ _ _
theorem oh_dm_fl : ∀ (l : List (Nat × Nat)) (lp : Nat), oh_dm lp (oh_fl l) = oh_bl 2 lp (l.map oh_rn)
  | [], lp => rfl
  | we :: t, lp => by
    rw [oh_fl, oh_dm, List.map_cons, oh_bl]
    rw [if_neg (show ¬ (false = true) by decide)]
    by_cases z : we.1 < we.2
    · have e1 : oh_dm 2 ((if we.1 < we.2 then [(true, we.2)] else []) ++ oh_fl t) = ([45] ++ oh_nm (12 + we.2)) ++ oh_dm 2 (oh_fl t) := by
        rw [if_pos z]; rfl
      have e2 : oh_rn we = oh_nm (12 + we.1) ++ (45 :: oh_nm (12 + we.2)) := by unfold oh_rn; rw [if_pos z]
      rw [e1, e2, oh_dm_fl t 2]
      simp only [List.append_assoc, List.cons_append, List.nil_append]
    · have e1 : oh_dm 2 ((if we.1 < we.2 then [(true, we.2)] else []) ++ oh_fl t) = oh_dm 2 (oh_fl t) := by
        rw [if_neg z]; rfl
      have e2 : oh_rn we = oh_nm (12 + we.1) := by unfold oh_rn; rw [if_neg z, List.append_nil]
      rw [e1, e2, oh_dm_fl t 2]
theorem oh_fl_e (l : List (Nat × Nat)) : (oh_fl l).isEmpty = (l.map oh_rn).isEmpty := by cases l <;> rfl
theorem oh_bl_a (j : Nat) : ∀ (a b : List (List Nat)) (lp : Nat), oh_bl j lp (a ++ b) = oh_bl j lp a ++ oh_bl j (oh_lp j lp a) b
  | [], b, lp => rfl
  | x :: t, b, lp => by
    have : oh_lp j j t = j := by unfold oh_lp; split <;> rfl
    rw [List.cons_append, oh_bl, oh_bl, oh_bl_a j t b j, this, show oh_lp j lp (x :: t) = j from rfl]
    simp only [List.append_assoc]
theorem oh_lp_a (j lp : Nat) (a b : List (List Nat)) : oh_lp j (oh_lp j lp a) b = oh_lp j lp (a ++ b) := by
  cases a with
  | nil => rfl
  | cons x t => cases b <;> rfl
def oh_nb (V : Nat → Bool) : Nat → Nat → List (List Nat)
  | 0, _ => []
  | e + 1, n => if V n then oh_nl n :: oh_nb V e (n + 1) else oh_nb V e (n + 1)
def oh_W (S : Nat → List (Nat × Nat)) (d : Nat) : Bool := (S 2).any (oh_wk d)
def oh_V (S : Nat → List (Nat × Nat)) (n : Nat) : Bool := (S 3).any (oh_nt (n / 6) (n % 6 + 1))
def oh_ph (S : Nat → List (Nat × Nat)) : List (List Nat) := if (S 4).isEmpty then [] else [oh_nm 19]
def oh_DB (S : Nat → List (Nat × Nat)) : List (List Nat) := (oh_rp (oh_W S) 7 0).map oh_rn ++ (oh_nb (oh_V S) 42 0 ++ oh_ph S)
def oh_fn (lp st : Nat) (fo : Bool) : List Nat := if ¬ st = 1 ∨ lp = 0 ∨ fo = true then oh_s0 (oh_pd 4 lp) ++ oh_nm (20 + st) else []
def oh_q3 (S : Nat → List (Nat × Nat)) (lp : Nat) (fo : Bool) : List Nat := oh_bl 3 lp ((S 5).map oh_sl) ++ oh_fn (oh_lp 3 lp ((S 5).map oh_sl)) (oh_so (S 6)) fo
def oh_q2 (S : Nat → List (Nat × Nat)) (lp : Nat) (fo : Bool) : List Nat := oh_bl 2 lp (oh_DB S) ++ oh_q3 S (oh_lp 2 lp (oh_DB S)) fo
def oh_rt (S : Nat → List (Nat × Nat)) (r : Nat) (fo : Bool) : List Nat := (if r = 0 then [] else oh_nm (24 + (((S 0).getD 0 (0, 0)).1))) ++ (oh_bl 1 0 ((S 1).map oh_dl) ++ oh_q2 S (oh_lp 1 0 ((S 1).map oh_dl)) fo)
end
section
/-! ===== X: writeDays, writeRule ===== -/
theorem oh_bl_len {j B : Nat} : ∀ (bs : List (List Nat)) (lp : Nat), (∀ b, b ∈ bs → b.length ≤ B) → (oh_bl j lp bs).length ≤ bs.length * (B + 1)
  | [], lp, _ => by simp [oh_bl]
  | b :: t, lp, h => by
    have ih := oh_bl_len (j := j) (B := B) t j (fun x hx => h x (List.mem_cons_of_mem _ hx))
    have h1 := h b List.mem_cons_self
    have h2 := oh_s0_len (oh_pd j lp)
    rw [oh_bl, List.length_append, List.length_append, List.length_cons, Nat.add_mul]
    omega
theorem oh_nl_len {n : Nat} (h : n < 42) : (oh_nl n).length ≤ 11 := by
  have := oh_nm_len (i := 12 + n / 6) (by omega)
  unfold oh_nl
  split <;> simp <;> omega
theorem oh_nb_in {V : Nat → Bool} : ∀ (e n : Nat), n + e = 42 → (oh_nb V e n).length ≤ e ∧ ∀ b, b ∈ oh_nb V e n → ∃ k, k < 42 ∧ b = oh_nl k
  | 0, n, _ => ⟨by simp [oh_nb], fun b hb => absurd hb List.not_mem_nil⟩
  | e + 1, n, h => by
    have ih := oh_nb_in (V := V) e (n + 1) (by omega)
    rw [oh_nb]
    split
    · refine ⟨by rw [List.length_cons]; omega, fun b hb => ?_⟩
      rcases List.mem_cons.mp hb with z | z
      · exact ⟨n, by omega, z⟩
      · exact ih.2 b z
    · exact ⟨by omega, ih.2⟩
theorem oh_re_le (W : Nat → Bool) : ∀ d e, e ≤ oh_re W d e ∧ oh_re W d e ≤ e + d
  | 0, e => by simp [oh_re]
  | d + 1, e => by
    have := oh_re_le W d (e + 1)
    rw [oh_re]
    split <;> omega
theorem oh_rp_in {W : Nat → Bool} : ∀ (e w : Nat), w + e = 7 → (oh_rp W e w).length ≤ e ∧ ∀ p, p ∈ oh_rp W e w → p.1 < 7 ∧ p.2 < 7
  | 0, w, _ => ⟨by simp [oh_rp], fun b hb => absurd hb List.not_mem_nil⟩
  | e + 1, w, h => by
    have ih := oh_rp_in (W := W) e (w + 1) (by omega)
    have hr := oh_re_le W (6 - w) w
    rw [oh_rp]
    split
    · refine ⟨by rw [List.length_cons]; omega, fun b hb => ?_⟩
      rcases List.mem_cons.mp hb with z | z
      · rw [z]; exact ⟨by dsimp only; omega, by dsimp only; omega⟩
      · exact ih.2 b z
    · exact ⟨by omega, ih.2⟩
theorem oh_rn_len {p : Nat × Nat} (h1 : p.1 < 7) (h2 : p.2 < 7) : (oh_rn p).length ≤ 15 := by
  have := oh_nm_len (i := 12 + p.1) (by omega)
  have := oh_nm_len (i := 12 + p.2) (by omega)
  unfold oh_rn
  rw [List.length_append]
  split <;> simp <;> omega
theorem oh_lp_jj (j : Nat) (bs : List (List Nat)) : oh_lp j j bs = j := by unfold oh_lp; split <;> rfl
theorem oh_pd_2 : nI (oh_pd 2 2) = 44 := rfl
section
variable {xfw xlp xdy xrl xhz xhc xts xos xpd xtc xcu xbk xrt : Int32} {xdc xho xtx xou xtk xtv xki xst xdn xsn xdf xdt xsf xse : Nat → Int32} {xnm xds xtd xtm : Nat → Int64}
theorem xw_nth {post : SX → Prop} {s : Nat × (Nat → Int32)} {c n : Nat} (hc : c < 256) (hn : n < 42) (hnm : ∀ i, i < 27 → xnm i = lN (oh_le (oh_nm i))) (hs : s.1 + 30 ≤ 1000000) (h : post (xfw, xlp, xdy, xrl, xhz, xhc, xts, nI (oh_es s (oh_s0 c ++ oh_nl n)).1, 44, xtc, xcu, xbk, xrt, xdc, xho, xtx, (oh_es s (oh_s0 c ++ oh_nl n)).2, xnm, xtk, xtv, xki, xst, xdn, xsn, xdf, xdt, xsf, xse, xds, xtd, xtm)) : wpX_writeNth post (xfw, xlp, xdy, xrl, xhz, xhc, xts, nI s.1, nI c, xtc, xcu, xbk, xrt, xdc, xho, xtx, s.2, xnm, xtk, xtv, xki, xst, xdn, xsn, xdf, xdt, xsf, xse, xds, xtd, xtm) (nI n) := by
  have hl := oh_nm_len (i := 12 + n / 6) (by omega)
  have h2 := oh_s0_len c
  have h1 := oh_es_1 (oh_s0 c ++ oh_nm (12 + n / 6)) s
  rw [List.length_append] at h1
  unfold wpX_writeNth
  dsimp only
  refine ⟨by decide, xw_write c (12 + n / 6) rfl (by rw [oh_d6 (by omega)]; exact nI_add 12 _) (by omega) hc (by omega) hnm ?_⟩
  dsimp only
  refine xw_emit 91 rfl (by omega) (by omega) ?_
  dsimp only
  rw [oh_es_a, oh_r6 (by omega)]
  have e91 : oh_s0 91 = [91] := rfl
  rw [e91]
  have h3 := oh_es_1 (oh_s0 c ++ oh_nm (12 + n / 6) ++ [91]) s
  simp only [List.length_append, List.length_singleton] at h3
  unfold oh_nl at h
  have h35 : ∀ (s1 : Nat × (Nat → Int32)) (v : Nat), v = (if n % 6 = 5 then 49 else 49 + n % 6) → s1.1 + 5 ≤ 1000000 → post (xfw, xlp, xdy, xrl, xhz, xhc, xts, nI (oh_es s1 [v, 93]).1, 44, xtc, xcu, xbk, xrt, xdc, xho, xtx, (oh_es s1 [v, 93]).2, xnm, xtk, xtv, xki, xst, xdn, xsn, xdf, xdt, xsf, xse, xds, xtd, xtm) → wX_writeNth_35 post (nI n) xfw xlp xdy xrl xhz xhc xts (nI s1.1) 44 xtc xcu xbk xrt xdc xho xtx s1.2 xnm xtk xtv xki xst xdn xsn xdf xdt xsf xse xds xtd xtm := fun s1 v ev hs1 hp => by
    have h56 : ∀ x : Int32, x = nI v → wX_writeNth_56 post x xfw xlp xdy xrl xhz xhc xts (nI s1.1) 44 xtc xcu xbk xrt xdc xho xtx s1.2 xnm xtk xtv xki xst xdn xsn xdf xdt xsf xse xds xtd xtm := fun x ex => by
      unfold wX_writeNth_56
      have v0 : 0 < v ∧ v < 60 := by split at ev <;> omega
      refine xw_emit v ex (by omega) (by omega) ?_
      dsimp only
      have ev0 : oh_s0 v = [v] := if_neg (by omega)
      rw [ev0]
      have h4 := oh_es_1 [v] s1
      rw [List.length_singleton] at h4
      refine xw_emit 93 rfl (by omega) (by omega) ?_
      rw [oh_es_a]
      exact hp
    unfold wX_writeNth_35
    rw [oh_r6 (by omega)]
    refine ⟨by decide, pk_eq (n % 6) 5 (fun z => h56 _ (by rw [ev, if_pos z]; rfl)) (fun z => ⟨by decide, h56 _ (by rw [ev, if_neg z]; exact nI_add 49 _)⟩)⟩
  refine ⟨by decide, pk_eq (n % 6) 5 (fun z => ?_) (fun z => ?_)⟩
  · rw [if_pos z] at h
    refine xw_emit 45 rfl (by omega) (by omega) ?_
    dsimp only
    rw [oh_es_a]
    have e45 : oh_s0 45 = [45] := rfl
    rw [e45]
    have h4 := oh_es_1 (oh_s0 c ++ oh_nm (12 + n / 6) ++ [91] ++ [45]) s
    simp only [List.length_append, List.length_singleton] at h4
    refine h35 _ 49 (by rw [if_pos z]) (by omega) ?_
    rw [oh_es_a]
    simp only [List.append_assoc, List.cons_append, List.nil_append] at h ⊢
    exact h
  · rw [if_neg z] at h
    refine h35 _ (49 + n % 6) (by rw [if_neg z]) (by omega) ?_
    rw [oh_es_a]
    simp only [List.append_assoc, List.cons_append, List.nil_append] at h ⊢
    exact h
theorem xw_103 {post : SX → Prop} {w : Int64} {V : Nat → Bool} {P : Bool} (hV : ∀ n, n < 42 → oh_b w (8 + n) = V n) (hP : oh_b w 7 = P) (hnm : ∀ i, i < 27 → xnm i = lN (oh_le (oh_nm i))) : ∀ (e n f lp : Nat) (s : Nat × (Nat → Int32)), n + e = 42 → e < f → s.1 + 12 * e + 30 ≤ 1000000 → post (xfw, xlp, xdy, xrl, xhz, xhc, xts, nI (oh_es s (oh_bl 2 lp (oh_nb V e n ++ (if P then [oh_nm 19] else [])))).1, nI (oh_pd 2 (oh_lp 2 lp (oh_nb V e n ++ (if P then [oh_nm 19] else [])))), xtc, xcu, xbk, xrt, xdc, xho, xtx, (oh_es s (oh_bl 2 lp (oh_nb V e n ++ (if P then [oh_nm 19] else [])))).2, xnm, xtk, xtv, xki, xst, xdn, xsn, xdf, xdt, xsf, xse, xds, xtd, xtm) → wX_writeDays_103 post w f (nI n) xfw xlp xdy xrl xhz xhc xts (nI s.1) (nI (oh_pd 2 lp)) xtc xcu xbk xrt xdc xho xtx s.2 xnm xtk xtv xki xst xdn xsn xdf xdt xsf xse xds xtd xtm
  | e, n, 0, _, _, _, hf, _, _ => absurd hf (by omega)
  | 0, n, f + 1, lp, s, he, _, hs, h => by
    have hpd := oh_pd_lt 2 lp
    rw [wX_writeDays_103]
    refine pk_le 42 n (fun _ => ?_) (fun a => absurd a (by omega))
    rw [oh_nb, List.nil_append] at h
    refine xe_has 7 rfl (by omega) (fun z => ?_) (fun z => ?_)
    · rw [hP] at z
      rw [z] at h
      exact h
    · rw [hP] at z
      rw [z] at h
      refine xw_write (oh_pd 2 lp) 19 rfl rfl (by omega) hpd (by omega) hnm ?_
      rw [if_pos rfl] at h
      have e2 : oh_bl 2 lp [oh_nm 19] = oh_s0 (oh_pd 2 lp) ++ oh_nm 19 := by rw [oh_bl, oh_bl, List.append_nil]
      rw [e2] at h
      exact h
  | e + 1, n, f + 1, lp, s, he, hf, hs, h => by
    have hpd := oh_pd_lt 2 lp
    rw [wX_writeDays_103]
    refine pk_le 42 n (fun a => absurd a (by omega)) (fun _ => ?_)
    rw [oh_nb] at h
    refine xe_has (8 + n) (nI_add 8 n) (by omega) (fun z => ?_) (fun z => ?_)
    · rw [hV n (by omega)] at z
      rw [z] at h
      exact nm_r (nI_1 n) (xw_103 hV hP hnm e (n + 1) f lp s (by omega) (by omega) (by omega) h)
    · rw [hV n (by omega)] at z
      rw [if_pos z] at h
      have hl := oh_nl_len (n := n) (by omega)
      have h1 := oh_es_1 (oh_s0 (oh_pd 2 lp) ++ oh_nl n) s
      rw [List.length_append] at h1
      have h2 := oh_s0_len (oh_pd 2 lp)
      refine xw_nth hpd (by omega) hnm (by omega) ?_
      dsimp only
      refine nm_r (nI_1 n) (xw_103 hV hP hnm e (n + 1) f 2 (oh_es s (oh_s0 (oh_pd 2 lp) ++ oh_nl n)) (by omega) (by omega) (by omega) ?_)
      rw [oh_es_a]
      rw [oh_lp_jj]
      exact h
theorem xw_d2 {post : SX → Prop} {w : Int64} {W : Nat → Bool} (hW : ∀ d, d < 7 → oh_b w d = W d) (hnm : ∀ i, i < 27 → xnm i = lN (oh_le (oh_nm i))) : ∀ (e d f lp : Nat) (s : Nat × (Nat → Int32)), d + e = 7 → e < f → s.1 + 10 * e + 10 ≤ 1000000 → (∃ n103, wX_writeDays_103 post w n103 0 xfw xlp xdy xrl xhz xhc xts (nI (oh_es s (oh_dm lp (oh_ax W e d))).1) (nI (oh_pd 2 (if (oh_ax W e d).isEmpty then lp else 2))) xtc xcu xbk xrt xdc xho xtx ((oh_es s (oh_dm lp (oh_ax W e d))).2) xnm xtk xtv xki xst xdn xsn xdf xdt xsf xse xds xtd xtm) → wX_writeDays_2 post w f (nI d) xfw xlp xdy xrl xhz xhc xts (nI s.1) (nI (oh_pd 2 lp)) xtc xcu xbk xrt xdc xho xtx s.2 xnm xtk xtv xki xst xdn xsn xdf xdt xsf xse xds xtd xtm
  | e, d, 0, _, _, _, hf, _, _ => absurd hf (by omega)
  | 0, d, f + 1, lp, s, he, _, hs, h => by
    rw [wX_writeDays_2]
    exact pk_le 7 d (fun _ => h) (fun a => absurd a (by omega))
  | e + 1, d, f + 1, lp, s, he, hf, hs, h => by
    have hpd := oh_pd_lt 2 lp
    rw [wX_writeDays_2]
    rw [oh_ax] at h
    refine pk_le 7 d (fun a => absurd a (by omega)) (fun _ => ?_)
    have h57 : ∀ jn inn : Bool, jn = (decide (0 < d) && W (d - 1)) → inn = (jn && (decide (d < 6) && W (d + 1))) → wX_writeDays_57 post (wX_writeDays_2 post w f) w (nI d) (oh_bi jn) (oh_bi inn) xfw xlp xdy xrl xhz xhc xts (nI s.1) (nI (oh_pd 2 lp)) xtc xcu xbk xrt xdc xho xtx s.2 xnm xtk xtv xki xst xdn xsn xdf xdt xsf xse xds xtd xtm := fun jn inn ej ei => by
      rw [← ej, ← ei] at h
      unfold wX_writeDays_57
      refine xe_has d rfl (by omega) (fun z => ?_) (fun z => ?_)
      · rw [hW d (by omega)] at z
        rw [z] at h
        exact nm_r (nI_1 d) (xw_d2 hW hnm e (d + 1) f lp s (by omega) (by omega) (by omega) h)
      · rw [hW d (by omega)] at z
        rw [z] at h
        refine oh_brbi (fun i0 => ?_) (fun i1 => ?_)
        · rw [i0, show (true && !false) = true from rfl, if_pos rfl] at h
          have h88 : ∀ c : Nat, c < 256 → oh_s0 c = (if jn then [45] else oh_s0 (oh_pd 2 lp)) → ∀ x : Int32, x = nI c → wX_writeDays_88 post (wX_writeDays_2 post w f) w (nI d) x xfw xlp xdy xrl xhz xhc xts (nI s.1) (nI (oh_pd 2 lp)) xtc xcu xbk xrt xdc xho xtx s.2 xnm xtk xtv xki xst xdn xsn xdf xdt xsf xse xds xtd xtm := fun c hc ec x ex => by
            unfold wX_writeDays_88
            have hl := oh_nm_len (i := 12 + d) (by omega)
            have h1 := oh_es_1 (oh_s0 c ++ oh_nm (12 + d)) s
            rw [List.length_append] at h1
            have h2 := oh_s0_len c
            refine xw_write c (12 + d) ex (nI_add 12 d) (by omega) hc (by omega) hnm ?_
            dsimp only
            refine nm_r (nI_1 d) (xw_d2 hW hnm e (d + 1) f 2 (oh_es s (oh_s0 c ++ oh_nm (12 + d))) (by omega) (by omega) (by omega) ?_)
            rw [oh_dm, ← ec] at h
            rw [oh_es_a]
            have e3 : (if (oh_ax W e (d + 1)).isEmpty then 2 else 2) = 2 := by split <;> rfl
            rw [e3]
            exact h
          refine oh_brbi (fun j0 => h88 (oh_pd 2 lp) hpd (by rw [j0]; rfl) _ rfl) (fun j1 => h88 45 (by omega) (by rw [j1]; rfl) _ rfl)
        · rw [i1] at h
          exact nm_r (nI_1 d) (xw_d2 hW hnm e (d + 1) f lp s (by omega) (by omega) (by omega) h)
    have h28 : ∀ jn : Bool, jn = (decide (0 < d) && W (d - 1)) → wX_writeDays_28 post (wX_writeDays_2 post w f) w (nI d) (oh_bi jn) xfw xlp xdy xrl xhz xhc xts (nI s.1) (nI (oh_pd 2 lp)) xtc xcu xbk xrt xdc xho xtx s.2 xnm xtk xtv xki xst xdn xsn xdf xdt xsf xse xds xtd xtm := fun jn ej => by
      unfold wX_writeDays_28 wX_writeDays_56
      refine oh_brbi (fun z => h57 jn false ej (by rw [z]; rfl)) (fun z => pk_le 6 d (fun y => h57 jn false ej (by rw [decide_eq_false (show ¬ d < 6 by omega), Bool.false_and, Bool.and_false])) (fun y => ?_))
      refine xe_has (d + 1) (nI_1 d) (by omega) (fun q => ?_) (fun q => ?_)
      · rw [hW (d + 1) (by omega)] at q
        exact h57 jn false ej (by rw [q, Bool.and_false, Bool.and_false])
      · rw [hW (d + 1) (by omega)] at q
        have := h57 jn true ej (by rw [q, z, decide_eq_true y]; rfl)
        exact this
    unfold wX_writeDays_27
    refine pk_le d 0 (fun z => h28 false (by rw [decide_eq_false (show ¬ 0 < d by omega), Bool.false_and])) (fun z => ?_)
    refine xe_has (d - 1) (pk_sub (a := d) (b := 1) (by omega)) (by omega) (fun q => ?_) (fun q => ?_)
    · rw [hW (d - 1) (by omega)] at q
      exact h28 false (by rw [q, Bool.and_false])
    · rw [hW (d - 1) (by omega)] at q
      exact h28 true (by rw [q, decide_eq_true z]; rfl)
theorem xw_days {post : SX → Prop} {w : Int64} {S : Nat → List (Nat × Nat)} {lp : Nat} {s : Nat × (Nat → Int32)} (hw : ∀ j, j < 64 → oh_b w j = oh_dsb S j) (hnm : ∀ i, i < 27 → xnm i = lN (oh_le (oh_nm i))) (hs : s.1 + 700 ≤ 1000000) (h : post (xfw, xlp, xdy, xrl, xhz, xhc, xts, nI (oh_es s (oh_bl 2 lp (oh_DB S))).1, nI (oh_pd 2 (oh_lp 2 lp (oh_DB S))), xtc, xcu, xbk, xrt, xdc, xho, xtx, (oh_es s (oh_bl 2 lp (oh_DB S))).2, xnm, xtk, xtv, xki, xst, xdn, xsn, xdf, xdt, xsf, xse, xds, xtd, xtm)) : wpX_writeDays post (xfw, xlp, xdy, xrl, xhz, xhc, xts, nI s.1, nI (oh_pd 2 lp), xtc, xcu, xbk, xrt, xdc, xho, xtx, s.2, xnm, xtk, xtv, xki, xst, xdn, xsn, xdf, xdt, xsf, xse, xds, xtd, xtm) w := by
  unfold wpX_writeDays
  refine ⟨8, xw_d2 (W := oh_W S) (fun d hd => by rw [hw d (by omega)]; exact oh_dsb_lo hd) hnm 7 0 8 lp s (by omega) (by omega) (by omega) ⟨43, ?_⟩⟩
  have hrp := oh_rp_in (W := oh_W S) 7 0 (by omega)
  have hlen := oh_bl_len (j := 2) (B := 15) ((oh_rp (oh_W S) 7 0).map oh_rn) lp (fun b hb => by
    obtain ⟨p, hp, e⟩ := List.mem_map.mp hb
    rw [← e]
    exact oh_rn_len (hrp.2 p hp).1 (hrp.2 p hp).2)
  rw [List.length_map] at hlen
  rw [oh_ax_rp, oh_dm_fl, oh_fl_e]
  have h1 := oh_es_1 (oh_bl 2 lp ((oh_rp (oh_W S) 7 0).map oh_rn)) s
  refine xw_103 (V := oh_V S) (P := !(S 4).isEmpty) (fun n hn => ?_) ?_ hnm 42 0 43 _ _ (by omega) (by omega) (by omega) ?_
  · rw [hw _ (by omega)]
    have := oh_dsb_hi (S := S) (w := n / 6) (k := n % 6) (by omega) (by omega)
    rw [show 8 + 6 * (n / 6) + n % 6 = 8 + n by omega] at this
    exact this
  · rw [hw 7 (by omega)]; exact oh_dsb_7
  · have e1 : (if !(S 4).isEmpty then [oh_nm 19] else []) = oh_ph S := by
      unfold oh_ph
      cases (S 4).isEmpty <;> rfl
    rw [e1, oh_es_a]
    have e2 : (if ((oh_rp (oh_W S) 7 0).map oh_rn).isEmpty = true then lp else 2) = oh_lp 2 lp ((oh_rp (oh_W S) 7 0).map oh_rn) := rfl
    rw [e2, ← oh_bl_a, oh_lp_a]
    exact h
end
end
section
/-! ===== X: writeRule, rewrite ===== -/
theorem oh_dl_len {ab : Nat × Nat} (ha : oh_vd ab.1) (hb : oh_vd ab.2) : (oh_dl ab).length ≤ 30 := by
  have h1 := oh_nm_len (i := ab.1 / 32 - 1) (by unfold oh_vd at ha; omega)
  have h2 := oh_nm_len (i := ab.2 / 32 - 1) (by unfold oh_vd at hb; omega)
  have h3 := oh_t1_len (oh_wh ab.1 ab.2) (ab.1 % 32)
  have h4 := oh_t1_len (oh_wh ab.1 ab.2) (ab.2 % 32)
  unfold oh_dl oh_d77 oh_d101
  simp only [List.length_append]
  split <;> split <;> simp [oh_tw2] <;> omega
theorem oh_sl_len (ab : Nat × Nat) : (oh_sl ab).length = 11 := rfl
theorem oh_DB_in (S : Nat → List (Nat × Nat)) : (oh_DB S).length ≤ 50 ∧ ∀ b, b ∈ oh_DB S → b.length ≤ 15 := by
  have hrp := oh_rp_in (W := oh_W S) 7 0 (by omega)
  have hnb := oh_nb_in (V := oh_V S) 42 0 (by omega)
  have hph : (oh_ph S).length ≤ 1 ∧ ∀ b, b ∈ oh_ph S → b = oh_nm 19 := by
    unfold oh_ph
    split
    · exact ⟨by simp, fun b hb => absurd hb List.not_mem_nil⟩
    · exact ⟨by simp, fun b hb => List.mem_singleton.mp hb⟩
  unfold oh_DB
  refine ⟨by simp only [List.length_append, List.length_map]; omega, fun b hb => ?_⟩
  rcases List.mem_append.mp hb with z | z
  · obtain ⟨p, hp, e⟩ := List.mem_map.mp z
    rw [← e]
    exact oh_rn_len (hrp.2 p hp).1 (hrp.2 p hp).2
  · rcases List.mem_append.mp z with z | z
    · obtain ⟨k, hk, e⟩ := hnb.2 b z
      rw [e]
      have := oh_nl_len hk
      omega
    · rw [hph.2 b z]; decide
theorem oh_fn_len {lp st : Nat} (fo : Bool) (h : st ≤ 2) : (oh_fn lp st fo).length ≤ 8 := by
  have h1 := oh_nm_len (i := 20 + st) (by omega)
  have h2 := oh_s0_len (oh_pd 4 lp)
  unfold oh_fn
  split
  · rw [List.length_append]; omega
  · simp
def oh_SV (S : Nat → List (Nat × Nat)) : Prop := (∀ ab, ab ∈ S 1 → oh_vd ab.1 ∧ oh_vd ab.2) ∧ (∀ ab, ab ∈ S 5 → ab.1 ≤ 47 ∧ ab.2 ≤ 95) ∧ oh_so (S 6) ≤ 2 ∧ (S 1).length ≤ 2 ∧ (S 5).length ≤ 3 ∧ ((S 0).getD 0 (0, 0)).1 ≤ 2
theorem oh_rt_len {S : Nat → List (Nat × Nat)} (h : oh_SV S) (r : Nat) (fo : Bool) : (oh_rt S r fo).length ≤ 1000 := by
  obtain ⟨h1, h5, h6, l1, l5, h0⟩ := h
  have a1 := oh_bl_len (j := 1) (B := 30) ((S 1).map oh_dl) 0 (fun b hb => by
    obtain ⟨p, hp, e⟩ := List.mem_map.mp hb
    rw [← e]; exact oh_dl_len (h1 p hp).1 (h1 p hp).2)
  have a2 := oh_bl_len (j := 2) (B := 15) (oh_DB S) (oh_lp 1 0 ((S 1).map oh_dl)) (oh_DB_in S).2
  have a2b := (oh_DB_in S).1
  have a3 := oh_bl_len (j := 3) (B := 11) ((S 5).map oh_sl) (oh_lp 2 (oh_lp 1 0 ((S 1).map oh_dl)) (oh_DB S)) (fun b hb => by
    obtain ⟨p, hp, e⟩ := List.mem_map.mp hb
    rw [← e, oh_sl_len]; exact Nat.le_refl _)
  have a4 := oh_fn_len (lp := oh_lp 3 (oh_lp 2 (oh_lp 1 0 ((S 1).map oh_dl)) (oh_DB S)) ((S 5).map oh_sl)) (st := oh_so (S 6)) fo h6
  have a5 := oh_nm_len (i := 24 + ((S 0).getD 0 (0, 0)).1) (by omega)
  rw [List.length_map] at a1 a3
  unfold oh_rt oh_q2 oh_q3
  simp only [List.length_append]
  split
  · simp only [List.length_nil]; omega
  · omega
theorem oh_SV_mk {FL : List (Nat × Nat × Nat × Nat)} {r : Nat} (hK : oh_FK FL) (l1 : (oh_sY FL r 1).length ≤ 2) (l5 : (oh_sY FL r 5).length ≤ 3) (h0 : ∃ K, K ≤ 2 ∧ oh_sY FL r 0 = [(K, 0)]) : oh_SV (oh_sY FL r) := by
  refine ⟨fun ab h => ?_, fun ab h => ?_, ?_, l1, l5, ?_⟩
  · have := oh_sY_v hK h
    unfold oh_vi at this
    dsimp only at this
    rcases this with z | z | z | z | z | z | z
    · exact absurd z.1 (by decide)
    · exact z.2
    all_goals exact absurd z.1 (by decide)
  · have := oh_sY_v hK h
    unfold oh_vi at this
    dsimp only at this
    omega
  · cases hl : oh_sY FL r 6 with
    | nil => decide
    | cons ab t =>
      have := oh_sY_v hK (r := r) (k := 6) (ab := ab) (by rw [hl]; exact List.mem_cons_self)
      unfold oh_vi at this
      dsimp only at this
      show ab.1 ≤ 2
      omega
  · obtain ⟨K, k2, e⟩ := h0
    rw [e]; exact k2
section
variable {xfw xlp xdy xrl xhz xhc xts xos xpd xtc xcu xbk xrt : Int32} {xdc xho xtx xou xtk xtv xki xst xdn xsn xdf xdt xsf xse : Nat → Int32} {xnm xds xtd xtm : Nat → Int64} {b m : Nat} {FL : List (Nat × Nat × Nat × Nat)}
theorem xw_end {post : SX → Prop} {j lp : Nat} (hlp : lp ≤ j) (h : post (xfw, xlp, xdy, xrl, xhz, xhc, xts, xos, nI (oh_pd (j + 1) lp), xtc, xcu, xbk, xrt, xdc, xho, xtx, xou, xnm, xtk, xtv, xki, xst, xdn, xsn, xdf, xdt, xsf, xse, xds, xtd, xtm)) : wpX_endPart post (xfw, xlp, xdy, xrl, xhz, xhc, xts, xos, nI (oh_pd j lp), xtc, xcu, xbk, xrt, xdc, xho, xtx, xou, xnm, xtk, xtv, xki, xst, xdn, xsn, xdf, xdt, xsf, xse, xds, xtd, xtm) := by
  unfold wpX_endPart
  dsimp only
  by_cases z : lp = 0
  · subst z
    exact br_t rfl h
  · have e1 : oh_pd (j + 1) lp = 32 := by unfold oh_pd; rw [if_neg z, if_neg (by omega)]
    have e2 : ¬ nI (oh_pd j lp) = 0 := by
      unfold oh_pd
      rw [if_neg z]
      split <;> decide
    rw [e1] at h
    exact br_f e2 h
theorem xw_174 {post : SX → Prop} {i lp st : Nat} {s : Nat × (Nat → Int32)} (fo : Bool) (hi : i < 12) (hst : xst i = nI st) (h2 : st ≤ 2) (hnm : ∀ i, i < 27 → xnm i = lN (oh_le (oh_nm i))) (hs : s.1 + 20 ≤ 1000000) (h : ∀ pd, post (xfw, xlp, xdy, xrl, xhz, xhc, xts, nI (oh_es s (oh_fn lp st fo)).1, pd, xtc, xcu, xbk, xrt, xdc, xho, xtx, (oh_es s (oh_fn lp st fo)).2, xnm, xtk, xtv, xki, xst, xdn, xsn, xdf, xdt, xsf, xse, xds, xtd, xtm)) : wX_writeRule_174 post (nI i) (oh_bi fo) xfw xlp xdy xrl xhz xhc xts (nI s.1) (nI (oh_pd 4 lp)) xtc xcu xbk xrt xdc xho xtx s.2 xnm xtk xtv xki xst xdn xsn xdf xdt xsf xse xds xtd xtm := by
  have hc := nI_clamp (n := i) (by omega)
  have hpd := oh_pd_lt 4 lp
  have hv : vp_in (nI i) 12 := vp_in_nI hi (by omega)
  unfold oh_fn at h
  have h198 : (¬ st = 1 ∨ lp = 0 ∨ fo = true) → wX_writeRule_198 post (nI i) xfw xlp xdy xrl xhz xhc xts (nI s.1) (nI (oh_pd 4 lp)) xtc xcu xbk xrt xdc xho xtx s.2 xnm xtk xtv xki xst xdn xsn xdf xdt xsf xse xds xtd xtm := fun z => by
    rw [if_pos z] at h
    unfold wX_writeRule_198
    rw [hc, hst]
    refine ⟨hv, xw_write (oh_pd 4 lp) (20 + st) rfl (nI_add 20 st) (by omega) hpd (by omega) hnm ?_⟩
    exact h 44
  unfold wX_writeRule_174
  rw [hc, hst]
  refine ⟨hv, pk_eq st 1 (fun a => pk_eq (oh_pd 4 lp) 0 (fun c => h198 ?_) (fun c => oh_brbi (fun q => ?_) (fun q => h198 (Or.inr (Or.inr q))))) (fun a => h198 (Or.inl a))⟩
  · refine Or.inr (Or.inl ?_)
    unfold oh_pd at c
    by_cases z : lp = 0
    · exact z
    · rw [if_neg z] at c
      split at c <;> omega
  · have : ¬ (¬ st = 1 ∨ lp = 0 ∨ fo = true) := by
      rintro (z | z | z)
      · exact z a
      · exact c (by rw [z]; rfl)
      · rw [q] at z; cases z
    rw [if_neg this] at h
    exact h _
theorem xw_102 {post : SX → Prop} {r st : Nat} {l : List (Nat × Nat)} (fo : Bool) (hr : r < m) (hm : m ≤ 6) (hb : b ≤ 6) (hP : oh_XP xsn xsf xse (b + r) l) (hl : ∀ ab, ab ∈ l → ab.1 ≤ 47 ∧ ab.2 ≤ 95) (hst : xst (b + r) = nI st) (h2 : st ≤ 2) (hnm : ∀ i, i < 27 → xnm i = lN (oh_le (oh_nm i))) (hfo1 : r + 1 < m → ∃ K, K ≤ 2 ∧ xki (b + (r + 1)) = nI K ∧ fo = decide (K = 1)) (hfo0 : ¬ r + 1 < m → fo = false) : ∀ (e n f lp : Nat) (s : Nat × (Nat → Int32)), n + e = l.length → e < f → lp ≤ 3 → s.1 + 12 * e + 100 ≤ 1000000 → (∀ pd, post (xfw, xlp, xdy, xrl, xhz, xhc, xts, nI (oh_es s (oh_bl 3 lp ((l.drop n).map oh_sl) ++ oh_fn (oh_lp 3 lp ((l.drop n).map oh_sl)) st fo)).1, pd, xtc, xcu, nI b, nI m, xdc, xho, xtx, (oh_es s (oh_bl 3 lp ((l.drop n).map oh_sl) ++ oh_fn (oh_lp 3 lp ((l.drop n).map oh_sl)) st fo)).2, xnm, xtk, xtv, xki, xst, xdn, xsn, xdf, xdt, xsf, xse, xds, xtd, xtm)) → wX_writeRule_102 post (nI r) (nI (b + r)) (nI ((b + r) * 3)) f (nI n) xfw xlp xdy xrl xhz xhc xts (nI s.1) (nI (oh_pd 3 lp)) xtc xcu (nI b) (nI m) xdc xho xtx s.2 xnm xtk xtv xki xst xdn xsn xdf xdt xsf xse xds xtd xtm
  | e, n, 0, _, _, _, hf, _, _, _ => absurd hf (by omega)
  | 0, n, f + 1, lp, s, he, _, hlp, hs, h => by
    have hc := nI_clamp (n := b + r) (by omega)
    have l3 := hP.2.1
    rw [wX_writeRule_102, hc]
    refine ⟨vp_in_nI (by omega) (by omega), pk_le l.length n (fun _ => ?_) (fun a => absurd a (by omega)) (hx := hP.1)⟩
    refine xw_end hlp ?_
    dsimp only
    rw [List.drop_eq_nil_of_le (by omega)] at h
    have h174 : ∀ z : Bool, z = fo → wX_writeRule_174 post (nI (b + r)) (oh_bi z) xfw xlp xdy xrl xhz xhc xts (nI s.1) (nI (oh_pd 4 lp)) xtc xcu (nI b) (nI m) xdc xho xtx s.2 xnm xtk xtv xki xst xdn xsn xdf xdt xsf xse xds xtd xtm := fun z ez => by
      subst ez
      exact xw_174 z (by omega) hst h2 hnm (by omega) h
    unfold wX_writeRule_173
    refine pk_le m (r + 1) (fun a => h174 false (hfo0 (by omega)).symm) (fun a => ?_) (hy := nI_1 r)
    obtain ⟨K, k2, ek, ef⟩ := hfo1 a
    rw [nI_1, nI_clamp (by omega), show b + r + 1 = b + (r + 1) by omega, ek]
    refine ⟨vp_in_nI (by omega) (by omega), pk_eq K 1 (fun z => h174 true (by rw [ef, decide_eq_true z])) (fun z => h174 false (by rw [ef, decide_eq_false z]))⟩
  | e + 1, n, f + 1, lp, s, he, hf, hlp, hs, h => by
    have hc := nI_clamp (n := b + r) (by omega)
    have l3 := hP.2.1
    have hn : n < l.length := by omega
    have hpd := oh_pd_lt 3 lp
    have hsf := hP.2.2 n hn
    have hlb := hl _ (oh_gM (d := (0, 0)) hn)
    rw [oh_dropc (0, 0) hn, List.map_cons, oh_bl] at h
    have hlp3 : ∀ t, oh_lp 3 lp (oh_sl (l.getD n (0, 0)) :: t) = 3 := fun t => rfl
    rw [hlp3] at h
    generalize l.getD n (0, 0) = ab at *
    have e5 : nI ((b + r) * 3) + nI n = nI (3 * (b + r) + n) := by rw [nI_add, Nat.mul_comm]
    rw [wX_writeRule_102, hc]
    refine ⟨vp_in_nI (by omega) (by omega), pk_le l.length n (fun a => absurd a (by omega)) (fun _ => ?_) (hx := hP.1)⟩
    rw [e5, nI_clamp (by omega), hsf.1, hsf.2]
    refine ⟨vp_in_nI (by omega) (by omega), vp_in_nI (by omega) (by omega), ?_⟩
    have h1 := oh_es_1 (oh_s0 (oh_pd 3 lp) ++ oh_sl ab) s
    rw [List.length_append, oh_sl_len] at h1
    have h3 := oh_s0_len (oh_pd 3 lp)
    refine xw_span (a := ab.1) (b := ab.2) rfl rfl hpd hlb.1 hlb.2 (by omega) ?_
    dsimp only
    refine nm_r (nI_1 n) (xw_102 fo hr hm hb hP hl hst h2 hnm hfo1 hfo0 e (n + 1) f 3 (oh_es s (oh_s0 (oh_pd 3 lp) ++ oh_sl ab)) (by omega) (by omega) (by omega) (by omega) (fun pd => ?_))
    rw [oh_es_a, oh_lp_jj, ← List.append_assoc]
    exact h pd
theorem xw_42 {post : SX → Prop} {r : Nat} {S : Nat → List (Nat × Nat)} (fo : Bool) (hr : r < m) (hm : m ≤ 6) (hb : b ≤ 6) (hXF : oh_XF xki xst xdn xsn xdf xdt xsf xse xds xtd xtm (b + r) S) (hS : oh_SV S) (hnm : ∀ i, i < 27 → xnm i = lN (oh_le (oh_nm i))) (hfo1 : r + 1 < m → ∃ K, K ≤ 2 ∧ xki (b + (r + 1)) = nI K ∧ fo = decide (K = 1)) (hfo0 : ¬ r + 1 < m → fo = false) : ∀ (e n f lp : Nat) (s : Nat × (Nat → Int32)), n + e = (S 1).length → e < f → lp ≤ 1 → s.1 + 40 * e + 940 ≤ 1000000 → (∀ pd, post (xfw, xlp, xdy, xrl, xhz, xhc, xts, nI (oh_es s (oh_bl 1 lp (((S 1).drop n).map oh_dl) ++ oh_q2 S (oh_lp 1 lp (((S 1).drop n).map oh_dl)) fo)).1, pd, xtc, xcu, nI b, nI m, xdc, xho, xtx, (oh_es s (oh_bl 1 lp (((S 1).drop n).map oh_dl) ++ oh_q2 S (oh_lp 1 lp (((S 1).drop n).map oh_dl)) fo)).2, xnm, xtk, xtv, xki, xst, xdn, xsn, xdf, xdt, xsf, xse, xds, xtd, xtm)) → wX_writeRule_42 post (nI r) (nI (b + r)) (nI ((b + r) * 2)) (nI ((b + r) * 3)) f (nI n) xfw xlp xdy xrl xhz xhc xts (nI s.1) (nI (oh_pd 1 lp)) xtc xcu (nI b) (nI m) xdc xho xtx s.2 xnm xtk xtv xki xst xdn xsn xdf xdt xsf xse xds xtd xtm
  | e, n, 0, _, _, _, hf, _, _, _ => absurd hf (by omega)
  | 0, n, f + 1, lp, s, he, _, hlp, hs, h => by
    have hc := nI_clamp (n := b + r) (by omega)
    obtain ⟨hD, hP, hds, _, _, _, hst⟩ := hXF
    obtain ⟨v1, v5, v6, l1, l5, v0⟩ := hS
    rw [wX_writeRule_42, hc]
    refine ⟨vp_in_nI (by omega) (by omega), pk_le (S 1).length n (fun _ => ?_) (fun a => absurd a (by omega)) (hx := hD.1)⟩
    refine xw_end hlp ?_
    dsimp only
    refine ⟨vp_in_nI (by omega) (by omega), ?_⟩
    rw [List.drop_eq_nil_of_le (by omega)] at h
    have hdb := oh_DB_in S
    have hlen := oh_bl_len (j := 2) (B := 15) (oh_DB S) lp hdb.2
    have h1 := oh_es_1 (oh_bl 2 lp (oh_DB S)) s
    have hlp2 : oh_lp 2 lp (oh_DB S) ≤ 2 := by unfold oh_lp; split <;> omega
    refine xw_days hds hnm (by omega) ?_
    dsimp only
    refine xw_end hlp2 ?_
    dsimp only
    refine ⟨(S 5).length + 1, xw_102 fo hr hm hb hP v5 hst v6 hnm hfo1 hfo0 (S 5).length 0 _ (oh_lp 2 lp (oh_DB S)) (oh_es s (oh_bl 2 lp (oh_DB S))) (by omega) (by omega) (by omega) (by omega) (fun pd => ?_)⟩
    rw [oh_es_a, List.drop_zero]
    exact h pd
  | e + 1, n, f + 1, lp, s, he, hf, hlp, hs, h => by
    have hc := nI_clamp (n := b + r) (by omega)
    have hXF2 := hXF
    obtain ⟨hD, _⟩ := hXF2
    have l3 := hD.2.1
    have hn : n < (S 1).length := by omega
    have hpd := oh_pd_lt 1 lp
    have hsf := hD.2.2 n hn
    have hlb := hS.1 _ (oh_gM (d := (0, 0)) hn)
    rw [oh_dropc (0, 0) hn, List.map_cons, oh_bl] at h
    have hlp3 : ∀ t, oh_lp 1 lp (oh_dl ((S 1).getD n (0, 0)) :: t) = 1 := fun t => rfl
    rw [hlp3] at h
    generalize (S 1).getD n (0, 0) = ab at *
    have e5 : nI ((b + r) * 2) + nI n = nI (2 * (b + r) + n) := by rw [nI_add, Nat.mul_comm]
    rw [wX_writeRule_42, hc]
    refine ⟨vp_in_nI (by omega) (by omega), pk_le (S 1).length n (fun a => absurd a (by omega)) (fun _ => ?_) (hx := hD.1)⟩
    rw [e5, nI_clamp (by omega), hsf.1, hsf.2]
    refine ⟨vp_in_nI (by omega) (by omega), vp_in_nI (by omega) (by omega), ?_⟩
    have h1 := oh_es_1 (oh_s0 (oh_pd 1 lp) ++ oh_dl ab) s
    rw [List.length_append] at h1
    have h2 := oh_dl_len hlb.1 hlb.2
    have h3 := oh_s0_len (oh_pd 1 lp)
    refine xw_date (a := ab.1) (b := ab.2) rfl rfl hpd hlb.1 hlb.2 hnm (by omega) ?_
    dsimp only
    refine nm_r (nI_1 n) (xw_42 fo hr hm hb hXF hS hnm hfo1 hfo0 e (n + 1) f 1 (oh_es s (oh_s0 (oh_pd 1 lp) ++ oh_dl ab)) (by omega) (by omega) (by omega) (by omega) (fun pd => ?_))
    rw [oh_es_a, oh_lp_jj, ← List.append_assoc]
    exact h pd
theorem xw_rule {post : SX → Prop} {r : Nat} {S : Nat → List (Nat × Nat)} {s : Nat × (Nat → Int32)} (fo : Bool) (hr : r < m) (hm : m ≤ 6) (hb : b ≤ 6) (hXF : oh_XF xki xst xdn xsn xdf xdt xsf xse xds xtd xtm (b + r) S) (hS : oh_SV S) (hnm : ∀ i, i < 27 → xnm i = lN (oh_le (oh_nm i))) (hfo1 : r + 1 < m → ∃ K, K ≤ 2 ∧ xki (b + (r + 1)) = nI K ∧ fo = decide (K = 1)) (hfo0 : ¬ r + 1 < m → fo = false) (hs : s.1 + 1100 ≤ 1000000) (h : ∀ pd, post (xfw, xlp, xdy, xrl, xhz, xhc, xts, nI (oh_es s (oh_rt S r fo)).1, pd, xtc, xcu, nI b, nI m, xdc, xho, xtx, (oh_es s (oh_rt S r fo)).2, xnm, xtk, xtv, xki, xst, xdn, xsn, xdf, xdt, xsf, xse, xds, xtd, xtm)) : wpX_writeRule post (xfw, xlp, xdy, xrl, xhz, xhc, xts, nI s.1, xpd, xtc, xcu, nI b, nI m, xdc, xho, xtx, s.2, xnm, xtk, xtv, xki, xst, xdn, xsn, xdf, xdt, xsf, xse, xds, xtd, xtm) (nI r) := by
  have hc := nI_clamp (n := b + r) (by omega)
  obtain ⟨K, k2, ek, eki⟩ := hXF.2.2.2.2.2.1
  have l1 := hS.2.2.2.1
  have e0 : ((S 0).getD 0 (0, 0)).1 = K := by rw [ek]; rfl
  unfold oh_rt at h
  rw [e0] at h
  unfold wpX_writeRule
  dsimp only
  refine nm_r (nI_add b r) (nm_r (e' := nI ((b + r) * 2)) (pk_mul _ 2) (nm_r (e' := nI ((b + r) * 3)) (pk_mul _ 3) ?_))
  refine pk_le r 0 (fun a => ⟨(S 1).length + 1, ?_⟩) (fun a => ?_)
  · rw [if_pos (by omega), List.nil_append] at h
    refine xw_42 fo hr hm hb hXF hS hnm hfo1 hfo0 (S 1).length 0 _ 0 s (by omega) (by omega) (by omega) (by omega) (fun pd => ?_)
    rw [List.drop_zero]
    exact h pd
  · rw [if_neg (by omega)] at h
    rw [hc, eki]
    have hl := oh_nm_len (i := 24 + K) (by omega)
    have h1 := oh_es_1 (oh_nm (24 + K)) s
    refine ⟨vp_in_nI (by omega) (by omega), xw_write 0 (24 + K) rfl (nI_add 24 K) (by omega) (by omega) (by omega) hnm ?_⟩
    rw [show oh_s0 0 = [] from rfl, List.nil_append]
    dsimp only
    refine ⟨(S 1).length + 1, xw_42 fo hr hm hb hXF hS hnm hfo1 hfo0 (S 1).length 0 _ 0 (oh_es s (oh_nm (24 + K))) (by omega) (by omega) (by omega) (by omega) (fun pd => ?_)⟩
    rw [List.drop_zero, oh_es_a]
    exact h pd
end
end
section
/-! ===== X: rewrite; the characters of the whole text ===== -/
def oh_al (T : Nat → List Nat) : Nat → Nat → List Nat
  | 0, _ => []
  | e + 1, r => T r ++ oh_al T e (r + 1)
def oh_fo (S : Nat → Nat → List (Nat × Nat)) (m r : Nat) : Bool := decide (r + 1 < m) && decide (oh_kk S (r + 1) = 1)
def oh_tr (S : Nat → Nat → List (Nat × Nat)) (m r : Nat) : List Nat := oh_rt (S r) r (oh_fo S m r)
def oh_tx (S : Nat → Nat → List (Nat × Nat)) (m : Nat) : List Nat := oh_al (oh_tr S m) m 0
theorem oh_es_g : ∀ (l : List Nat) (s : Nat × (Nat → Int32)) (j : Nat), (oh_es s l).2 j = if s.1 ≤ j ∧ j < s.1 + l.length ∧ j < 128 then nI (l.getD (j - s.1) 0) else s.2 j
  | [], s, j => by rw [if_neg (by simp only [List.length_nil]; omega)]; rfl
  | c :: t, s, j => by
    have ih := oh_es_g t (oh_em s c) j
    show (oh_es (oh_em s c) t).2 j = _
    rw [ih]
    have e1 : (oh_em s c).1 = s.1 + 1 := rfl
    have e2 : (oh_em s c).2 = if s.1 < 128 then upd s.2 s.1 (nI c) else s.2 := rfl
    rw [e1, e2, List.length_cons]
    by_cases z : j = s.1
    · subst z
      rw [if_neg (by omega)]
      by_cases y : s.1 < 128
      · rw [if_pos y, if_pos (by omega), pk_us, Nat.sub_self]; rfl
      · rw [if_neg y, if_neg (by omega)]
    · have e3 : (if s.1 < 128 then upd s.2 s.1 (nI c) else s.2) j = s.2 j := by
        split
        · exact pk_un z
        · rfl
      rw [e3]
      by_cases y : s.1 + 1 ≤ j ∧ j < s.1 + 1 + t.length ∧ j < 128
      · rw [if_pos y, if_pos (by omega), show j - s.1 = (j - (s.1 + 1)) + 1 by omega]; rfl
      · rw [if_neg y, if_neg (by omega)]
def oh_ck (l : List Nat) : Prop := ∀ c, c ∈ l → 32 ≤ c ∧ c ≤ 126
theorem oh_ck_n : oh_ck [] := fun c hc => absurd hc List.not_mem_nil
theorem oh_ck_a {a b : List Nat} (ha : oh_ck a) (hb : oh_ck b) : oh_ck (a ++ b) := fun c hc => (List.mem_append.mp hc).elim (ha c) (hb c)
theorem oh_ck_c {c : Nat} {l : List Nat} (hc : 32 ≤ c ∧ c ≤ 126) (h : oh_ck l) : oh_ck (c :: l) := fun x hx => (List.mem_cons.mp hx).elim (fun e => by rw [e]; exact hc) (h x)
theorem oh_ck_nm {i : Nat} (h : i < 27) : oh_ck (oh_nm i) := by
  have : ∀ i, i < 27 → ∀ c, c ∈ oh_nm i → 32 ≤ c ∧ c ≤ 126 := by decide +kernel
  exact this i h
theorem oh_ck_pd (j lp : Nat) : oh_ck (oh_s0 (oh_pd j lp)) := by
  unfold oh_pd oh_s0
  by_cases z : lp = 0
  · rw [if_pos z]; exact oh_ck_n
  · rw [if_neg z]
    by_cases y : lp = j
    · rw [if_pos y]; exact oh_ck_c (by omega) oh_ck_n
    · rw [if_neg y]; exact oh_ck_c (by omega) oh_ck_n
theorem oh_ck_tw {v : Nat} (h : v < 100) : oh_ck (oh_tw2 v) := oh_ck_c (by omega) (oh_ck_c (by omega) oh_ck_n)
theorem oh_ck_t1 {wh : Bool} {v : Nat} (h : v < 100) : oh_ck (oh_t1 wh v) := by
  unfold oh_t1
  split
  · exact oh_ck_n
  · exact oh_ck_c (by omega) (oh_ck_tw h)
theorem oh_ck_dl {ab : Nat × Nat} (ha : oh_vd ab.1) (hb : oh_vd ab.2) : oh_ck (oh_dl ab) := by
  unfold oh_dl oh_d77 oh_d101
  unfold oh_vd at ha hb
  refine oh_ck_a (oh_ck_nm (by omega)) (oh_ck_a (oh_ck_t1 (by omega)) (oh_ck_a ?_ ?_))
  · split
    · exact oh_ck_c (by omega) (oh_ck_tw (by omega))
    · exact oh_ck_n
  · split
    · exact oh_ck_n
    · exact oh_ck_c (by omega) (oh_ck_a (oh_ck_nm (by omega)) (oh_ck_t1 (by omega)))
theorem oh_ck_sl {ab : Nat × Nat} (ha : ab.1 ≤ 47) (hb : ab.2 ≤ 95) : oh_ck (oh_sl ab) := by
  have hc : oh_cl ab.2 ≤ 48 := by unfold oh_cl; split <;> omega
  unfold oh_sl
  exact oh_ck_a (oh_ck_tw (by omega)) (oh_ck_c (by omega) (oh_ck_a (oh_ck_tw (by omega)) (oh_ck_c (by omega) (oh_ck_a (oh_ck_tw (by omega)) (oh_ck_c (by omega) (oh_ck_tw (by omega)))))))
theorem oh_ck_nl {n : Nat} (h : n < 42) : oh_ck (oh_nl n) := by
  unfold oh_nl
  refine oh_ck_a (oh_ck_nm (by omega)) (oh_ck_a (oh_ck_c (by omega) oh_ck_n) (oh_ck_a ?_ (oh_ck_c (by omega) oh_ck_n)))
  split
  · exact oh_ck_c (by omega) (oh_ck_c (by omega) oh_ck_n)
  · exact oh_ck_c (by omega) oh_ck_n
theorem oh_ck_rn {p : Nat × Nat} (h1 : p.1 < 7) (h2 : p.2 < 7) : oh_ck (oh_rn p) := by
  unfold oh_rn
  refine oh_ck_a (oh_ck_nm (by omega)) ?_
  split
  · exact oh_ck_c (by omega) (oh_ck_nm (by omega))
  · exact oh_ck_n
theorem oh_ck_bl (j : Nat) : ∀ (bs : List (List Nat)) (lp : Nat), (∀ b, b ∈ bs → oh_ck b) → oh_ck (oh_bl j lp bs)
  | [], lp, _ => oh_ck_n
  | b :: t, lp, h => oh_ck_a (oh_ck_a (oh_ck_pd j lp) (h b List.mem_cons_self)) (oh_ck_bl j t j (fun x hx => h x (List.mem_cons_of_mem _ hx)))
theorem oh_ck_rt {S : Nat → List (Nat × Nat)} (h : oh_SV S) (r : Nat) (fo : Bool) : oh_ck (oh_rt S r fo) := by
  obtain ⟨h1, h5, h6, l1, l5, h0⟩ := h
  have hrp := oh_rp_in (W := oh_W S) 7 0 (by omega)
  have hnb := oh_nb_in (V := oh_V S) 42 0 (by omega)
  unfold oh_rt oh_q2 oh_q3
  refine oh_ck_a ?_ (oh_ck_a (oh_ck_bl _ _ _ (fun b hb => ?_)) (oh_ck_a (oh_ck_bl _ _ _ (fun b hb => ?_)) (oh_ck_a (oh_ck_bl _ _ _ (fun b hb => ?_)) ?_)))
  · split
    · exact oh_ck_n
    · exact oh_ck_nm (by omega)
  · obtain ⟨p, hp, e⟩ := List.mem_map.mp hb
    rw [← e]; exact oh_ck_dl (h1 p hp).1 (h1 p hp).2
  · unfold oh_DB at hb
    rcases List.mem_append.mp hb with z | z
    · obtain ⟨p, hp, e⟩ := List.mem_map.mp z
      rw [← e]
      exact oh_ck_rn (hrp.2 p hp).1 (hrp.2 p hp).2
    · rcases List.mem_append.mp z with z | z
      · obtain ⟨k, hk, e⟩ := hnb.2 b z
        rw [e]; exact oh_ck_nl hk
      · unfold oh_ph at z
        split at z
        · exact absurd z List.not_mem_nil
        · rw [List.mem_singleton.mp z]; exact oh_ck_nm (by omega)
  · obtain ⟨p, hp, e⟩ := List.mem_map.mp hb
    rw [← e]; exact oh_ck_sl (h5 p hp).1 (h5 p hp).2
  · unfold oh_fn
    split
    · exact oh_ck_a (oh_ck_pd _ _) (oh_ck_nm (by omega))
    · exact oh_ck_n
theorem oh_ck_al {T : Nat → List Nat} {m : Nat} (h : ∀ r, r < m → oh_ck (T r)) : ∀ e r, r + e = m → oh_ck (oh_al T e r)
  | 0, r, _ => oh_ck_n
  | e + 1, r, he => oh_ck_a (h r (by omega)) (oh_ck_al h e (r + 1) (by omega))
theorem oh_al_len {T : Nat → List Nat} {m : Nat} (h : ∀ r, r < m → (T r).length ≤ 1000) : ∀ e r, r + e = m → (oh_al T e r).length ≤ 1000 * e
  | 0, r, _ => by simp [oh_al]
  | e + 1, r, he => by
    have := oh_al_len h e (r + 1) (by omega)
    have := h r (by omega)
    rw [oh_al, List.length_append]; omega
def oh_tn (l : List Nat) (n : Nat) (ch : Nat → Nat) (j : Nat) : Nat := if j < n then l.getD j 0 else ch j
theorem oh_tn_T {l : List Nat} {ch : Nat → Nat} (hl : oh_ck l) (h8 : l.length ≤ 128) (hc : ∀ j, ch j ≤ 126) : oh_T (oh_tn l l.length ch) l.length := by
  refine ⟨h8, fun j => ?_, fun j hj => ?_⟩
  · unfold oh_tn
    split
    · rename_i z; exact (hl _ (oh_gM z)).2
    · exact hc j
  · unfold oh_tn
    rw [if_pos hj]
    exact (hl _ (oh_gM hj)).1
theorem oh_tn_0 (l : List Nat) (ch : Nat → Nat) (j : Nat) : oh_tn l 0 ch j = ch j := if_neg (Nat.not_lt_zero _)
theorem oh_tn_u {l : List Nat} {n : Nat} {ch : Nat → Nat} {t : Nat → Int32} (h : ∀ j, t j = nI (oh_tn l n ch j)) (j : Nat) : upd t n (nI (l.getD n 0)) j = nI (oh_tn l (n + 1) ch j) := by
  unfold oh_tn
  by_cases z : j = n
  · subst z; rw [pk_us, if_pos (by omega)]
  · rw [pk_un z, h j]
    unfold oh_tn
    by_cases y : j < n
    · rw [if_pos y, if_pos (by omega)]
    · rw [if_neg y, if_neg (by omega)]
theorem oh_nar_c {c : Nat} (h : c < 256) : vp_nar .char (nI c) = nI c := by
  have h2 : ∀ c, c < 256 → (nI c).toUInt32.toUInt16.toUInt32.toInt32 = nI c := by decide +kernel
  rw [vp_nar_char]; exact h2 c h
section
variable {xfw xlp xdy xrl xhz xhc xts xos xpd xtc xcu xbk xrt : Int32} {xdc xho xtx xou xtk xtv xki xst xdn xsn xdf xdt xsf xse : Nat → Int32} {xnm xds xtd xtm : Nat → Int64} {b m : Nat} {FL : List (Nat × Nat × Nat × Nat)}
theorem xw_47 {post : Int32 → SX → Prop} {l : List Nat} {ch : Nat → Nat} (h8 : l.length ≤ 128) (ho : ∀ j, j < l.length → xou j = nI (l.getD j 0)) (hl : oh_ck l) (h : ∀ xtx', (∀ j, xtx' j = nI (oh_tn l l.length ch j)) → post (nI l.length) (xfw, xlp, xdy, xrl, xhz, xhc, nI l.length, nI l.length, xpd, xtc, xcu, xbk, xrt, xdc, xho, xtx', xou, xnm, xtk, xtv, xki, xst, xdn, xsn, xdf, xdt, xsf, xse, xds, xtd, xtm)) : ∀ (e n f : Nat) (xtx : Nat → Int32), n + e = l.length → e < f → (∀ j, xtx j = nI (oh_tn l n ch j)) → wX_rewrite_47 post xfw xlp xdy xrl xhz xhc xts (nI l.length) xpd xtc xcu xbk xrt f (nI n) xdc xho xtx xou xnm xtk xtv xki xst xdn xsn xdf xdt xsf xse xds xtd xtm
  | e, n, 0, _, _, hf, _ => absurd hf (by omega)
  | 0, n, f + 1, xtx, he, _, hx => by
    have : n = l.length := by omega
    subst this
    rw [wX_rewrite_47]
    exact pk_le l.length l.length (fun _ => h xtx hx) (fun a => absurd a (by omega))
  | e + 1, n, f + 1, xtx, he, hf, hx => by
    have hn : n < l.length := by omega
    have hc := (hl _ (oh_gM (d := 0) hn)).2
    rw [wX_rewrite_47]
    refine pk_le l.length n (fun a => absurd a (by omega)) (fun _ => ⟨vp_in_nI (by omega) (by omega), vp_in_nI (by omega) (by omega), ?_⟩)
    rw [nI_clamp (by omega), ho n hn, oh_nar_c (by omega)]
    exact nm_e (nm_r (nI_1 n) (xw_47 h8 ho hl h e (n + 1) f _ (by omega) (by omega) (oh_tn_u hx)))
theorem xw_7 {post : Int32 → SX → Prop} {ch : Nat → Nat} {o : Nat → Int32} (hm : m ≤ 6) (hb : b ≤ 6) (hXF : ∀ r, r < m → oh_XF xki xst xdn xsn xdf xdt xsf xse xds xtd xtm (b + r) (oh_sY FL r)) (hS : ∀ r, r < m → oh_SV (oh_sY FL r)) (hnm : ∀ i, i < 27 → xnm i = lN (oh_le (oh_nm i))) (hx : ∀ j, xtx j = nI (ch j))
    (h0 : (m = 0 ∨ 128 < (oh_tx (oh_sY FL) m).length) → ∀ os pd ou, post (-1) (xfw, xlp, xdy, xrl, xhz, xhc, xts, os, pd, xtc, xcu, nI b, nI m, xdc, xho, xtx, ou, xnm, xtk, xtv, xki, xst, xdn, xsn, xdf, xdt, xsf, xse, xds, xtd, xtm))
    (h1 : ¬ (m = 0 ∨ 128 < (oh_tx (oh_sY FL) m).length) → ∀ os pd ou xtx', (∀ j, xtx' j = nI (oh_tn (oh_tx (oh_sY FL) m) (oh_tx (oh_sY FL) m).length ch j)) → post (nI (oh_tx (oh_sY FL) m).length) (xfw, xlp, xdy, xrl, xhz, xhc, nI (oh_tx (oh_sY FL) m).length, os, pd, xtc, xcu, nI b, nI m, xdc, xho, xtx', ou, xnm, xtk, xtv, xki, xst, xdn, xsn, xdf, xdt, xsf, xse, xds, xtd, xtm)) : ∀ (e r f : Nat) (l : List Nat) (xpd : Int32), r + e = m → e < f → l.length + 1000 * e ≤ 10000 → l ++ oh_al (oh_tr (oh_sY FL) m) e r = oh_tx (oh_sY FL) m → wX_rewrite_7 post f (nI r) xfw xlp xdy xrl xhz xhc xts (nI (oh_es (0, o) l).1) xpd xtc xcu (nI b) (nI m) xdc xho xtx ((oh_es (0, o) l).2) xnm xtk xtv xki xst xdn xsn xdf xdt xsf xse xds xtd xtm
  | e, r, 0, _, _, _, hf, _, _ => absurd hf (by omega)
  | 0, r, f + 1, l, xpd, he, _, hl, hal => by
    rw [oh_al, List.append_nil] at hal
    have hes : (oh_es (0, o) l).1 = l.length := by rw [oh_es_1]; exact Nat.zero_add _
    rw [wX_rewrite_7]
    refine pk_le m r (fun _ => pk_eq m 0 (fun a => h0 (Or.inl a) _ _ _) (fun a => ?_)) (fun a => absurd a (by omega))
    rw [hes]
    refine pk_le l.length 128 (fun z => ⟨l.length + 1, ?_⟩) (fun z => h0 (Or.inr (by rw [← hal]; exact z)) _ _ _)
    have hck : oh_ck l := by
      rw [hal]
      exact oh_ck_al (fun r hr => oh_ck_rt (hS r hr) r _) m 0 (by omega)
    rw [← hal] at h1
    refine xw_47 (ch := ch) z (fun j hj => ?_) hck (fun xtx' hx' => ?_) l.length 0 _ xtx (by omega) (by omega) (fun j => by rw [oh_tn_0]; exact hx j)
    · rw [oh_es_g]
      rw [if_pos (by dsimp only; omega)]; rfl
    · exact h1 (by omega) _ _ _ xtx' hx'
  | e + 1, r, f + 1, l, xpd, he, hf, hl, hal => by
    have hes : (oh_es (0, o) l).1 = l.length := by rw [oh_es_1]; exact Nat.zero_add _
    have hrl := oh_rt_len (hS r (by omega)) r (oh_fo (oh_sY FL) m r)
    rw [oh_al] at hal
    rw [wX_rewrite_7]
    refine pk_le m r (fun a => absurd a (by omega)) (fun _ => ?_)
    refine xw_rule (oh_fo (oh_sY FL) m r) (by omega) hm hb (hXF r (by omega)) (hS r (by omega)) hnm (fun z => ?_) (fun z => ?_) (by omega) (fun pd => ?_)
    · obtain ⟨K, k2, ek, eki⟩ := (hXF (r + 1) z).2.2.2.2.2.1
      refine ⟨K, k2, eki, ?_⟩
      unfold oh_fo
      rw [decide_eq_true z, Bool.true_and, oh_kk_eq ek]
    · unfold oh_fo
      rw [decide_eq_false z, Bool.false_and]
    · dsimp only
      refine nm_r (nI_1 r) ?_
      rw [oh_es_a]
      refine xw_7 hm hb hXF hS hnm hx h0 h1 e (r + 1) f (l ++ oh_rt (oh_sY FL r) r (oh_fo (oh_sY FL) m r)) pd (by omega) (by omega) (by rw [List.length_append]; omega) ?_
      rw [List.append_assoc]
      exact hal
theorem xw_rewrite {post : Int32 → SX → Prop} {ch : Nat → Nat} (hm : m ≤ 6) (hb : b ≤ 6) (hXF : ∀ r, r < m → oh_XF xki xst xdn xsn xdf xdt xsf xse xds xtd xtm (b + r) (oh_sY FL r)) (hS : ∀ r, r < m → oh_SV (oh_sY FL r)) (hnm : ∀ i, i < 27 → xnm i = lN (oh_le (oh_nm i))) (hx : ∀ j, xtx j = nI (ch j))
    (h0 : (m = 0 ∨ 128 < (oh_tx (oh_sY FL) m).length) → ∀ os pd ou, post (-1) (xfw, xlp, xdy, xrl, xhz, xhc, xts, os, pd, xtc, xcu, nI b, nI m, xdc, xho, xtx, ou, xnm, xtk, xtv, xki, xst, xdn, xsn, xdf, xdt, xsf, xse, xds, xtd, xtm))
    (h1 : ¬ (m = 0 ∨ 128 < (oh_tx (oh_sY FL) m).length) → ∀ os pd ou xtx', (∀ j, xtx' j = nI (oh_tn (oh_tx (oh_sY FL) m) (oh_tx (oh_sY FL) m).length ch j)) → post (nI (oh_tx (oh_sY FL) m).length) (xfw, xlp, xdy, xrl, xhz, xhc, nI (oh_tx (oh_sY FL) m).length, os, pd, xtc, xcu, nI b, nI m, xdc, xho, xtx', ou, xnm, xtk, xtv, xki, xst, xdn, xsn, xdf, xdt, xsf, xse, xds, xtd, xtm)) : wpX_rewrite post (xfw, xlp, xdy, xrl, xhz, xhc, xts, xos, xpd, xtc, xcu, nI b, nI m, xdc, xho, xtx, xou, xnm, xtk, xtv, xki, xst, xdn, xsn, xdf, xdt, xsf, xse, xds, xtd, xtm) := by
  unfold wpX_rewrite
  exact ⟨m + 1, xw_7 (o := xou) hm hb hXF hS hnm hx h0 h1 m 0 (m + 1) [] xpd (by omega) (by omega) (by simp only [List.length_nil]; omega) rfl⟩
end
end
section
/-! ===== Y: printing ===== -/
theorem oh_revD {l : List Nat} {k : Nat} (h : k < l.length) : l.reverse.getD k 0 = l.getD (l.length - 1 - k) 0 := by
  rw [oh_gE (by rw [List.length_reverse]; exact h), oh_gE (by omega), List.getElem_reverse]
section
variable {yfw ylp yrl yhd yts yos ylt yfc yru yps yrd ykp : Int32} {ytx you yfa yho : Nat → Int32} {ynm : Nat → Int64} {m : Nat} {FL : List (Nat × Nat × Nat × Nat)}
theorem yw_emit {post : SY → Prop} {s : Nat × (Nat → Int32)} {x : Int32} (c : Nat) (ex : x = nI c) (hs : s.1 ≤ 1000000) (h : post (yfw, ylp, yrl, yhd, yts, nI (oh_es s [c]).1, ylt, yfc, yru, yps, yrd, ykp, ytx, (oh_es s [c]).2, yfa, ynm, yho)) : wpY_emit post (yfw, ylp, yrl, yhd, yts, nI s.1, ylt, yfc, yru, yps, yrd, ykp, ytx, s.2, yfa, ynm, yho) x := by
  subst ex
  unfold wpY_emit
  dsimp only
  have e : oh_es s [c] = (s.1 + 1, if s.1 < 128 then upd s.2 s.1 (nI c) else s.2) := rfl
  rw [e] at h
  refine pk_le 128 s.1 (fun b => ?_) (fun b => ⟨vp_in_nI b (by omega), ?_⟩)
  · rw [if_neg (by omega)] at h
    exact nm_r (nI_1 _) h
  · rw [if_pos b] at h
    rw [nI_clamp (by omega)]
    exact nm_e (nm_r (nI_1 _) h)
theorem yw_n3 {post : SY → Prop} {i : Nat} (hi : i < 27) (hn : ynm (i + 1) = lN (oh_be (oh_nm i))) : ∀ (k f : Nat) (s : Nat × (Nat → Int32)), k ≤ 7 → k < f → s.1 + k ≤ 1000000 → post (yfw, ylp, yrl, yhd, yts, nI (oh_es s ((oh_nm i).drop ((oh_nm i).length - k))).1, ylt, yfc, yru, yps, yrd, ykp, ytx, (oh_es s ((oh_nm i).drop ((oh_nm i).length - k))).2, yfa, ynm, yho) → wY_emitName_3 post (nI (i + 1)) f (nI (8 * k) - 8) yfw ylp yrl yhd yts (nI s.1) ylt yfc yru yps yrd ykp ytx s.2 yfa ynm yho
  | k, 0, _, _, hf, _, _ => absurd hf (by omega)
  | 0, f + 1, s, _, _, hs, h => by
    rw [Nat.sub_zero, List.drop_length] at h
    rw [wY_emitName_3]
    exact br_t (by decide) h
  | k + 1, f + 1, s, hk, hf, hs, h => by
    have hl := oh_nm_f i hi
    have hb := oh_nm_y i hi k (by omega)
    have e1 : nI (8 * (k + 1)) - 8 = nI (8 * k) := pk_sub (a := 8 * (k + 1)) (b := 8) (by omega)
    have e2 : nI (8 * k) + (-8) = nI (8 * k) - 8 := by rw [Int32.sub_eq_add_neg]
    rw [wY_emitName_3, e1]
    refine br_f (nI_pos (by omega)) ⟨vp_in_nI (by omega) (by omega), ?_⟩
    rw [nI_clamp (by omega), hn, hb]
    rcases Nat.lt_or_ge k (oh_nm i).length with z | z
    · rw [oh_revD z]
      have hd := oh_dropc (l := oh_nm i) (i := (oh_nm i).length - (k + 1)) 0 (by omega)
      rw [show (oh_nm i).length - (k + 1) + 1 = (oh_nm i).length - k by omega] at hd
      rw [hd] at h
      have hc := hl.1 _ (oh_gM (l := oh_nm i) (d := 0) (j := (oh_nm i).length - (k + 1)) (by omega))
      rw [show (oh_nm i).length - 1 - k = (oh_nm i).length - (k + 1) by omega]
      generalize (oh_nm i).getD ((oh_nm i).length - (k + 1)) 0 = c at *
      have hne : ¬ lN c = 0 := fun q => by
        have := (lN_eq (a := c) (b := 0) (by omega) (by omega)).mp q
        omega
      refine br_f hne ⟨vp_in_nI (by omega) (by omega), ?_⟩
      refine yw_emit c (lN_i c) (by omega) ?_
      dsimp only
      have h1 := oh_es_1 [c] s
      rw [List.length_singleton] at h1
      refine nm_r e2 (yw_n3 hi hn k f (oh_es s [c]) (by omega) (by omega) (by omega) ?_)
      rw [oh_es_a]
      exact h
    · rw [oh_gN (by rw [List.length_reverse]; exact z)]
      rw [show (oh_nm i).length - (k + 1) = (oh_nm i).length - k by omega] at h
      exact br_t rfl (nm_r e2 (yw_n3 hi hn k f s (by omega) (by omega) (by omega) h))
theorem yw_name {post : SY → Prop} {s : Nat × (Nat → Int32)} {x : Int32} (i : Nat) (ex : x = nI (i + 1)) (hi : i < 27) (hn : ∀ i, i < 27 → ynm (i + 1) = lN (oh_be (oh_nm i))) (hs : s.1 + 10 ≤ 1000000) (h : post (yfw, ylp, yrl, yhd, yts, nI (oh_es s (oh_nm i)).1, ylt, yfc, yru, yps, yrd, ykp, ytx, (oh_es s (oh_nm i)).2, yfa, ynm, yho)) : wpY_emitName post (yfw, ylp, yrl, yhd, yts, nI s.1, ylt, yfc, yru, yps, yrd, ykp, ytx, s.2, yfa, ynm, yho) x := by
  subst ex
  have hl := oh_nm_len hi
  unfold wpY_emitName
  refine ⟨8, ?_⟩
  have e : (48 : Int32) = nI (8 * 7) - 8 := by decide
  rw [e]
  refine yw_n3 hi (hn i hi) 7 8 s (by omega) (by omega) (by omega) ?_
  rw [show (oh_nm i).length - 7 = 0 by omega, List.drop_zero]
  exact h
theorem yw_two {post : SY → Prop} {s : Nat × (Nat → Int32)} {y : Int32} (v : Nat) (ey : y = nI v) (hs : s.1 + 10 ≤ 1000000) (hv : v < 100) (h : post (yfw, ylp, yrl, yhd, yts, nI (oh_es s (oh_tw2 v)).1, ylt, yfc, yru, yps, yrd, ykp, ytx, (oh_es s (oh_tw2 v)).2, yfa, ynm, yho)) : wpY_emitTwo post (yfw, ylp, yrl, yhd, yts, nI s.1, ylt, yfc, yru, yps, yrd, ykp, ytx, s.2, yfa, ynm, yho) y := by
  subst ey
  unfold wpY_emitTwo
  dsimp only
  refine ⟨by decide, yw_emit (48 + v / 10) (by rw [oh_d10 (by omega)]; exact nI_add 48 _) (by omega) ?_⟩
  dsimp only
  have h1 := oh_es_1 [48 + v / 10] s
  rw [List.length_singleton] at h1
  refine ⟨by decide, yw_emit (48 + v % 10) (by rw [oh_r10 (by omega)]; exact nI_add 48 _) (by omega) ?_⟩
  rw [oh_es_a]
  exact h
theorem yw_time {post : SY → Prop} {s : Nat × (Nat → Int32)} {y : Int32} (t : Nat) (ey : y = nI t) (hs : s.1 + 20 ≤ 1000000) (ht : t < 100) (h : post (yfw, ylp, yrl, yhd, yts, nI (oh_es s (oh_tw2 (t / 2) ++ (58 :: oh_tw2 (t % 2 * 30)))).1, ylt, yfc, yru, yps, yrd, ykp, ytx, (oh_es s (oh_tw2 (t / 2) ++ (58 :: oh_tw2 (t % 2 * 30)))).2, yfa, ynm, yho)) : wpY_emitTime post (yfw, ylp, yrl, yhd, yts, nI s.1, ylt, yfc, yru, yps, yrd, ykp, ytx, s.2, yfa, ynm, yho) y := by
  subst ey
  have h1 := oh_es_1 (oh_tw2 (t / 2)) s
  rw [oh_tw2_len] at h1
  unfold wpY_emitTime
  dsimp only
  refine ⟨by decide, yw_two (t / 2) (oh_d2 (by omega)) (by omega) (by omega) ?_⟩
  dsimp only
  refine yw_emit 58 rfl (by omega) ?_
  dsimp only
  rw [oh_es_a]
  have h2 := oh_es_1 (oh_tw2 (t / 2) ++ [58]) s
  rw [List.length_append, oh_tw2_len, List.length_singleton] at h2
  refine ⟨by decide, yw_two (t % 2 * 30) (by rw [oh_r2 (by omega)]; exact pk_mul _ 30) (by omega) (by omega) ?_⟩
  rw [oh_es_a, List.append_assoc]
  exact h
theorem yw_lead {post : SY → Prop} {s : Nat × (Nat → Int32)} {x : Int32} (j lp : Nat) (ex : x = nI j) (hj : j ≤ 4) (hlp : lp ≤ 4) (hs : s.1 ≤ 1000000) (h : post (yfw, ylp, yrl, yhd, yts, nI (oh_es s (oh_s0 (oh_pd j lp))).1, nI j, yfc, yru, yps, yrd, ykp, ytx, (oh_es s (oh_s0 (oh_pd j lp))).2, yfa, ynm, yho)) : wpY_lead post (yfw, ylp, yrl, yhd, yts, nI s.1, nI lp, yfc, yru, yps, yrd, ykp, ytx, s.2, yfa, ynm, yho) x := by
  subst ex
  unfold wpY_lead
  dsimp only
  unfold oh_pd at h
  refine pk_le lp 0 (fun a => ?_) (fun a => ?_)
  · rw [if_pos (by omega)] at h
    exact h
  · rw [if_neg (by omega)] at h
    unfold wY_lead_23
    refine pk_eq lp j (fun z => ?_) (fun z => ?_)
    · rw [if_pos z] at h
      exact yw_emit 44 rfl hs h
    · rw [if_neg z] at h
      exact yw_emit 32 rfl hs h
/-- a date behind its first month and day -/
theorem yw_167 {post : SY → Prop} {s : Nat × (Nat → Int32)} {b : Nat} (wh : Bool) (hb : oh_vd b) (hs : s.1 + 10 ≤ 1000000) (h : post (yfw, ylp, yrl, yhd, yts, nI (oh_es s (if wh then [] else oh_tw2 (b % 32))).1, ylt, yfc, yru, yps, yrd, ykp, ytx, (oh_es s (if wh then [] else oh_tw2 (b % 32))).2, yfa, ynm, yho)) : wY_emitDate_167 post (nI b) (oh_bi wh) yfw ylp yrl yhd yts (nI s.1) ylt yfc yru yps yrd ykp ytx s.2 yfa ynm yho := by
  have b5 := oh_vd_lt hb
  unfold wY_emitDate_167
  refine oh_brbi (fun z => ⟨by decide, ?_⟩) (fun z => ?_)
  · rw [z] at h
    exact yw_two (b % 32) (oh_r32 (by omega)) (by omega) (by omega) h
  · rw [z] at h
    exact h
theorem yw_147 {post : SY → Prop} {s : Nat × (Nat → Int32)} {b : Nat} (wh : Bool) (hb : oh_vd b) (hn : ∀ i, i < 27 → ynm (i + 1) = lN (oh_be (oh_nm i))) (hs : s.1 + 30 ≤ 1000000) (h : post (yfw, ylp, yrl, yhd, yts, nI (oh_es s (oh_nm (b / 32 - 1) ++ oh_t1 wh (b % 32))).1, ylt, yfc, yru, yps, yrd, ykp, ytx, (oh_es s (oh_nm (b / 32 - 1) ++ oh_t1 wh (b % 32))).2, yfa, ynm, yho)) : wY_emitDate_147 post (nI b) (oh_bi wh) yfw ylp yrl yhd yts (nI s.1) ylt yfc yru yps yrd ykp ytx s.2 yfa ynm yho := by
  have b5 := oh_vd_lt hb
  have hb2 := hb
  unfold oh_vd at hb2
  have hl := oh_nm_len (i := b / 32 - 1) (by omega)
  have h1 := oh_es_1 (oh_nm (b / 32 - 1)) s
  unfold wY_emitDate_147
  refine ⟨by decide, yw_name (b / 32 - 1) (by rw [oh_d32 (by omega)]; congr 1; omega) (by omega) hn (by omega) ?_⟩
  dsimp only
  unfold oh_t1 at h
  refine oh_brbi (fun z => ?_) (fun z => ?_)
  · refine yw_emit 32 rfl (by omega) ?_
    dsimp only
    rw [oh_es_a]
    have h2 := oh_es_1 (oh_nm (b / 32 - 1) ++ [32]) s
    rw [List.length_append, List.length_singleton] at h2
    refine yw_167 wh hb (by omega) ?_
    rw [oh_es_a]
    rw [z] at h ⊢
    simp only [List.append_assoc] at h ⊢
    exact h
  · refine yw_167 wh hb (by omega) ?_
    rw [oh_es_a]
    rw [z] at h ⊢
    exact h
theorem oh_wh_lt {a b : Nat} (ha : oh_vd a) (hb : oh_vd b) (hw : oh_wh a b = true) (hs : oh_sm2 a b = true) : a < b := by
  have h1 := of_decide_eq_true hw
  have h2 := of_decide_eq_true hs
  have hml := oh_ml_in (b / 32) 1 (by omega)
  omega
theorem yw_95 {post : SY → Prop} {s : Nat × (Nat → Int32)} {a b : Nat} (ha : oh_vd a) (hb : oh_vd b) (hn : ∀ i, i < 27 → ynm (i + 1) = lN (oh_be (oh_nm i))) (hs : s.1 + 40 ≤ 1000000) (h : post (yfw, ylp, yrl, yhd, yts, nI (oh_es s (oh_d77 (oh_sm2 a b) (oh_wh a b) a b)).1, ylt, yfc, yru, yps, yrd, ykp, ytx, (oh_es s (oh_d77 (oh_sm2 a b) (oh_wh a b) a b)).2, yfa, ynm, yho)) : wY_emitDate_95 post (nI a) (nI b) (oh_bi (oh_wh a b)) yfw ylp yrl yhd yts (nI s.1) ylt yfc yru yps yrd ykp ytx s.2 yfa ynm yho := by
  have a5 := oh_vd_lt ha
  have b5 := oh_vd_lt hb
  have hlt := oh_wh_lt ha hb
  have hsm : oh_sm2 a b = true ↔ a / 32 = b / 32 := decide_eq_true_iff
  unfold oh_d77 oh_d101 at h
  generalize oh_wh a b = wh at *
  generalize oh_sm2 a b = sm at *
  have h121 : ¬ a = b → ¬ (wh = true ∧ sm = true) → wY_emitDate_121 post (nI a) (nI b) (oh_bi wh) yfw ylp yrl yhd yts (nI s.1) ylt yfc yru yps yrd ykp ytx s.2 yfa ynm yho := fun ne nw => by
    have h1 := oh_es_1 [45] s
    rw [List.length_singleton] at h1
    unfold wY_emitDate_121
    refine yw_emit 45 rfl (by omega) ?_
    dsimp only
    rw [oh_d32 (a := a) (by omega), oh_d32 (a := b) (by omega)]
    refine ⟨by decide, by decide, pk_eq (a / 32) (b / 32) (fun z => ?_) (fun z => ?_)⟩
    · have es := hsm.mpr z
      have ew : wh = false := by cases hw : wh <;> simp_all
      rw [es, ew] at h
      refine pk_le a b (fun y => ?_) (fun y => ?_)
      · refine yw_167 wh hb (by omega) ?_
        rw [oh_es_a, ew]
        rw [decide_eq_true (show a < b by omega), decide_eq_true (show a ≤ b by omega)] at h
        simp at h ⊢
        exact h
      · refine yw_147 wh hb hn (by omega) ?_
        rw [oh_es_a, ew]
        rw [decide_eq_false (show ¬ a < b by omega), decide_eq_false (show ¬ a ≤ b by omega)] at h
        simp at h ⊢
        exact h
    · have es : sm = false := by cases hx : sm with
        | false => rfl
        | true => exact absurd (hsm.mp hx) z
      rw [es] at h
      refine yw_147 wh hb hn (by omega) ?_
      rw [oh_es_a]
      simp at h ⊢
      exact h
  unfold wY_emitDate_95
  refine pk_eq a b (fun z => ?_) (fun z => ?_)
  · have es : sm = true := hsm.mpr (by rw [z])
    rw [es, decide_eq_false (show ¬ a < b by omega), decide_eq_true (show a ≤ b by omega)] at h
    simp at h
    exact h
  · refine oh_brbi (fun w0 => h121 z (fun q => by rw [w0] at q; exact absurd q.1 (by decide))) (fun w1 => ?_)
    rw [oh_d32 (a := a) (by omega), oh_d32 (a := b) (by omega)]
    refine ⟨by decide, by decide, pk_eq (a / 32) (b / 32) (fun y => ?_) (fun y => h121 z (fun q => y (hsm.mp q.2)))⟩
    have es := hsm.mpr y
    have := hlt w1 es
    rw [es, w1, decide_eq_true (show a ≤ b by omega)] at h
    simp at h
    exact h
theorem yw_date {post : SY → Prop} {s : Nat × (Nat → Int32)} {r n lp : Nat} (hF : oh_YF FL yfc yfa) (hK : oh_FK FL) (hr : r < 100) (hnn : n < 100) (hlt : n < (oh_sY FL r 1).length) (hlp : lp ≤ 4) (hv : oh_vd ((oh_sY FL r 1).getD n (0, 0)).1 ∧ oh_vd ((oh_sY FL r 1).getD n (0, 0)).2) (hn : ∀ i, i < 27 → ynm (i + 1) = lN (oh_be (oh_nm i))) (hs : s.1 + 60 ≤ 1000000) (h : post (yfw, ylp, yrl, yhd, yts, nI (oh_es s (oh_s0 (oh_pd 1 lp) ++ oh_dl ((oh_sY FL r 1).getD n (0, 0)))).1, 1, yfc, yru, yps, yrd, ykp, ytx, (oh_es s (oh_s0 (oh_pd 1 lp) ++ oh_dl ((oh_sY FL r 1).getD n (0, 0)))).2, yfa, ynm, yho)) : wpY_emitDate post (yfw, ylp, yrl, yhd, yts, nI s.1, nI lp, yfc, yru, yps, yrd, ykp, ytx, s.2, yfa, ynm, yho) (nI r) (nI n) := by
  have hfv : ∀ (l : List (Nat × Nat)) (k : Nat), k < l.length → oh_fv l k = nI ((l.getD k (0, 0)).1 * 512 + (l.getD k (0, 0)).2) := by
    intro l
    induction l with
    | nil => intro k hk; exact absurd hk (Nat.not_lt_zero _)
    | cons ab t ih =>
      intro k hk
      cases k with
      | zero => rfl
      | succ k => exact ih k (by rw [List.length_cons] at hk; omega)
  have e0 := hfv _ _ hlt
  generalize (oh_sY FL r 1).getD n (0, 0) = ab at *
  obtain ⟨a, b⟩ := ab
  dsimp only at hv e0
  have a5 := oh_vd_lt hv.1
  have b5 := oh_vd_lt hv.2
  have hv1 := hv.1
  have hv2 := hv.2
  unfold oh_vd at hv1 hv2
  have hml := oh_ml_in (b / 32) 1 (by omega)
  have h59 : ∀ wh, wh = oh_wh a b → wY_emitDate_59 post (nI a) (nI b) (oh_bi wh) yfw ylp yrl yhd yts (nI s.1) (nI lp) yfc yru yps yrd ykp ytx s.2 yfa ynm yho := fun wh ew => by
    have hl := oh_nm_len (i := a / 32 - 1) (by omega)
    have h2 := oh_s0_len (oh_pd 1 lp)
    have h1 := oh_es_1 (oh_s0 (oh_pd 1 lp)) s
    have h3 := oh_es_1 (oh_s0 (oh_pd 1 lp) ++ oh_nm (a / 32 - 1)) s
    rw [List.length_append] at h3
    unfold wY_emitDate_59
    refine yw_lead 1 lp rfl (by omega) hlp (by omega) ?_
    dsimp only
    refine ⟨by decide, yw_name (a / 32 - 1) (by rw [oh_d32 (by omega)]; congr 1; omega) (by omega) hn (by omega) ?_⟩
    dsimp only
    rw [oh_es_a]
    unfold oh_dl oh_t1 at h
    dsimp only at h
    refine oh_brbi (fun z => ?_) (fun z => ?_)
    · refine yw_emit 32 rfl (by omega) ?_
      dsimp only
      rw [oh_es_a]
      have h4 := oh_es_1 (oh_s0 (oh_pd 1 lp) ++ oh_nm (a / 32 - 1) ++ [32]) s
      simp only [List.length_append, List.length_singleton] at h4
      refine ⟨by decide, yw_two (a % 32) (oh_r32 (by omega)) (by omega) (by omega) ?_⟩
      dsimp only
      rw [oh_es_a]
      have h5 := oh_es_1 (oh_s0 (oh_pd 1 lp) ++ oh_nm (a / 32 - 1) ++ [32] ++ oh_tw2 (a % 32)) s
      simp only [List.length_append, List.length_singleton, oh_tw2_len] at h5
      rw [ew]
      refine yw_95 hv.1 hv.2 hn (by omega) ?_
      rw [oh_es_a]
      rw [← ew, z] at h ⊢
      simp only [List.append_assoc] at h ⊢
      exact h
    · rw [ew]
      refine yw_95 hv.1 hv.2 hn (by omega) ?_
      rw [oh_es_a]
      rw [← ew, z] at h ⊢
      simp only [List.append_assoc] at h ⊢
      exact h
  unfold wpY_emitDate
  dsimp only
  refine yf_fact r 1 n rfl rfl rfl hF hK hr (by omega) hnn ?_
  rw [e0]
  refine ⟨by decide, nm_r (e' := nI a) (by rw [oh_d512 (by omega)]; congr 1; omega) ⟨by decide, nm_r (e' := nI b) (by rw [oh_r512 (by omega)]; congr 1; omega) (br_t (nI_pos' (by omega)) ⟨by decide, ?_⟩)⟩⟩
  rw [oh_r32 (a := a) (by omega)]
  refine pk_eq (a % 32) 1 (fun z => ⟨by decide, by decide, ?_⟩) (fun z => h59 false (by unfold oh_wh; exact (decide_eq_false (fun q => z q.1)).symm))
  refine yk_ml (b / 32) 1 (oh_d32 (by omega)) rfl (by omega) ?_
  rw [oh_r32 (a := b) (by omega)]
  exact pk_eq (b % 32) (oh_ml (b / 32) 1) (fun y => h59 true (by unfold oh_wh; exact (decide_eq_true ⟨z, y⟩).symm)) (fun y => h59 false (by unfold oh_wh; exact (decide_eq_false (fun q => y q.2)).symm))
theorem oh_fv_n {l : List (Nat × Nat)} : ∀ {k : Nat}, l.length ≤ k → oh_fv l k = -1 := by
  induction l with
  | nil => intro k _; rfl
  | cons ab t ih =>
    intro k hk
    cases k with
    | zero => rw [List.length_cons] at hk; omega
    | succ k => exact ih (by rw [List.length_cons] at hk; omega)
theorem yw_date_n {post : SY → Prop} {r n : Nat} (hF : oh_YF FL yfc yfa) (hK : oh_FK FL) (hr : r < 100) (hnn : n < 100) (hlt : (oh_sY FL r 1).length ≤ n) (h : post (yfw, ylp, yrl, yhd, yts, yos, ylt, yfc, yru, yps, yrd, ykp, ytx, you, yfa, ynm, yho)) : wpY_emitDate post (yfw, ylp, yrl, yhd, yts, yos, ylt, yfc, yru, yps, yrd, ykp, ytx, you, yfa, ynm, yho) (nI r) (nI n) := by
  unfold wpY_emitDate
  dsimp only
  refine yf_fact r 1 n rfl rfl rfl hF hK hr (by omega) hnn ?_
  rw [oh_fv_n hlt]
  exact ⟨by decide, nm_e ⟨by decide, nm_e (br_f (by decide) h)⟩⟩
theorem yw_span {post : SY → Prop} {s : Nat × (Nat → Int32)} {r n lp : Nat} (hF : oh_YF FL yfc yfa) (hK : oh_FK FL) (hr : r < 100) (hnn : n < 100) (hlt : n < (oh_sY FL r 5).length) (hlp : lp ≤ 4) (hv : ((oh_sY FL r 5).getD n (0, 0)).1 ≤ 47 ∧ ((oh_sY FL r 5).getD n (0, 0)).2 ≤ 95) (hs : s.1 + 60 ≤ 1000000) (h : post (yfw, ylp, yrl, yhd, yts, nI (oh_es s (oh_s0 (oh_pd 3 lp) ++ oh_sl ((oh_sY FL r 5).getD n (0, 0)))).1, 3, yfc, yru, yps, yrd, ykp, ytx, (oh_es s (oh_s0 (oh_pd 3 lp) ++ oh_sl ((oh_sY FL r 5).getD n (0, 0)))).2, yfa, ynm, yho)) : wpY_emitSpan post (yfw, ylp, yrl, yhd, yts, nI s.1, nI lp, yfc, yru, yps, yrd, ykp, ytx, s.2, yfa, ynm, yho) (nI r) (nI n) := by
  have hfv : ∀ (l : List (Nat × Nat)) (k : Nat), k < l.length → oh_fv l k = nI ((l.getD k (0, 0)).1 * 512 + (l.getD k (0, 0)).2) := by
    intro l
    induction l with
    | nil => intro k hk; exact absurd hk (Nat.not_lt_zero _)
    | cons ab t ih =>
      intro k hk
      cases k with
      | zero => rfl
      | succ k => exact ih k (by rw [List.length_cons] at hk; omega)
  have e0 := hfv _ _ hlt
  generalize (oh_sY FL r 5).getD n (0, 0) = ab at *
  obtain ⟨a, b⟩ := ab
  dsimp only at hv e0
  unfold wpY_emitSpan
  dsimp only
  refine yf_fact r 5 n rfl rfl rfl hF hK hr (by omega) hnn ?_
  rw [e0]
  have h2 := oh_s0_len (oh_pd 3 lp)
  have h1 := oh_es_1 (oh_s0 (oh_pd 3 lp)) s
  refine ⟨by decide, nm_r (e' := nI b) (by rw [oh_r512 (by omega)]; congr 1; omega) (br_t (nI_pos' (by omega)) ?_)⟩
  refine yw_lead 3 lp rfl (by omega) hlp (by omega) ?_
  dsimp only
  refine ⟨by decide, yw_time a (by rw [oh_d512 (by omega)]; congr 1; omega) (by omega) (by omega) ?_⟩
  dsimp only
  rw [oh_es_a]
  have h3 := oh_es_1 (oh_s0 (oh_pd 3 lp) ++ (oh_tw2 (a / 2) ++ 58 :: oh_tw2 (a % 2 * 30))) s
  simp only [List.length_append, List.length_cons, oh_tw2_len] at h3
  refine yw_emit 45 rfl (by omega) ?_
  dsimp only
  rw [oh_es_a]
  have h4 := oh_es_1 (oh_s0 (oh_pd 3 lp) ++ (oh_tw2 (a / 2) ++ 58 :: oh_tw2 (a % 2 * 30)) ++ [45]) s
  simp only [List.length_append, List.length_cons, List.length_nil, oh_tw2_len] at h4
  have h58 : ∀ e, oh_cl b = e → e ≤ 48 → wY_emitSpan_58 post (nI e) yfw ylp yrl yhd yts (nI (oh_es s (oh_s0 (oh_pd 3 lp) ++ (oh_tw2 (a / 2) ++ 58 :: oh_tw2 (a % 2 * 30)) ++ [45])).1) 3 yfc yru yps yrd ykp ytx ((oh_es s (oh_s0 (oh_pd 3 lp) ++ (oh_tw2 (a / 2) ++ 58 :: oh_tw2 (a % 2 * 30)) ++ [45])).2) yfa ynm yho := fun e he he2 => by
    unfold wY_emitSpan_58
    refine yw_time e rfl (by omega) (by omega) ?_
    rw [oh_es_a]
    unfold oh_sl at h
    dsimp only at h
    rw [he] at h
    simp only [List.append_assoc, List.cons_append, List.nil_append] at h ⊢
    exact h
  refine pk_lt 48 b (fun z => ?_) (fun z => h58 b (if_pos (by omega)) (by omega))
  rw [show nI b - 48 = nI (b - 48) from pk_sub (a := b) (b := 48) (by omega)]
  exact h58 (b - 48) (if_neg (by omega)) (by omega)
theorem yw_span_n {post : SY → Prop} {r n : Nat} (hF : oh_YF FL yfc yfa) (hK : oh_FK FL) (hr : r < 100) (hnn : n < 100) (hlt : (oh_sY FL r 5).length ≤ n) (h : post (yfw, ylp, yrl, yhd, yts, yos, ylt, yfc, yru, yps, yrd, ykp, ytx, you, yfa, ynm, yho)) : wpY_emitSpan post (yfw, ylp, yrl, yhd, yts, yos, ylt, yfc, yru, yps, yrd, ykp, ytx, you, yfa, ynm, yho) (nI r) (nI n) := by
  unfold wpY_emitSpan
  dsimp only
  refine yf_fact r 5 n rfl rfl rfl hF hK hr (by omega) hnn ?_
  rw [oh_fv_n hlt]
  exact ⟨by decide, nm_e (br_f (by decide) h)⟩
end
end
section
/-! ===== Y: emitRule, rewrite ===== -/
theorem oh_nb_a (V : Nat → Bool) : ∀ a b n, oh_nb V (a + b) n = oh_nb V a n ++ oh_nb V b (n + a)
  | 0, b, n => by rw [Nat.zero_add]; rfl
  | a + 1, b, n => by
    rw [show a + 1 + b = (a + b) + 1 by omega, oh_nb, oh_nb, oh_nb_a V a b (n + 1), show n + 1 + a = n + (a + 1) by omega]
    split <;> rfl
theorem oh_lp_le {j lp : Nat} (bs : List (List Nat)) (h : lp ≤ j) : oh_lp j lp bs ≤ j := by unfold oh_lp; split <;> omega
section
variable {yfw ylp yrl yhd yts yos ylt yfc yru yps yrd ykp : Int32} {ytx you yfa yho : Nat → Int32} {ynm : Nat → Int64} {fw lp0 m : Nat} {FL : List (Nat × Nat × Nat × Nat)} {ho : Nat → Bool}
theorem yw_56 {post : SY → Prop} {s : Nat × (Nat → Int32)} {w e lp : Nat} (hw : w < 7) (he : e < 7) (hlp : lp ≤ 4) (hn : ∀ i, i < 27 → ynm (i + 1) = lN (oh_be (oh_nm i))) (hs : s.1 + 30 ≤ 1000000) (h : post (yfw, ylp, yrl, yhd, yts, nI (oh_es s (oh_s0 (oh_pd 2 lp) ++ oh_rn (w, e))).1, 2, yfc, yru, yps, yrd, ykp, ytx, (oh_es s (oh_s0 (oh_pd 2 lp) ++ oh_rn (w, e))).2, yfa, ynm, yho)) : wY_emitRun_56 post (nI w) (nI e) yfw ylp yrl yhd yts (nI s.1) (nI lp) yfc yru yps yrd ykp ytx s.2 yfa ynm yho := by
  have hl := oh_nm_len (i := 12 + w) (by omega)
  have h2 := oh_s0_len (oh_pd 2 lp)
  have h1 := oh_es_1 (oh_s0 (oh_pd 2 lp)) s
  have h3 := oh_es_1 (oh_s0 (oh_pd 2 lp) ++ oh_nm (12 + w)) s
  rw [List.length_append] at h3
  unfold oh_rn at h
  dsimp only at h
  unfold wY_emitRun_56
  refine yw_lead 2 lp rfl (by omega) hlp (by omega) ?_
  dsimp only
  refine yw_name (12 + w) (by rw [show 12 + w + 1 = 13 + w by omega]; exact nI_add 13 w) (by omega) hn (by omega) ?_
  dsimp only
  rw [oh_es_a]
  refine pk_le e w (fun z => ?_) (fun z => ?_)
  · rw [if_neg (by omega), List.append_nil] at h
    exact h
  · rw [if_pos z] at h
    refine yw_emit 45 rfl (by omega) ?_
    dsimp only
    rw [oh_es_a]
    have h4 := oh_es_1 (oh_s0 (oh_pd 2 lp) ++ oh_nm (12 + w) ++ [45]) s
    simp only [List.length_append, List.length_singleton] at h4
    refine yw_name (12 + e) (by rw [show 12 + e + 1 = 13 + e by omega]; exact nI_add 13 e) (by omega) hn (by omega) ?_
    rw [oh_es_a]
    simp only [List.append_assoc, List.cons_append, List.nil_append] at h ⊢
    exact h
theorem yw_31 {post : SY → Prop} {r w : Nat} (hF : oh_YF FL yfc yfa) (hK : oh_FK FL) (hr : r < 100) (hw : w < 7) (h : wY_emitRun_56 post (nI w) (nI (oh_re (oh_W (oh_sY FL r)) (6 - w) w)) yfw ylp yrl yhd yts yos ylt yfc yru yps yrd ykp ytx you yfa ynm yho) : ∀ (d e f : Nat), e + d = 6 → d < f → oh_re (oh_W (oh_sY FL r)) (6 - w) w = oh_re (oh_W (oh_sY FL r)) d e → wY_emitRun_31 post (nI r) (nI w) yfw ylp yrl yhd yts yos ylt yfc yru yps yrd ykp ytx you yfa ynm yho f (nI e)
  | d, e, 0, _, hf, _ => absurd hf (by omega)
  | 0, e, f + 1, hd, _, he => by
    rw [he, oh_re] at h
    rw [wY_emitRun_31]
    exact pk_le 6 e (fun _ => h) (fun a => absurd a (by omega))
  | d + 1, e, f + 1, hd, hf, he => by
    rw [wY_emitRun_31]
    rw [oh_re] at he
    refine pk_le 6 e (fun a => absurd a (by omega)) (fun _ => ?_)
    refine yf_holds r 2 (e + 1) 0 rfl rfl (nI_1 e) rfl hF hK hr (by omega) (by omega) (by omega) ?_
    have e2 : (oh_sY FL r 2).any (oh_says 2 (e + 1) 0) = oh_W (oh_sY FL r) (e + 1) := rfl
    rw [e2]
    refine oh_brbi (fun z => ?_) (fun z => ?_)
    · rw [z] at he
      rw [he] at h
      exact h
    · rw [if_pos z] at he
      exact nm_r (nI_1 e) (yw_31 hF hK hr hw h d (e + 1) f (by omega) (by omega) he)
theorem yw_48 {post : SY → Prop} {r : Nat} {x2 : Int32} (hF : oh_YF FL yfc yfa) (hK : oh_FK FL) (hr : r < 100) (hn : ∀ i, i < 27 → ynm (i + 1) = lN (oh_be (oh_nm i))) : ∀ (e w f lp : Nat) (s : Nat × (Nat → Int32)), w + e = 7 → e < f → lp ≤ 2 → s.1 + 20 * e + 50 ≤ 1000000 → (∃ n68, wY_emitRule_68 post (nI r) x2 n68 0 yfw ylp yrl yhd yts (nI (oh_es s (oh_bl 2 lp ((oh_rp (oh_W (oh_sY FL r)) e w).map oh_rn))).1) (nI (oh_lp 2 lp ((oh_rp (oh_W (oh_sY FL r)) e w).map oh_rn))) yfc yru yps yrd ykp ytx ((oh_es s (oh_bl 2 lp ((oh_rp (oh_W (oh_sY FL r)) e w).map oh_rn))).2) yfa ynm yho) → wY_emitRule_48 post (nI r) x2 f (nI w) yfw ylp yrl yhd yts (nI s.1) (nI lp) yfc yru yps yrd ykp ytx s.2 yfa ynm yho
  | e, w, 0, _, _, _, hf, _, _, _ => absurd hf (by omega)
  | 0, w, f + 1, lp, s, he, _, hlp, hs, h => by
    rw [wY_emitRule_48]
    exact pk_le 7 w (fun _ => h) (fun a => absurd a (by omega))
  | e + 1, w, f + 1, lp, s, he, hf, hlp, hs, h => by
    rw [wY_emitRule_48]
    rw [oh_rp] at h
    refine pk_le 7 w (fun a => absurd a (by omega)) (fun _ => ?_)
    have hskip : (oh_W (oh_sY FL r) w && !(decide (0 < w) && oh_W (oh_sY FL r) (w - 1))) = false → wY_emitRule_48 post (nI r) x2 f (nI (w + 1)) yfw ylp yrl yhd yts (nI s.1) (nI lp) yfc yru yps yrd ykp ytx s.2 yfa ynm yho := fun z => by
      rw [z] at h
      exact yw_48 hF hK hr hn e (w + 1) f lp s (by omega) (by omega) hlp (by omega) h
    have hre := oh_re_le (oh_W (oh_sY FL r)) (6 - w) w
    have hrun : (oh_W (oh_sY FL r) w && !(decide (0 < w) && oh_W (oh_sY FL r) (w - 1))) = true → ∃ n31, wY_emitRun_31 (fun u => match u with | (yfw, ylp, yrl, yhd, yts, yos, ylt, yfc, yru, yps, yrd, ykp, ytx, you, yfa, ynm, yho) => (∀ x3_214 : Int32, x3_214 = nI w + 1 → wY_emitRule_48 post (nI r) x2 f x3_214 yfw ylp yrl yhd yts yos ylt yfc yru yps yrd ykp ytx you yfa ynm yho)) (nI r) (nI w) yfw ylp yrl yhd yts (nI s.1) (nI lp) yfc yru yps yrd ykp ytx s.2 yfa ynm yho n31 (nI w) := fun z => by
      rw [if_pos z, List.map_cons, oh_bl] at h
      have hl := oh_rn_len (p := (w, oh_re (oh_W (oh_sY FL r)) (6 - w) w)) (by dsimp only; omega) (by dsimp only; omega)
      have h1 := oh_es_1 (oh_s0 (oh_pd 2 lp) ++ oh_rn (w, oh_re (oh_W (oh_sY FL r)) (6 - w) w)) s
      rw [List.length_append] at h1
      have h2 := oh_s0_len (oh_pd 2 lp)
      refine ⟨7, yw_31 hF hK hr (by omega) ?_ (6 - w) w 7 (by omega) (by omega) rfl⟩
      refine yw_56 (by omega) (by omega) (by omega) hn (by omega) ?_
      dsimp only
      refine nm_r (nI_1 w) (yw_48 hF hK hr hn e (w + 1) f 2 _ (by omega) (by omega) (by omega) (by omega) ?_)
      rw [oh_es_a, oh_lp_jj]
      exact h
    unfold wpY_emitRun
    dsimp only
    refine yf_holds r 2 w 0 rfl rfl rfl rfl hF hK hr (by omega) (by omega) (by omega) ?_
    have e2 : (oh_sY FL r 2).any (oh_says 2 w 0) = oh_W (oh_sY FL r) w := rfl
    rw [e2]
    refine oh_brbi (fun z => nm_r (nI_1 w) (hskip (by rw [z]; rfl))) (fun z => ?_)
    refine pk_le w 0 (fun y => hrun (by rw [z, decide_eq_false (show ¬ 0 < w by omega)]; rfl)) (fun y => ?_)
    refine yf_holds r 2 (w - 1) 0 rfl rfl (pk_sub (a := w) (b := 1) (by omega)) rfl hF hK hr (by omega) (by omega) (by omega) ?_
    have e3 : (oh_sY FL r 2).any (oh_says 2 (w - 1) 0) = oh_W (oh_sY FL r) (w - 1) := rfl
    rw [e3]
    refine oh_brbi (fun q => hrun (by rw [z, q, Bool.and_false]; rfl)) (fun q => nm_r (nI_1 w) (hskip (by rw [z, q, decide_eq_true y]; rfl)))
theorem yw_nth {post : SY → Prop} {s : Nat × (Nat → Int32)} {w n lp : Nat} (hw : w < 7) (hn1 : 1 ≤ n) (hn6 : n ≤ 6) (hlp : lp ≤ 4) (hn : ∀ i, i < 27 → ynm (i + 1) = lN (oh_be (oh_nm i))) (hs : s.1 + 30 ≤ 1000000) (h : post (yfw, ylp, yrl, yhd, yts, nI (oh_es s (oh_s0 (oh_pd 2 lp) ++ oh_nl (6 * w + (n - 1)))).1, 2, yfc, yru, yps, yrd, ykp, ytx, (oh_es s (oh_s0 (oh_pd 2 lp) ++ oh_nl (6 * w + (n - 1)))).2, yfa, ynm, yho)) : wpY_emitNth post (yfw, ylp, yrl, yhd, yts, nI s.1, nI lp, yfc, yru, yps, yrd, ykp, ytx, s.2, yfa, ynm, yho) (nI w) (nI n) := by
  have hl := oh_nm_len (i := 12 + w) (by omega)
  have h2 := oh_s0_len (oh_pd 2 lp)
  have h1 := oh_es_1 (oh_s0 (oh_pd 2 lp)) s
  have h3 := oh_es_1 (oh_s0 (oh_pd 2 lp) ++ oh_nm (12 + w)) s
  rw [List.length_append] at h3
  unfold oh_nl at h
  rw [show (6 * w + (n - 1)) / 6 = w by omega, show (6 * w + (n - 1)) % 6 = n - 1 by omega] at h
  unfold wpY_emitNth
  dsimp only
  refine yw_lead 2 lp rfl (by omega) hlp (by omega) ?_
  dsimp only
  refine yw_name (12 + w) (by rw [show 12 + w + 1 = 13 + w by omega]; exact nI_add 13 w) (by omega) hn (by omega) ?_
  dsimp only
  rw [oh_es_a]
  refine yw_emit 91 rfl (by omega) ?_
  dsimp only
  rw [oh_es_a]
  have h4 := oh_es_1 (oh_s0 (oh_pd 2 lp) ++ oh_nm (12 + w) ++ [91]) s
  simp only [List.length_append, List.length_singleton] at h4
  have h47 : ∀ (s1 : Nat × (Nat → Int32)) (v : Nat) (x : Int32), x = nI v → s1.1 + 5 ≤ 1000000 → post (yfw, ylp, yrl, yhd, yts, nI (oh_es s1 [v, 93]).1, 2, yfc, yru, yps, yrd, ykp, ytx, (oh_es s1 [v, 93]).2, yfa, ynm, yho) → wY_emitNth_47 post x yfw ylp yrl yhd yts (nI s1.1) 2 yfc yru yps yrd ykp ytx s1.2 yfa ynm yho := fun s1 v x ex hs1 hp => by
    unfold wY_emitNth_47
    refine yw_emit v ex (by omega) ?_
    dsimp only
    have h5 := oh_es_1 [v] s1
    rw [List.length_singleton] at h5
    refine yw_emit 93 rfl (by omega) ?_
    rw [oh_es_a]
    exact hp
  refine pk_eq n 6 (fun z => ?_) (fun z => ?_)
  · rw [if_pos (by omega)] at h
    refine yw_emit 45 rfl (by omega) ?_
    dsimp only
    rw [oh_es_a]
    have h5 := oh_es_1 (oh_s0 (oh_pd 2 lp) ++ oh_nm (12 + w) ++ [91] ++ [45]) s
    simp only [List.length_append, List.length_singleton] at h5
    unfold wY_emitNth_31
    refine pk_eq n 6 (fun _ => h47 _ 49 _ rfl (by omega) ?_) (fun y => absurd z y)
    rw [oh_es_a]
    simp only [List.append_assoc, List.cons_append, List.nil_append] at h ⊢
    exact h
  · rw [if_neg (by omega)] at h
    unfold wY_emitNth_31
    refine pk_eq n 6 (fun y => absurd y z) (fun _ => h47 _ (48 + n) _ (nI_add 48 n) (by omega) ?_)
    rw [oh_es_a]
    rw [show 49 + (n - 1) = 48 + n by omega] at h
    simp only [List.append_assoc, List.cons_append, List.nil_append] at h ⊢
    exact h
theorem yw_77 {post : SY → Prop} {J : Int32 → Int32 → Int32 → Int32 → Int32 → Int32 → Int32 → Int32 → Int32 → Int32 → Int32 → Int32 → Int32 → (Nat → Int32) → (Nat → Int32) → (Nat → Int32) → (Nat → Int64) → (Nat → Int32) → Prop} {r w : Nat} {x2 : Int32} (hF : oh_YF FL yfc yfa) (hK : oh_FK FL) (hr : r < 100) (hw : w < 7) (hn : ∀ i, i < 27 → ynm (i + 1) = lN (oh_be (oh_nm i))) : ∀ (k n f lp : Nat) (s : Nat × (Nat → Int32)), n + k = 7 → 1 ≤ n → k < f → lp ≤ 2 → s.1 + 12 * k + 50 ≤ 1000000 → J (nI (w + 1)) yfw ylp yrl yhd yts (nI (oh_es s (oh_bl 2 lp (oh_nb (oh_V (oh_sY FL r)) k (6 * w + (n - 1))))).1) (nI (oh_lp 2 lp (oh_nb (oh_V (oh_sY FL r)) k (6 * w + (n - 1))))) yfc yru yps yrd ykp ytx ((oh_es s (oh_bl 2 lp (oh_nb (oh_V (oh_sY FL r)) k (6 * w + (n - 1))))).2) yfa ynm yho → wY_emitRule_77 post J (nI r) x2 (nI w) f (nI n) yfw ylp yrl yhd yts (nI s.1) (nI lp) yfc yru yps yrd ykp ytx s.2 yfa ynm yho
  | k, n, 0, _, _, _, _, hf, _, _, _ => absurd hf (by omega)
  | 0, n, f + 1, lp, s, hk, h1n, _, hlp, hs, h => by
    rw [wY_emitRule_77]
    exact pk_lt 6 n (fun _ => nm_r (nI_1 w) h) (fun a => absurd a (by omega))
  | k + 1, n, f + 1, lp, s, hk, h1n, hf, hlp, hs, h => by
    rw [wY_emitRule_77]
    rw [oh_nb] at h
    refine pk_lt 6 n (fun a => absurd a (by omega)) (fun _ => ?_)
    refine yf_holds r 3 w n rfl rfl rfl rfl hF hK hr (by omega) (by omega) (by omega) ?_
    have e2 : (oh_sY FL r 3).any (oh_says 3 w n) = oh_V (oh_sY FL r) (6 * w + (n - 1)) := by
      unfold oh_V
      rw [show (6 * w + (n - 1)) / 6 = w by omega, show (6 * w + (n - 1)) % 6 + 1 = n by omega]
      rfl
    rw [e2]
    have e3 : 6 * w + (n - 1) + 1 = 6 * w + (n + 1 - 1) := by omega
    refine oh_brbi (fun z => ?_) (fun z => ?_)
    · rw [z, e3] at h
      exact nm_r (nI_1 n) (yw_77 hF hK hr hw hn k (n + 1) f lp s (by omega) (by omega) (by omega) hlp (by omega) h)
    · rw [if_pos z, e3, oh_bl] at h
      have hl := oh_nl_len (n := 6 * w + (n - 1)) (by omega)
      have h1 := oh_es_1 (oh_s0 (oh_pd 2 lp) ++ oh_nl (6 * w + (n - 1))) s
      rw [List.length_append] at h1
      have h2 := oh_s0_len (oh_pd 2 lp)
      refine yw_nth hw h1n (by omega) (by omega) hn (by omega) ?_
      dsimp only
      refine nm_r (nI_1 n) (yw_77 hF hK hr hw hn k (n + 1) f 2 _ (by omega) (by omega) (by omega) (by omega) (by omega) ?_)
      rw [oh_es_a, oh_lp_jj]
      exact h
theorem yw_68 {post : SY → Prop} {r : Nat} {x2 : Int32} (hF : oh_YF FL yfc yfa) (hK : oh_FK FL) (hr : r < 100) (hn : ∀ i, i < 27 → ynm (i + 1) = lN (oh_be (oh_nm i))) : ∀ (e w f lp : Nat) (s : Nat × (Nat → Int32)), w + e = 7 → e < f → lp ≤ 2 → s.1 + 80 * e + 200 ≤ 1000000 → (∃ n138, wY_emitRule_138 post (nI r) x2 n138 0 yfw ylp yrl yhd yts (nI (oh_es s (oh_bl 2 lp (oh_nb (oh_V (oh_sY FL r)) (6 * e) (6 * w) ++ oh_ph (oh_sY FL r)))).1) (nI (oh_lp 2 lp (oh_nb (oh_V (oh_sY FL r)) (6 * e) (6 * w) ++ oh_ph (oh_sY FL r)))) yfc yru yps yrd ykp ytx ((oh_es s (oh_bl 2 lp (oh_nb (oh_V (oh_sY FL r)) (6 * e) (6 * w) ++ oh_ph (oh_sY FL r)))).2) yfa ynm yho) → wY_emitRule_68 post (nI r) x2 f (nI w) yfw ylp yrl yhd yts (nI s.1) (nI lp) yfc yru yps yrd ykp ytx s.2 yfa ynm yho
  | e, w, 0, _, _, _, hf, _, _, _ => absurd hf (by omega)
  | 0, w, f + 1, lp, s, he, _, hlp, hs, h => by
    rw [wY_emitRule_68]
    rw [show oh_nb (oh_V (oh_sY FL r)) (6 * 0) (6 * w) = [] from rfl, List.nil_append] at h
    refine pk_le 7 w (fun _ => ?_) (fun a => absurd a (by omega))
    refine yf_fact r 4 0 rfl rfl rfl hF hK hr (by omega) (by omega) ?_
    unfold oh_ph at h
    refine oh_brf (oh_sY_sm hK) (fun z => ?_) (fun z => ?_)
    · rw [if_pos z] at h
      exact h
    · rw [if_neg (by rw [z]; decide)] at h
      have e2 : oh_bl 2 lp [oh_nm 19] = oh_s0 (oh_pd 2 lp) ++ oh_nm 19 := by rw [oh_bl, oh_bl, List.append_nil]
      rw [e2] at h
      have h1 := oh_es_1 (oh_s0 (oh_pd 2 lp)) s
      have h2 := oh_s0_len (oh_pd 2 lp)
      refine yw_lead 2 lp rfl (by omega) (by omega) (by omega) ?_
      dsimp only
      refine yw_name 19 rfl (by omega) hn (by omega) ?_
      dsimp only
      rw [oh_es_a]
      exact h
  | e + 1, w, f + 1, lp, s, he, hf, hlp, hs, h => by
    rw [wY_emitRule_68]
    refine pk_le 7 w (fun a => absurd a (by omega)) (fun _ => ⟨7, ?_⟩)
    have hnb : (oh_nb (oh_V (oh_sY FL r)) 6 (6 * w)).length ≤ 6 ∧ ∀ b, b ∈ oh_nb (oh_V (oh_sY FL r)) 6 (6 * w) → b.length ≤ 11 := by
      have gen : ∀ (e n : Nat), n + e ≤ 42 → (oh_nb (oh_V (oh_sY FL r)) e n).length ≤ e ∧ ∀ b, b ∈ oh_nb (oh_V (oh_sY FL r)) e n → b.length ≤ 11 := by
        intro e
        induction e with
        | zero => intro n _; exact ⟨by simp [oh_nb], fun b hb => absurd hb List.not_mem_nil⟩
        | succ e ih =>
          intro n hn2
          have i2 := ih (n + 1) (by omega)
          rw [oh_nb]
          split
          · refine ⟨by rw [List.length_cons]; omega, fun b hb => ?_⟩
            rcases List.mem_cons.mp hb with z | z
            · rw [z]; exact oh_nl_len (by omega)
            · exact i2.2 b z
          · exact ⟨by omega, i2.2⟩
      exact gen 6 (6 * w) (by omega)
    have hlen := oh_bl_len (j := 2) (B := 11) (oh_nb (oh_V (oh_sY FL r)) 6 (6 * w)) lp hnb.2
    have h1 := oh_es_1 (oh_bl 2 lp (oh_nb (oh_V (oh_sY FL r)) 6 (6 * w))) s
    have hlp2 := oh_lp_le (oh_nb (oh_V (oh_sY FL r)) 6 (6 * w)) hlp
    refine yw_77 hF hK hr (by omega) hn 6 1 7 lp s (by omega) (by omega) (by omega) hlp (by omega) ?_
    rw [show 6 * w + (1 - 1) = 6 * w by omega]
    refine yw_68 hF hK hr hn e (w + 1) f _ _ (by omega) (by omega) hlp2 (by omega) ?_
    rw [show 6 * (e + 1) = 6 + 6 * e by omega, oh_nb_a, List.append_assoc, oh_bl_a, ← oh_lp_a] at h
    rw [oh_es_a, show 6 * (w + 1) = 6 * w + 6 by omega]
    exact h
theorem yw_178 {post : SY → Prop} {s : Nat × (Nat → Int32)} {st lp : Nat} (h2 : st ≤ 2) (hlp : lp ≤ 4) (hn : ∀ i, i < 27 → ynm (i + 1) = lN (oh_be (oh_nm i))) (hs : s.1 + 20 ≤ 1000000) (h : ∀ lt, post (yfw, ylp, yrl, yhd, yts, nI (oh_es s (oh_s0 (oh_pd 4 lp) ++ oh_nm (20 + st))).1, lt, yfc, yru, yps, yrd, ykp, ytx, (oh_es s (oh_s0 (oh_pd 4 lp) ++ oh_nm (20 + st))).2, yfa, ynm, yho)) : wY_emitRule_178 post (nI st) yfw ylp yrl yhd yts (nI s.1) (nI lp) yfc yru yps yrd ykp ytx s.2 yfa ynm yho := by
  have h3 := oh_s0_len (oh_pd 4 lp)
  have h1 := oh_es_1 (oh_s0 (oh_pd 4 lp)) s
  unfold wY_emitRule_178
  refine yw_lead 4 lp rfl (by omega) hlp (by omega) ?_
  dsimp only
  refine yw_name (20 + st) (by rw [show 20 + st + 1 = 21 + st by omega]; exact nI_add 21 st) (by omega) hn (by omega) ?_
  rw [oh_es_a]
  exact h _
theorem yw_138 {post : SY → Prop} {r st : Nat} (hE : oh_YE fw lp0 m FL ho yfc yfa yho) (hr : r < m) (h2 : st ≤ 2) (hS : oh_SV (oh_sY FL r)) (hn : ∀ i, i < 27 → ynm (i + 1) = lN (oh_be (oh_nm i))) : ∀ (e n f lp : Nat) (s : Nat × (Nat → Int32)), n + e = 3 → e < f → lp ≤ 3 → s.1 + 20 * e + 100 ≤ 1000000 → (∀ lt, post (yfw, ylp, yrl, yhd, yts, nI (oh_es s (oh_bl 3 lp (((oh_sY FL r 5).drop n).map oh_sl) ++ oh_fn (oh_lp 3 lp (((oh_sY FL r 5).drop n).map oh_sl)) st (oh_fo (oh_sY FL) m r))).1, lt, yfc, nI m, yps, yrd, ykp, ytx, (oh_es s (oh_bl 3 lp (((oh_sY FL r 5).drop n).map oh_sl) ++ oh_fn (oh_lp 3 lp (((oh_sY FL r 5).drop n).map oh_sl)) st (oh_fo (oh_sY FL) m r))).2, yfa, ynm, yho)) → wY_emitRule_138 post (nI r) (nI st) f (nI n) yfw ylp yrl yhd yts (nI s.1) (nI lp) yfc (nI m) yps yrd ykp ytx s.2 yfa ynm yho
  | e, n, 0, _, _, _, hf, _, _, _ => absurd hf (by omega)
  | 0, n, f + 1, lp, s, he, _, hlp, hs, h => by
    have h6 := hE.1.2.2
    obtain ⟨v1, v5, v6, l1, l5, v0⟩ := hS
    rw [List.drop_eq_nil_of_le (by omega)] at h
    rw [wY_emitRule_138]
    unfold oh_fn at h
    have h178 : (¬ st = 1 ∨ lp = 0 ∨ oh_fo (oh_sY FL) m r = true) → wY_emitRule_178 post (nI st) yfw ylp yrl yhd yts (nI s.1) (nI lp) yfc (nI m) yps yrd ykp ytx s.2 yfa ynm yho := fun z => by
      have elp : oh_lp 3 lp (List.map oh_sl []) = lp := rfl
      rw [elp, if_pos z] at h
      exact yw_178 h2 (by omega) hn (by omega) h
    refine pk_le 3 n (fun _ => pk_eq st 1 (fun a => pk_eq lp 0 (fun c => h178 (Or.inr (Or.inl c))) (fun c => ?_)) (fun a => h178 (Or.inl a))) (fun a => absurd a (by omega))
    have hpost : oh_fo (oh_sY FL) m r = false → post (yfw, ylp, yrl, yhd, yts, nI s.1, nI lp, yfc, nI m, yps, yrd, ykp, ytx, s.2, yfa, ynm, yho) := fun z => by
      have elp : oh_lp 3 lp (List.map oh_sl []) = lp := rfl
      rw [elp, if_neg (by rintro (q | q | q); exact q a; exact c q; rw [z] at q; cases q)] at h
      exact h _
    rcases Nat.lt_or_ge (r + 1) m with z | z
    · obtain ⟨K, k2, ek⟩ := hE.2.2.2.2 (r + 1) z
      have hk := oh_kk_eq ek
      refine ye_kind (r + 1) (nI_1 r) hE z ?_
      refine pk_eq (oh_kk (oh_sY FL) (r + 1)) 1 (fun q => h178 (Or.inr (Or.inr ?_))) (fun q => hpost ?_)
      · unfold oh_fo; rw [decide_eq_true z, decide_eq_true q]; rfl
      · unfold oh_fo; rw [decide_eq_true z, decide_eq_false q]; rfl
    · refine ye_kind_n (r + 1) (nI_1 r) h6 z (by omega) (br_f (by decide) (hpost ?_))
      unfold oh_fo; rw [decide_eq_false (by omega)]; rfl
  | e + 1, n, f + 1, lp, s, he, hf, hlp, hs, h => by
    have h6 := hE.1.2.2
    have hF := hE.2.1
    have hK := hE.2.2.1
    rw [wY_emitRule_138]
    refine pk_le 3 n (fun a => absurd a (by omega)) (fun _ => ?_)
    rcases Nat.lt_or_ge n (oh_sY FL r 5).length with z | z
    · have hlb := hS.2.1 _ (oh_gM (d := (0, 0)) z)
      rw [oh_dropc (0, 0) z, List.map_cons, oh_bl] at h
      have hlp3 : ∀ t, oh_lp 3 lp (oh_sl ((oh_sY FL r 5).getD n (0, 0)) :: t) = 3 := fun t => rfl
      rw [hlp3] at h
      have h1 := oh_es_1 (oh_s0 (oh_pd 3 lp) ++ oh_sl ((oh_sY FL r 5).getD n (0, 0))) s
      rw [List.length_append, oh_sl_len] at h1
      have h3 := oh_s0_len (oh_pd 3 lp)
      refine yw_span hF hK (by omega) (by omega) z (by omega) hlb (by omega) ?_
      dsimp only
      refine nm_r (nI_1 n) (yw_138 hE hr h2 hS hn e (n + 1) f 3 _ (by omega) (by omega) (by omega) (by omega) (fun lt => ?_))
      rw [oh_es_a, oh_lp_jj, ← List.append_assoc]
      exact h lt
    · refine yw_span_n hF hK (by omega) (by omega) z ?_
      dsimp only
      refine nm_r (nI_1 n) (yw_138 hE hr h2 hS hn e (n + 1) f lp s (by omega) (by omega) hlp (by omega) (fun lt => ?_))
      rw [List.drop_eq_nil_of_le (show (oh_sY FL r 5).length ≤ n + 1 by omega)]
      rw [List.drop_eq_nil_of_le z] at h
      exact h lt
theorem yw_29 {post : SY → Prop} {r st : Nat} (hE : oh_YE fw lp0 m FL ho yfc yfa yho) (hr : r < m) (est : st = oh_so (oh_sY FL r 6)) (hS : oh_SV (oh_sY FL r)) (hn : ∀ i, i < 27 → ynm (i + 1) = lN (oh_be (oh_nm i))) : ∀ (e n f lp : Nat) (s : Nat × (Nat → Int32)), n + e = 2 → e < f → lp ≤ 1 → s.1 + 40 * e + 1000 ≤ 1000000 → (∀ lt, post (yfw, ylp, yrl, yhd, yts, nI (oh_es s (oh_bl 1 lp (((oh_sY FL r 1).drop n).map oh_dl) ++ oh_q2 (oh_sY FL r) (oh_lp 1 lp (((oh_sY FL r 1).drop n).map oh_dl)) (oh_fo (oh_sY FL) m r))).1, lt, yfc, nI m, yps, yrd, ykp, ytx, (oh_es s (oh_bl 1 lp (((oh_sY FL r 1).drop n).map oh_dl) ++ oh_q2 (oh_sY FL r) (oh_lp 1 lp (((oh_sY FL r 1).drop n).map oh_dl)) (oh_fo (oh_sY FL) m r))).2, yfa, ynm, yho)) → wY_emitRule_29 post (nI r) (nI st) f (nI n) yfw ylp yrl yhd yts (nI s.1) (nI lp) yfc (nI m) yps yrd ykp ytx s.2 yfa ynm yho
  | e, n, 0, _, _, _, hf, _, _, _ => absurd hf (by omega)
  | 0, n, f + 1, lp, s, he, _, hlp, hs, h => by
    have h6 := hE.1.2.2
    have hF := hE.2.1
    have hK := hE.2.2.1
    have hS2 := hS
    obtain ⟨v1, v5, v6, l1, l5, v0⟩ := hS2
    rw [List.drop_eq_nil_of_le (by omega)] at h
    rw [wY_emitRule_29]
    have hrp := oh_rp_in (W := oh_W (oh_sY FL r)) 7 0 (by omega)
    have hlen := oh_bl_len (j := 2) (B := 15) ((oh_rp (oh_W (oh_sY FL r)) 7 0).map oh_rn) lp (fun b hb => by
      obtain ⟨p, hp, e⟩ := List.mem_map.mp hb
      rw [← e]
      exact oh_rn_len (hrp.2 p hp).1 (hrp.2 p hp).2)
    rw [List.length_map] at hlen
    have hdb := oh_DB_in (oh_sY FL r)
    have hlen2 := oh_bl_len (j := 2) (B := 15) (oh_DB (oh_sY FL r)) lp hdb.2
    have h1 := oh_es_1 (oh_bl 2 lp ((oh_rp (oh_W (oh_sY FL r)) 7 0).map oh_rn)) s
    have h3 := oh_es_1 (oh_bl 2 lp (oh_DB (oh_sY FL r))) s
    refine pk_le 2 n (fun _ => ⟨8, yw_48 hF hK (by omega) hn 7 0 8 lp s (by omega) (by omega) (by omega) (by omega) ⟨8, ?_⟩⟩) (fun a => absurd a (by omega))
    have hlp2 := oh_lp_le (j := 2) ((oh_rp (oh_W (oh_sY FL r)) 7 0).map oh_rn) (show lp ≤ 2 by omega)
    refine yw_68 hF hK (by omega) hn 7 0 8 _ _ (by omega) (by omega) hlp2 (by omega) ⟨4, ?_⟩
    rw [oh_es_a, ← oh_bl_a, oh_lp_a]
    have eDB : (oh_rp (oh_W (oh_sY FL r)) 7 0).map oh_rn ++ (oh_nb (oh_V (oh_sY FL r)) (6 * 7) (6 * 0) ++ oh_ph (oh_sY FL r)) = oh_DB (oh_sY FL r) := rfl
    rw [eDB]
    have hlp3 := oh_lp_le (j := 2) (oh_DB (oh_sY FL r)) (show lp ≤ 2 by omega)
    refine yw_138 hE hr (by omega) hS hn 3 0 4 _ _ (by omega) (by omega) (by omega) (by omega) (fun lt => ?_)
    rw [oh_es_a, List.drop_zero, est]
    exact h lt
  | e + 1, n, f + 1, lp, s, he, hf, hlp, hs, h => by
    have h6 := hE.1.2.2
    have hF := hE.2.1
    have hK := hE.2.2.1
    rw [wY_emitRule_29]
    refine pk_le 2 n (fun a => absurd a (by omega)) (fun _ => ?_)
    rcases Nat.lt_or_ge n (oh_sY FL r 1).length with z | z
    · have hlb := hS.1 _ (oh_gM (d := (0, 0)) z)
      rw [oh_dropc (0, 0) z, List.map_cons, oh_bl] at h
      have hlp3 : ∀ t, oh_lp 1 lp (oh_dl ((oh_sY FL r 1).getD n (0, 0)) :: t) = 1 := fun t => rfl
      rw [hlp3] at h
      have h1 := oh_es_1 (oh_s0 (oh_pd 1 lp) ++ oh_dl ((oh_sY FL r 1).getD n (0, 0))) s
      rw [List.length_append] at h1
      have h2 := oh_dl_len hlb.1 hlb.2
      have h3 := oh_s0_len (oh_pd 1 lp)
      refine yw_date hF hK (by omega) (by omega) z (by omega) hlb hn (by omega) ?_
      dsimp only
      refine nm_r (nI_1 n) (yw_29 hE hr est hS hn e (n + 1) f 1 _ (by omega) (by omega) (by omega) (by omega) (fun lt => ?_))
      rw [oh_es_a, oh_lp_jj, ← List.append_assoc]
      exact h lt
    · refine yw_date_n hF hK (by omega) (by omega) z ?_
      dsimp only
      refine nm_r (nI_1 n) (yw_29 hE hr est hS hn e (n + 1) f lp s (by omega) (by omega) hlp (by omega) (fun lt => ?_))
      rw [List.drop_eq_nil_of_le (show (oh_sY FL r 1).length ≤ n + 1 by omega)]
      rw [List.drop_eq_nil_of_le z] at h
      exact h lt
theorem yw_rule {post : SY → Prop} {r : Nat} {s : Nat × (Nat → Int32)} (hE : oh_YE fw lp0 m FL ho yfc yfa yho) (hr : r < m) (hS : oh_SV (oh_sY FL r)) (hn : ∀ i, i < 27 → ynm (i + 1) = lN (oh_be (oh_nm i))) (hs : s.1 + 1200 ≤ 1000000) (h : ∀ lt, post (yfw, ylp, yrl, yhd, yts, nI (oh_es s (oh_tr (oh_sY FL) m r)).1, lt, yfc, nI m, yps, yrd, ykp, ytx, (oh_es s (oh_tr (oh_sY FL) m r)).2, yfa, ynm, yho)) : wpY_emitRule post (yfw, ylp, yrl, yhd, yts, nI s.1, ylt, yfc, nI m, yps, yrd, ykp, ytx, s.2, yfa, ynm, yho) (nI r) := by
  have h6 := hE.1.2.2
  have hF := hE.2.1
  have hK := hE.2.2.1
  obtain ⟨K, k2, ek⟩ := hE.2.2.2.2 r hr
  have hk := oh_kk_eq ek
  have e0 : (((oh_sY FL r) 0).getD 0 (0, 0)).1 = K := by rw [ek]; rfl
  unfold oh_tr oh_rt at h
  rw [e0] at h
  unfold wpY_emitRule
  dsimp only
  refine ye_so r rfl (by omega) hF hK ?_
  refine pk_le r 0 (fun a => ⟨3, ?_⟩) (fun a => ?_)
  · rw [if_pos (by omega), List.nil_append] at h
    refine yw_29 hE hr rfl hS hn 2 0 3 0 s (by omega) (by omega) (by omega) (by omega) (fun lt => ?_)
    rw [List.drop_zero]
    exact h lt
  · rw [if_neg (by omega)] at h
    refine ye_kind r rfl hE hr ?_
    rw [hk]
    have hl := oh_nm_len (i := 24 + K) (by omega)
    have h1 := oh_es_1 (oh_nm (24 + K)) s
    refine yw_name (24 + K) (by rw [show 24 + K + 1 = 25 + K by omega]; exact nI_add 25 K) (by omega) hn (by omega) ?_
    dsimp only
    refine ⟨3, yw_29 hE hr rfl hS hn 2 0 3 0 _ (by omega) (by omega) (by omega) (by omega) (fun lt => ?_)⟩
    rw [List.drop_zero, oh_es_a]
    exact h lt
theorem yw_55 {post : Int32 → SY → Prop} {l : List Nat} {ch : Nat → Nat} (h8 : l.length ≤ 128) (hoo : ∀ j, j < l.length → you j = nI (l.getD j 0)) (h : ∀ ytx', (∀ j, ytx' j = nI (oh_tn l l.length ch j)) → post (nI l.length) (yfw, ylp, yrl, yhd, nI l.length, yos, ylt, yfc, yru, yps, yrd, ykp, ytx', you, yfa, ynm, yho)) : ∀ (e n f : Nat) (ytx : Nat → Int32), n + e = l.length → e < f → (∀ j, ytx j = nI (oh_tn l n ch j)) → wY_rewrite_55 post yfw ylp yrl yhd (nI l.length) yos ylt yfc yru yps yrd ykp f (nI n) ytx you yfa ynm yho
  | e, n, 0, _, _, hf, _ => absurd hf (by omega)
  | 0, n, f + 1, ytx, he, _, hx => by
    have : n = l.length := by omega
    subst this
    rw [wY_rewrite_55]
    exact pk_le l.length l.length (fun _ => h ytx hx) (fun a => absurd a (by omega))
  | e + 1, n, f + 1, ytx, he, hf, hx => by
    have hn : n < l.length := by omega
    rw [wY_rewrite_55]
    refine pk_le l.length n (fun a => absurd a (by omega)) (fun _ => pk_le 128 n (fun a => absurd a (by omega)) (fun _ => ⟨vp_in_nI (by omega) (by omega), vp_in_nI (by omega) (by omega), ?_⟩))
    rw [nI_clamp (by omega), hoo n hn]
    exact nm_e (nm_r (nI_1 n) (yw_55 h8 hoo h e (n + 1) f _ (by omega) (by omega) (oh_tn_u hx)))
theorem yw_7 {post : Int32 → SY → Prop} {ch : Nat → Nat} {o : Nat → Int32} (hE : oh_YE fw lp0 m FL ho yfc yfa yho) (hS : ∀ r, r < m → oh_SV (oh_sY FL r)) (hn : ∀ i, i < 27 → ynm (i + 1) = lN (oh_be (oh_nm i))) (hx : ∀ j, ytx j = nI (ch j))
    (h0 : (m = 0 ∨ 128 < (oh_tx (oh_sY FL) m).length) → ∀ os lt ou, post (-1) (yfw, ylp, yrl, yhd, yts, os, lt, yfc, nI m, yps, yrd, ykp, ytx, ou, yfa, ynm, yho))
    (h1 : ¬ (m = 0 ∨ 128 < (oh_tx (oh_sY FL) m).length) → ∀ os lt ou ytx', (∀ j, ytx' j = nI (oh_tn (oh_tx (oh_sY FL) m) (oh_tx (oh_sY FL) m).length ch j)) → post (nI (oh_tx (oh_sY FL) m).length) (yfw, ylp, yrl, yhd, nI (oh_tx (oh_sY FL) m).length, os, lt, yfc, nI m, yps, yrd, ykp, ytx', ou, yfa, ynm, yho)) : ∀ (e r f : Nat) (l : List Nat) (ylt : Int32), r + e = m → e < f → l.length + 1000 * e ≤ 10000 → l ++ oh_al (oh_tr (oh_sY FL) m) e r = oh_tx (oh_sY FL) m → wY_rewrite_7 post f (nI r) yfw ylp yrl yhd yts (nI (oh_es (0, o) l).1) ylt yfc (nI m) yps yrd ykp ytx ((oh_es (0, o) l).2) yfa ynm yho
  | e, r, 0, _, _, _, hf, _, _ => absurd hf (by omega)
  | 0, r, f + 1, l, ylt, he, _, hl, hal => by
    have h6 := hE.1.2.2
    rw [oh_al, List.append_nil] at hal
    have hes : (oh_es (0, o) l).1 = l.length := by rw [oh_es_1]; exact Nat.zero_add _
    rw [wY_rewrite_7]
    refine pk_le m r (fun _ => pk_eq m 0 (fun a => h0 (Or.inl a) _ _ _) (fun a => ?_)) (fun a => absurd a (by omega))
    rw [hes]
    refine pk_le l.length 128 (fun z => ⟨l.length + 1, ?_⟩) (fun z => h0 (Or.inr (by rw [← hal]; exact z)) _ _ _)
    rw [← hal] at h1
    refine yw_55 (ch := ch) z (fun j hj => ?_) (fun ytx' hx' => ?_) l.length 0 _ ytx (by omega) (by omega) (fun j => by rw [oh_tn_0]; exact hx j)
    · rw [oh_es_g]
      rw [if_pos (by dsimp only; omega)]; rfl
    · exact h1 (by omega) _ _ _ ytx' hx'
  | e + 1, r, f + 1, l, ylt, he, hf, hl, hal => by
    have h6 := hE.1.2.2
    have hes : (oh_es (0, o) l).1 = l.length := by rw [oh_es_1]; exact Nat.zero_add _
    have hrl := oh_rt_len (hS r (by omega)) r (oh_fo (oh_sY FL) m r)
    rw [oh_al] at hal
    rw [wY_rewrite_7]
    refine pk_le m r (fun a => absurd a (by omega)) (fun _ => ?_)
    refine yw_rule hE (by omega) (hS r (by omega)) hn (by omega) (fun lt => ?_)
    dsimp only
    refine nm_r (nI_1 r) ?_
    rw [oh_es_a]
    refine yw_7 hE hS hn hx h0 h1 e (r + 1) f (l ++ oh_tr (oh_sY FL) m r) lt (by omega) (by omega) (by rw [List.length_append]; unfold oh_tr; omega) ?_
    rw [List.append_assoc]
    exact hal
theorem yw_rewrite {post : Int32 → SY → Prop} {ch : Nat → Nat} (hE : oh_YE fw lp0 m FL ho yfc yfa yho) (hS : ∀ r, r < m → oh_SV (oh_sY FL r)) (hn : ∀ i, i < 27 → ynm (i + 1) = lN (oh_be (oh_nm i))) (hx : ∀ j, ytx j = nI (ch j))
    (h0 : (m = 0 ∨ 128 < (oh_tx (oh_sY FL) m).length) → ∀ os lt ou, post (-1) (yfw, ylp, yrl, yhd, yts, os, lt, yfc, nI m, yps, yrd, ykp, ytx, ou, yfa, ynm, yho))
    (h1 : ¬ (m = 0 ∨ 128 < (oh_tx (oh_sY FL) m).length) → ∀ os lt ou ytx', (∀ j, ytx' j = nI (oh_tn (oh_tx (oh_sY FL) m) (oh_tx (oh_sY FL) m).length ch j)) → post (nI (oh_tx (oh_sY FL) m).length) (yfw, ylp, yrl, yhd, nI (oh_tx (oh_sY FL) m).length, os, lt, yfc, nI m, yps, yrd, ykp, ytx', ou, yfa, ynm, yho)) : wpY_rewrite post (yfw, ylp, yrl, yhd, yts, yos, ylt, yfc, nI m, yps, yrd, ykp, ytx, you, yfa, ynm, yho) := by
  have h6 := hE.1.2.2
  unfold wpY_rewrite
  exact ⟨m + 1, yw_7 (o := you) hE hS hn hx h0 h1 m 0 (m + 1) [] ylt (by omega) (by omega) (by simp only [List.length_nil]; omega) rfl⟩
end
end
section
/-! ===== the constructors (fillNames' and Y's walk printed by gen32.py) ===== -/
def oh_cv (x : Int32) (a c : Nat) : Int32 := if nI a ≤ x then (if x ≤ nI c then x else nI c) else nI a
theorem oh_cv_in (x : Int32) {a c : Nat} (h : a ≤ c) (hc : c < 2 ^ 31) : ∃ j, a ≤ j ∧ j ≤ c ∧ oh_cv x a c = nI j := by
  unfold oh_cv
  by_cases h1 : nI a ≤ x
  · rw [if_pos h1]
    by_cases h2 : x ≤ nI c
    · rw [if_pos h2]
      exact oh_rng a c (Int32.not_lt.mpr h1) (Int32.not_lt.mpr h2) hc (by omega)
    · rw [if_neg h2]
      exact ⟨c, h, Nat.le_refl _, rfl⟩
  · rw [if_neg h1]
    exact ⟨a, Nat.le_refl _, h, rfl⟩
section
variable {xfw xlp xdy xrl xhz xhc xts xos xpd xtc xcu xbk xrt : Int32} {xdc xho xtx xou xtk xtv xki xst xdn xsn xdf xdt xsf xse : Nat → Int32} {xnm xds xtd xtm : Nat → Int64} {yfw ylp yrl yhd yts yos ylt yfc yru yps yrd ykp : Int32} {ytx you yfa yho : Nat → Int32} {ynm : Nat → Int64} {lp : Nat}
theorem xi_clamp {post : Int32 → Prop} {x y z : Int32} (a c : Nat) (ey : y = nI a) (ez : z = nI c) (h : post (oh_cv x a c)) : wpX_clamp post (xfw, xlp, xdy, xrl, xhz, xhc, xts, xos, xpd, xtc, xcu, xbk, xrt, xdc, xho, xtx, xou, xnm, xtk, xtv, xki, xst, xdn, xsn, xdf, xdt, xsf, xse, xds, xtd, xtm) x y z := by
  subst ey ez
  unfold wpX_clamp
  dsimp only
  unfold oh_cv at h
  refine br_c (fun h1 => br_c (fun h2 => ?_) (fun h2 => ?_)) (fun h1 => ?_)
  · rw [if_pos h1, if_pos h2] at h; exact h
  · rw [if_pos h1, if_neg h2] at h; exact h
  · rw [if_neg h1] at h; exact h
theorem yi_clamp {post : Int32 → Prop} {x y z : Int32} (a c : Nat) (ey : y = nI a) (ez : z = nI c) (h : post (oh_cv x a c)) : wpY_clamp post (yfw, ylp, yrl, yhd, yts, yos, ylt, yfc, yru, yps, yrd, ykp, ytx, you, yfa, ynm, yho) x y z := by
  subst ey ez
  unfold wpY_clamp
  dsimp only
  unfold oh_cv at h
  refine br_c (fun h1 => br_c (fun h2 => ?_) (fun h2 => ?_)) (fun h1 => ?_)
  · rw [if_pos h1, if_pos h2] at h; exact h
  · rw [if_pos h1, if_neg h2] at h; exact h
  · rw [if_neg h1] at h; exact h
theorem xi_name {post : SX → Prop} {x p1 p2 p3 p4 : Int32} (i : Nat) (ex : x = nI i) (hi : i < 27) (h : post (xfw, xlp, xdy, xrl, xhz, xhc, xts, xos, xpd, xtc, xcu, xbk, xrt, xdc, xho, xtx, xou, vp_updL xnm i ((((p1 ||| (p2 <<< ((8 : Int32) &&& 31))) ||| (p3 <<< ((16 : Int32) &&& 31))) ||| (p4 <<< ((24 : Int32) &&& 31))).toInt64), xtk, xtv, xki, xst, xdn, xsn, xdf, xdt, xsf, xse, xds, xtd, xtm)) : wpX_name post (xfw, xlp, xdy, xrl, xhz, xhc, xts, xos, xpd, xtc, xcu, xbk, xrt, xdc, xho, xtx, xou, xnm, xtk, xtv, xki, xst, xdn, xsn, xdf, xdt, xsf, xse, xds, xtd, xtm) x p1 p2 p3 p4 := by
  subst ex
  unfold wpX_name
  dsimp only
  rw [nI_clamp (by omega)]
  exact ⟨vp_in_nI hi (by omega), nm_e h⟩
theorem yi_name {post : SY → Prop} {x p1 p2 p3 : Int32} (i : Nat) (ex : x = nI i) (hi : i < 28) (h : post (yfw, ylp, yrl, yhd, yts, yos, ylt, yfc, yru, yps, yrd, ykp, ytx, you, yfa, vp_updL ynm i ((((p1 * 65536) + (p2 * 256)) + p3).toInt64), yho)) : wpY_name post (yfw, ylp, yrl, yhd, yts, yos, ylt, yfc, yru, yps, yrd, ykp, ytx, you, yfa, ynm, yho) x p1 p2 p3 := by
  subst ex
  unfold wpY_name
  dsimp only
  rw [nI_clamp (by omega)]
  exact ⟨vp_in_nI hi (by omega), nm_e h⟩
theorem xi_names {post : SX → Prop} (h : ∀ xnm' : Nat → Int64, (∀ i, i < 27 → xnm' i = lN (oh_le (oh_nm i))) → post (xfw, xlp, xdy, xrl, xhz, xhc, xts, xos, xpd, xtc, xcu, xbk, xrt, xdc, xho, xtx, xou, xnm', xtk, xtv, xki, xst, xdn, xsn, xdf, xdt, xsf, xse, xds, xtd, xtm)) : wpX_fillNames post (xfw, xlp, xdy, xrl, xhz, xhc, xts, xos, xpd, xtc, xcu, xbk, xrt, xdc, xho, xtx, xou, fun _ => 0, xtk, xtv, xki, xst, xdn, xsn, xdf, xdt, xsf, xse, xds, xtd, xtm) := by
  unfold wpX_fillNames
  dsimp only
  refine xi_name 0 rfl (by omega) ?_
  dsimp only
  refine xi_name 1 rfl (by omega) ?_
  dsimp only
  refine xi_name 2 rfl (by omega) ?_
  dsimp only
  refine xi_name 3 rfl (by omega) ?_
  dsimp only
  refine xi_name 4 rfl (by omega) ?_
  dsimp only
  refine xi_name 5 rfl (by omega) ?_
  dsimp only
  refine xi_name 6 rfl (by omega) ?_
  dsimp only
  refine xi_name 7 rfl (by omega) ?_
  dsimp only
  refine xi_name 8 rfl (by omega) ?_
  dsimp only
  refine xi_name 9 rfl (by omega) ?_
  dsimp only
  refine xi_name 10 rfl (by omega) ?_
  dsimp only
  refine xi_name 11 rfl (by omega) ?_
  dsimp only
  refine xi_name 12 rfl (by omega) ?_
  dsimp only
  refine xi_name 13 rfl (by omega) ?_
  dsimp only
  refine xi_name 14 rfl (by omega) ?_
  dsimp only
  refine xi_name 15 rfl (by omega) ?_
  dsimp only
  refine xi_name 16 rfl (by omega) ?_
  dsimp only
  refine xi_name 17 rfl (by omega) ?_
  dsimp only
  refine xi_name 18 rfl (by omega) ?_
  dsimp only
  refine xi_name 19 rfl (by omega) ?_
  dsimp only
  refine xi_name 20 rfl (by omega) ?_
  dsimp only
  refine xi_name 21 rfl (by omega) ?_
  dsimp only
  refine xi_name 22 rfl (by omega) ?_
  dsimp only
  refine xi_name 23 rfl (by omega) ?_
  dsimp only
  refine nm_e (nm_e ?_)
  refine xi_name 24 rfl (by omega) ?_
  dsimp only
  refine xi_name 25 rfl (by omega) ?_
  dsimp only
  refine xi_name 26 rfl (by omega) ?_
  dsimp only
  exact h _ (by decide +kernel)
theorem xi_cal {post : SX → Prop} (hl : lp ≤ 1) (h : ∀ xdc' : Nat → Int32, (∀ j, j < 365 + lp → xdc' j = nI (oh_dc lp j)) → post (xfw, nI lp, nI (365 + lp), xrl, xhz, xhc, xts, xos, xpd, xtc, xcu, xbk, xrt, xdc', xho, xtx, xou, xnm, xtk, xtv, xki, xst, xdn, xsn, xdf, xdt, xsf, xse, xds, xtd, xtm)) : ∀ (e i f : Nat) (x1 : Int32) (xdc : Nat → Int32), i + e = 365 + lp → e < f → (i < 365 + lp → x1 = nI (oh_dc lp i)) → (∀ j, j < i → xdc j = nI (oh_dc lp j)) → wX_fillCalendar_5 post xfw (nI lp) (nI (365 + lp)) xrl xhz xhc xts xos xpd xtc xcu xbk xrt f x1 (nI i) xdc xho xtx xou xnm xtk xtv xki xst xdn xsn xdf xdt xsf xse xds xtd xtm
  | e, i, 0, _, _, _, hf, _, _ => absurd hf (by omega)
  | 0, i, f + 1, x1, xdc, he, _, _, hd => by
    have : i = 365 + lp := by omega
    subst this
    rw [wX_fillCalendar_5]
    exact pk_le (365 + lp) (365 + lp) (fun _ => h xdc hd) (fun a => absurd a (by omega))
  | e + 1, i, f + 1, x1, xdc, he, hf, hx, hd => by
    have ex := hx (by omega)
    subst ex
    have hv := oh_dc_v lp (by omega) i (by omega) (by omega)
    have hml := oh_ml_in (oh_dc lp i / 32) lp hl
    have hstep := oh_dc_step lp (by omega) i (by omega)
    rw [wX_fillCalendar_5]
    refine pk_le (365 + lp) i (fun a => absurd a (by omega)) (fun _ => ⟨vp_in_nI (by omega) (by omega), ?_⟩)
    rw [nI_clamp (by omega), oh_r32 (by omega), oh_d32 (by omega)]
    have hd' : ∀ j, j < i + 1 → upd xdc i (nI (oh_dc lp i)) j = nI (oh_dc lp j) := fun j hj => by
      by_cases z : j = i
      · subst z; exact pk_us
      · rw [pk_un z]; exact hd j (by omega)
    refine nm_e ⟨by decide, by decide, ?_⟩
    refine xl_ml (oh_dc lp i / 32) lp rfl rfl (by omega) (by omega) hl ?_
    refine pk_le (oh_ml (oh_dc lp i / 32) lp) (oh_dc lp i % 32) (fun a => ⟨by decide, ?_⟩) (fun a => ?_)
    · refine nm_e (nm_r (nI_1 i) (xi_cal hl h e (i + 1) f _ _ (by omega) (by omega) (fun z => ?_) hd'))
      rw [hstep z, if_neg (by omega), show nI (oh_dc lp i / 32) * 32 = nI (oh_dc lp i / 32 * 32) from pk_mul _ 32]
      exact nI_add _ 33
    · refine nm_e (nm_r (nI_1 i) (xi_cal hl h e (i + 1) f _ _ (by omega) (by omega) (fun z => ?_) hd'))
      rw [hstep z, if_pos (by omega)]
      exact nI_1 _
theorem xi_init {post : SX → Prop} (k0 k1 k2 k3 : Int32) (fw lp rl hd : Nat) (e0 : oh_cv k0 0 6 = nI fw) (e1 : oh_cv k1 0 1 = nI lp) (e2 : oh_cv k2 1 6 = nI rl) (e3 : oh_cv k3 1 7 = nI hd) (hl : lp ≤ 1) (h : ∀ (xdc' : Nat → Int32) (xnm' : Nat → Int64), (∀ j, j < 365 + lp → xdc' j = nI (oh_dc lp j)) → (∀ i, i < 27 → xnm' i = lN (oh_le (oh_nm i))) → post (nI fw, nI lp, nI (365 + lp), nI rl, nI (48 * hd), 0, 0, 0, 0, 0, 0, 0, 0, xdc', fun _ => 0, fun _ => 0, fun _ => 0, xnm', fun _ => 0, fun _ => 0, fun _ => 0, fun _ => 0, fun _ => 0, fun _ => 0, fun _ => 0, fun _ => 0, fun _ => 0, fun _ => 0, fun _ => 0, fun _ => 0, fun _ => 0)) : wpX_init post k0 k1 k2 k3 := by
  unfold wpX_init
  refine xi_clamp 0 6 rfl rfl ?_
  refine xi_clamp 0 1 rfl rfl ?_
  rw [e0, e1]
  refine nm_r (nI_add 365 lp) ?_
  refine xi_clamp 1 6 rfl rfl ?_
  refine xi_clamp 1 7 rfl rfl ?_
  rw [e2, e3]
  refine nm_r (e' := nI (48 * hd)) (pk_mul 48 hd) ?_
  refine xi_names (fun xnm' hnm => ?_)
  dsimp only
  unfold wpX_fillCalendar
  refine ⟨365 + lp + 1, xi_cal hl (fun xdc' hdc => h xdc' xnm' hdc hnm) (365 + lp) 0 _ 33 _ (by omega) (by omega) (fun _ => rfl) (fun j hj => absurd hj (Nat.not_lt_zero _))⟩
theorem yi_init {post : SY → Prop} (k0 k1 k2 k3 : Int32) (fw lp rl hd : Nat) (e0 : oh_cv k0 0 6 = nI fw) (e1 : oh_cv k1 0 1 = nI lp) (e2 : oh_cv k2 1 6 = nI rl) (e3 : oh_cv k3 1 7 = nI hd) (h : ∀ (ynm' : Nat → Int64), (∀ i, i < 27 → ynm' (i + 1) = lN (oh_be (oh_nm i))) → post (nI fw, nI lp, nI rl, nI hd, 0, 0, 0, 0, 0, 0, 0, 0, fun _ => 0, fun _ => 0, fun _ => 0, ynm', fun _ => 0)) : wpY_init post k0 k1 k2 k3 := by
  unfold wpY_init
  refine yi_clamp 0 6 rfl rfl ?_
  refine yi_clamp 0 1 rfl rfl ?_
  refine yi_clamp 1 6 rfl rfl ?_
  refine yi_clamp 1 7 rfl rfl ?_
  rw [e0, e1, e2, e3]
  refine yi_name 1 rfl (by omega) ?_
  dsimp only
  refine yi_name 2 rfl (by omega) ?_
  dsimp only
  refine yi_name 3 rfl (by omega) ?_
  dsimp only
  refine yi_name 4 rfl (by omega) ?_
  dsimp only
  refine yi_name 5 rfl (by omega) ?_
  dsimp only
  refine yi_name 6 rfl (by omega) ?_
  dsimp only
  refine yi_name 7 rfl (by omega) ?_
  dsimp only
  refine yi_name 8 rfl (by omega) ?_
  dsimp only
  refine yi_name 9 rfl (by omega) ?_
  dsimp only
  refine yi_name 10 rfl (by omega) ?_
  dsimp only
  refine yi_name 11 rfl (by omega) ?_
  dsimp only
  refine yi_name 12 rfl (by omega) ?_
  dsimp only
  refine yi_name 13 rfl (by omega) ?_
  dsimp only
  refine yi_name 14 rfl (by omega) ?_
  dsimp only
  refine yi_name 15 rfl (by omega) ?_
  dsimp only
  refine yi_name 16 rfl (by omega) ?_
  dsimp only
  refine yi_name 17 rfl (by omega) ?_
  dsimp only
  refine yi_name 18 rfl (by omega) ?_
  dsimp only
  refine yi_name 19 rfl (by omega) ?_
  dsimp only
  refine yi_name 20 rfl (by omega) ?_
  dsimp only
  refine yi_name 21 rfl (by omega) ?_
  dsimp only
  refine yi_name 25 rfl (by omega) ?_
  dsimp only
  refine yi_name 26 rfl (by omega) ?_
  dsimp only
  refine nm_e (nm_e (nm_e (nm_e ?_)))
  exact h _ (by decide +kernel)
end
end
section
/-! ===== the relation, and what is owed (printed by gen33.py) ===== -/
def oh_G (fw lp rl hd n b m : Nat) (ch : Nat → Nat) (ho : Nat → Bool) (FL : List (Nat × Nat × Nat × Nat)) (xdc xho xtx : Nat → Int32) (xnm : Nat → Int64) (xki xst xdn xsn xdf xdt xsf xse : Nat → Int32) (xds xtd xtm : Nat → Int64) (yfc : Int32) (ytx yfa : Nat → Int32) (ynm : Nat → Int64) (yho : Nat → Int32) : Prop :=
  ((1 ≤ rl ∧ rl ≤ 6) ∧ hd ≤ 7 ∧ (b = 0 ∨ b = 6)) ∧ (oh_T ch n ∧ (∀ j, xtx j = nI (ch j)) ∧ (∀ j, ytx j = nI (ch j))) ∧ ((∀ i, i < 27 → xnm i = lN (oh_le (oh_nm i))) ∧ (∀ i, i < 27 → ynm (i + 1) = lN (oh_be (oh_nm i)))) ∧ oh_XE fw lp m b FL ho xdc xho xki xst xdn xsn xdf xdt xsf xse xds xtd xtm ∧ oh_YE fw lp m FL ho yfc yfa yho
/-- the two states hold the same text, rules, holidays, calendar -/
def i_Rel (k : Nat) (u : SX) (v : SY) : Prop := match u, v with
  | (xfw, xlp, xdy, xrl, xhz, xhc, xts, xos, xpd, xtc, xcu, xbk, xrt, xdc, xho, xtx, xou, xnm, xtk, xtv, xki, xst, xdn, xsn, xdf, xdt, xsf, xse, xds, xtd, xtm), (yfw, ylp, yrl, yhd, yts, yos, ylt, yfc, yru, yps, yrd, ykp, ytx, you, yfa, ynm, yho) => ∃ (fw lp rl hd n b m : Nat) (ch : Nat → Nat) (ho : Nat → Bool) (FL : List (Nat × Nat × Nat × Nat)), (xfw = nI fw ∧ xlp = nI lp ∧ xdy = nI (365 + lp) ∧ xrl = nI rl ∧ xhz = nI (48 * hd) ∧ xhc = nI (oh_cn ho 366) ∧ xts = nI n ∧ xbk = nI b ∧ xrt = nI m) ∧ (yfw = nI fw ∧ ylp = nI lp ∧ yrl = nI rl ∧ yhd = nI hd ∧ yts = nI n ∧ yru = nI m) ∧ oh_G fw lp rl hd n b m ch ho FL xdc xho xtx xnm xki xst xdn xsn xdf xdt xsf xse xds xtd xtm yfc ytx yfa ynm yho
theorem oh_el {P : SX → SY → Prop} {k : Nat} {u : SX} {v : SY} (I : i_Rel k u v) (h : ∀ (xos xpd xtc xcu : Int32) (xdc xho xtx xou xtk xtv xki xst xdn xsn xdf xdt xsf xse : Nat → Int32) (xnm xds xtd xtm : Nat → Int64) (yos ylt yfc yps yrd ykp : Int32) (ytx you yfa yho : Nat → Int32) (ynm : Nat → Int64) (fw lp rl hd n b m : Nat) (ch : Nat → Nat) (ho : Nat → Bool) (FL : List (Nat × Nat × Nat × Nat)), oh_G fw lp rl hd n b m ch ho FL xdc xho xtx xnm xki xst xdn xsn xdf xdt xsf xse xds xtd xtm yfc ytx yfa ynm yho → P (nI fw, nI lp, nI (365 + lp), nI rl, nI (48 * hd), nI (oh_cn ho 366), nI n, xos, xpd, xtc, xcu, nI b, nI m, xdc, xho, xtx, xou, xnm, xtk, xtv, xki, xst, xdn, xsn, xdf, xdt, xsf, xse, xds, xtd, xtm) (nI fw, nI lp, nI rl, nI hd, nI n, yos, ylt, yfc, nI m, yps, yrd, ykp, ytx, you, yfa, ynm, yho)) : P u v := by
  obtain ⟨xfw, xlp, xdy, xrl, xhz, xhc, xts, xos, xpd, xtc, xcu, xbk, xrt, xdc, xho, xtx, xou, xnm, xtk, xtv, xki, xst, xdn, xsn, xdf, xdt, xsf, xse, xds, xtd, xtm⟩ := u
  obtain ⟨yfw, ylp, yrl, yhd, yts, yos, ylt, yfc, yru, yps, yrd, ykp, ytx, you, yfa, ynm, yho⟩ := v
  obtain ⟨fw, lp, rl, hd, n, b, m, ch, ho, FL, ⟨e1, e2, e3, e4, e5, e6, e7, e8, e9⟩, ⟨f1, f2, f3, f4, f5, f6⟩, G⟩ := I
  subst e1 e2 e3 e4 e5 e6 e7 e8 e9 f1 f2 f3 f4 f5 f6
  exact h _ _ _ _ _ _ _ _ _ _ _ _ _ _ _ _ _ _ _ _ _ _ _ _ _ _ _ _ _ _ _ _ _ _ _ _ _ _ _ _ _ _ _ G
theorem i_up {k : Nat} {u : SX} {v : SY} (h : i_Rel k u v) : i_Rel (k + 3) u v := h
section
variable {xos xpd xtc xcu : Int32} {xdc xho xtx xou xtk xtv xki xst xdn xsn xdf xdt xsf xse : Nat → Int32} {xnm xds xtd xtm : Nat → Int64} {yos ylt yfc yps yrd ykp : Int32} {ytx you yfa yho : Nat → Int32} {ynm : Nat → Int64} {fw lp rl hd n b m : Nat} {ch : Nat → Nat} {ho : Nat → Bool} {FL : List (Nat × Nat × Nat × Nat)}
theorem oh_in {k : Nat} (G : oh_G fw lp rl hd n b m ch ho FL xdc xho xtx xnm xki xst xdn xsn xdf xdt xsf xse xds xtd xtm yfc ytx yfa ynm yho) : i_Rel k (nI fw, nI lp, nI (365 + lp), nI rl, nI (48 * hd), nI (oh_cn ho 366), nI n, xos, xpd, xtc, xcu, nI b, nI m, xdc, xho, xtx, xou, xnm, xtk, xtv, xki, xst, xdn, xsn, xdf, xdt, xsf, xse, xds, xtd, xtm) (nI fw, nI lp, nI rl, nI hd, nI n, yos, ylt, yfc, nI m, yps, yrd, ykp, ytx, you, yfa, ynm, yho) :=
  ⟨fw, lp, rl, hd, n, b, m, ch, ho, FL, ⟨rfl, rfl, rfl, rfl, rfl, rfl, rfl, rfl, rfl⟩, ⟨rfl, rfl, rfl, rfl, rfl, rfl⟩, G⟩
theorem oh_24x (h : ∀ i, i < 27 → xnm i = lN (oh_le (oh_nm i))) : ∀ i, i < 24 → xnm i = lN (oh_le (oh_NS.getD i [])) := fun i hi => by rw [h i (by omega), oh_nm_NS i hi]
theorem oh_24y (h : ∀ i, i < 27 → ynm (i + 1) = lN (oh_be (oh_nm i))) : ∀ i, i < 24 → ynm (i + 1) = lN (oh_be (oh_NS.getD i [])) := fun i hi => by rw [h i (by omega), oh_nm_NS i hi]
theorem oh_SVx (hE : oh_XE fw lp m b FL ho xdc xho xki xst xdn xsn xdf xdt xsf xse xds xtd xtm) : ∀ r, r < m → oh_SV (oh_sY FL r) := fun r hr => by
  obtain ⟨hD, hP, _, _, _, ⟨K, k2, ek, _⟩, _⟩ := hE.2.2.2.1 r hr
  exact oh_SV_mk hE.2.2.2.2 hD.2.1 hP.2.1 ⟨K, k2, ek⟩
end
theorem oh_tk_end : ∀ (l : List Nat) (k : Nat), l.length ≤ k → oh_tk l k = 0 ∨ oh_tk l k = 2000
  | [], k, _ => Or.inl rfl
  | c :: t, 0, h => by rw [List.length_cons] at h; omega
  | c :: t, k + 1, h => by
    rw [oh_tk]
    split
    · exact Or.inr rfl
    · exact oh_tk_end t k (by rw [List.length_cons] at h; omega)
theorem oh_tk_big : ∀ (l : List Nat) (k : Nat), (∀ c, c ∈ l → 24 < c) → oh_tk l k = 0 ∨ 24 < oh_tk l k
  | [], k, _ => Or.inl rfl
  | c :: t, 0, h => Or.inr (h c List.mem_cons_self)
  | c :: t, k + 1, h => by
    rw [oh_tk]
    split
    · exact Or.inr (by omega)
    · exact oh_tk_big t k (fun d hd => h d (List.mem_cons_of_mem _ hd))
/-- what is parsed has room, and its rules are in order -/
theorem oh_parsed {ch : Nat → Nat} {n rl m : Nat} {FL : List (Nat × Nat × Nat × Nat)} (hT : oh_T ch n) (hrl : rl ≤ 6) (h : oh_pp (oh_tk (oh_tz ch n 0)) (oh_tz ch n 0).length rl 0 0 0 = some (m, FL)) : m ≤ 6 ∧ FL.length ≤ 128 ∧ oh_FK FL := by
  have hn := hT.1
  have hall := oh_tz_all ch n n 0 (by omega)
  have hend := oh_tk_end (oh_tz ch n 0)
  by_cases h7 : (oh_tz ch n 0).length ≤ 127
  · have := oh_pp_in (e := 0) ⟨hend, Or.inl rfl⟩ (by omega) (by omega) h
    refine ⟨by omega, by omega, fun f hf => ?_⟩
    have := this.2.2.2 f hf
    exact ⟨by omega, this.2.2⟩
  · have hw : oh_wc (oh_tz ch n 0) = 0 := by omega
    have hbig : ∀ c, c ∈ oh_tz ch n 0 → 24 < c := fun c hc => by
      rcases Nat.lt_or_ge 24 c with z | z
      · exact z
      · unfold oh_wc at hw
        have := List.eq_nil_of_length_eq_zero hw
        have hm : c ∈ (oh_tz ch n 0).filter (fun c => decide (c ≤ 24)) := List.mem_filter.mpr ⟨hc, decide_eq_true z⟩
        rw [this] at hm
        exact absurd hm List.not_mem_nil
    have := oh_pp_in (e := 6) ⟨hend, Or.inr ⟨rfl, fun k => oh_tk_big _ k hbig⟩⟩ (by omega) (by omega) h
    refine ⟨by omega, by omega, fun f hf => ?_⟩
    have := this.2.2.2 f hf
    exact ⟨by omega, this.2.2⟩
theorem oh_cn_0 : ∀ n, oh_cn (fun _ => false) n = 0
  | 0 => rfl
  | n + 1 => by rw [oh_cn, oh_cn_0 n]; rfl
theorem i_vc0 (k0 : Int32) (k1 : Int32) (k2 : Int32) (k3 : Int32) : wpX_init (fun u => wpY_init (fun v => i_Rel 4 u v) k0 k1 k2 k3) k0 k1 k2 k3 := by
  obtain ⟨fw, _, hfw, e0⟩ := oh_cv_in k0 (a := 0) (c := 6) (by omega) (by omega)
  obtain ⟨lp, _, hlp, e1⟩ := oh_cv_in k1 (a := 0) (c := 1) (by omega) (by omega)
  obtain ⟨rl, hrl1, hrl, e2⟩ := oh_cv_in k2 (a := 1) (c := 6) (by omega) (by omega)
  obtain ⟨hd, _, hhd, e3⟩ := oh_cv_in k3 (a := 1) (c := 7) (by omega) (by omega)
  refine xi_init k0 k1 k2 k3 fw lp rl hd e0 e1 e2 e3 hlp (fun xdc' xnm' hdc hnx => ?_)
  refine yi_init k0 k1 k2 k3 fw lp rl hd e0 e1 e2 e3 (fun ynm' hny => ?_)
  refine ⟨fw, lp, rl, hd, 0, 0, 0, fun _ => 0, fun _ => false, [], ⟨rfl, rfl, rfl, rfl, rfl, ?_, rfl, rfl, rfl⟩, ⟨rfl, rfl, rfl, rfl, rfl, rfl⟩, ⟨⟨⟨hrl1, hrl⟩, hhd, Or.inl rfl⟩, ⟨⟨by omega, fun _ => Nat.zero_le _, fun j hj => absurd hj (Nat.not_lt_zero _)⟩, fun _ => rfl, fun _ => rfl⟩, ⟨hnx, hny⟩, ⟨⟨hfw, hlp, by omega, by omega⟩, hdc, fun _ _ => rfl, fun r hr => absurd hr (Nat.not_lt_zero _), fun f hf => absurd hf List.not_mem_nil⟩, ⟨hfw, hlp, by omega⟩, ⟨rfl, Nat.zero_le _, fun i hi => absurd hi (Nat.not_lt_zero _)⟩, fun f hf => absurd hf List.not_mem_nil, fun _ _ => rfl, fun r hr => absurd hr (Nat.not_lt_zero _)⟩⟩
  rw [oh_cn_0]; rfl
theorem i_vc_put {k : Nat} {u : SX} {v : SY} (I : i_Rel k u v) (hk : k + 3 ≤ 1540) (a0 : Int64) : wpX_put (fun r u' => wpY_put (fun r' v' => r' = r ∧ i_Rel (k + 3) u' v') v a0) u a0 := by
  refine oh_el (P := fun u v => wpX_put (fun r u' => wpY_put (fun r' v' => r' = r ∧ i_Rel (k + 3) u' v') v a0) u a0) I ?_
  intro xos xpd xtc xcu xdc xho xtx xou xtk xtv xki xst xdn xsn xdf xdt xsf xse xnm xds xtd xtm yos ylt yfc yps yrd ykp ytx you yfa yho ynm fw lp rl hd n b m ch ho FL G
  have G0 := G
  obtain ⟨⟨⟨g0, g1⟩, g2, g3⟩, ⟨hT, hx, hy⟩, ⟨hnx, hny⟩, hXE, hYE⟩ := G
  have hn := hT.1
  have hpt := oh_pu_T (by_ := oh_by a0) (n := n) 8 0 n ch (Nat.le_refl _) hT
  unfold wpX_put
  dsimp only
  refine ⟨9, xp_put 8 0 9 n ch xtx (by omega) (by omega) hn hx (fun xtx' hx' => ⟨fun ok => ?_, fun no => ?_⟩)⟩
  · unfold wpY_put
    dsimp only
    refine ⟨9, yp_put 8 0 9 n ch ytx (by omega) (by omega) hn hy (fun ytx' hy' => ⟨fun _ => ⟨rfl, ?_⟩, fun no => absurd (no.symm.trans ok) (by decide)⟩)⟩
    exact oh_in ⟨⟨⟨g0, g1⟩, g2, g3⟩, ⟨hpt.2.1, hx', hy'⟩, ⟨hnx, hny⟩, hXE, hYE⟩
  · unfold wpY_put
    dsimp only
    refine ⟨9, yp_put 8 0 9 n ch ytx (by omega) (by omega) hn hy (fun ytx' hy' => ⟨fun ok => absurd (no.symm.trans ok) (by decide), fun _ => ⟨rfl, ?_⟩⟩)⟩
    exact oh_in ⟨⟨⟨g0, g1⟩, g2, g3⟩, ⟨oh_T_mono hpt.2.1 hpt.2.2, hx', hy'⟩, ⟨hnx, hny⟩, hXE, hYE⟩
theorem i_vc_clear {k : Nat} {u : SX} {v : SY} (I : i_Rel k u v) (hk : k + 3 ≤ 1540) : wpX_clear (fun u' => wpY_clear (fun v' => i_Rel (k + 3) u' v') v) u := by
  refine oh_el (P := fun u v => wpX_clear (fun u' => wpY_clear (fun v' => i_Rel (k + 3) u' v') v) u) I ?_
  intro xos xpd xtc xcu xdc xho xtx xou xtk xtv xki xst xdn xsn xdf xdt xsf xse xnm xds xtd xtm yos ylt yfc yps yrd ykp ytx you yfa yho ynm fw lp rl hd n b m ch ho FL G
  have G0 := G
  obtain ⟨⟨⟨g0, g1⟩, g2, g3⟩, ⟨hT, hx, hy⟩, ⟨hnx, hny⟩, hXE, hYE⟩ := G
  have hn := hT.1
  unfold wpX_clear wpY_clear
  dsimp only
  exact oh_in (n := 0) ⟨⟨⟨g0, g1⟩, g2, g3⟩, ⟨oh_T_mono hT (Nat.zero_le _), hx, hy⟩, ⟨hnx, hny⟩, hXE, hYE⟩
theorem i_vc_textLength {k : Nat} {u : SX} {v : SY} (I : i_Rel k u v) (hk : k + 3 ≤ 1540) : wpX_textLength (fun r => wpY_textLength (fun r' => r' = r ∧ i_Rel (k + 3) u v) v) u := by
  refine oh_el (P := fun u v => wpX_textLength (fun r => wpY_textLength (fun r' => r' = r ∧ i_Rel (k + 3) u v) v) u) I ?_
  intro xos xpd xtc xcu xdc xho xtx xou xtk xtv xki xst xdn xsn xdf xdt xsf xse xnm xds xtd xtm yos ylt yfc yps yrd ykp ytx you yfa yho ynm fw lp rl hd n b m ch ho FL G
  have G0 := G
  obtain ⟨⟨⟨g0, g1⟩, g2, g3⟩, ⟨hT, hx, hy⟩, ⟨hnx, hny⟩, hXE, hYE⟩ := G
  have hn := hT.1
  exact ⟨rfl, oh_in G0⟩
theorem i_vc_textWord {k : Nat} {u : SX} {v : SY} (I : i_Rel k u v) (hk : k + 3 ≤ 1540) (v1 : Int32) : wpX_textWord (fun r => wpY_textWord (fun r' => r' = r ∧ i_Rel (k + 3) u v) v v1) u v1 := by
  refine oh_el (P := fun u v => wpX_textWord (fun r => wpY_textWord (fun r' => r' = r ∧ i_Rel (k + 3) u v) v v1) u v1) I ?_
  intro xos xpd xtc xcu xdc xho xtx xou xtk xtv xki xst xdn xsn xdf xdt xsf xse xnm xds xtd xtm yos ylt yfc yps yrd ykp ytx you yfa yho ynm fw lp rl hd n b m ch ho FL G
  have G0 := G
  obtain ⟨⟨⟨g0, g1⟩, g2, g3⟩, ⟨hT, hx, hy⟩, ⟨hnx, hny⟩, hXE, hYE⟩ := G
  have hn := hT.1
  obtain ⟨r, hX, hY⟩ := oh_tw (x := v1) (xfw := nI fw) (xlp := nI lp) (xdy := nI (365 + lp)) (xrl := nI rl) (xhz := nI (48 * hd)) (xhc := nI (oh_cn ho 366)) (xos := xos) (xpd := xpd) (xtc := xtc) (xcu := xcu) (xbk := nI b) (xrt := nI m) (xdc := xdc) (xho := xho) (xou := xou) (xtk := xtk) (xtv := xtv) (xki := xki) (xst := xst) (xdn := xdn) (xsn := xsn) (xdf := xdf) (xdt := xdt) (xsf := xsf) (xse := xse) (xnm := xnm) (xds := xds) (xtd := xtd) (xtm := xtm) (yfw := nI fw) (ylp := nI lp) (yrl := nI rl) (yhd := nI hd) (yos := yos) (ylt := ylt) (yfc := yfc) (yru := nI m) (yps := yps) (yrd := yrd) (ykp := ykp) (you := you) (yfa := yfa) (yho := yho) (ynm := ynm) hT hx hy
  exact hX _ (hY _ ⟨rfl, oh_in G0⟩)
theorem i_vc_parse {k : Nat} {u : SX} {v : SY} (I : i_Rel k u v) (hk : k + 3 ≤ 1540) : wpX_parse (fun r u' => wpY_parse (fun r' v' => r' = r ∧ i_Rel (k + 3) u' v') v) u := by
  refine oh_el (P := fun u v => wpX_parse (fun r u' => wpY_parse (fun r' v' => r' = r ∧ i_Rel (k + 3) u' v') v) u) I ?_
  intro xos xpd xtc xcu xdc xho xtx xou xtk xtv xki xst xdn xsn xdf xdt xsf xse xnm xds xtd xtm yos ylt yfc yps yrd ykp ytx you yfa yho ynm fw lp rl hd n b m ch ho FL G
  have G0 := G
  obtain ⟨⟨⟨g0, g1⟩, g2, g3⟩, ⟨hT, hx, hy⟩, ⟨hnx, hny⟩, hXE, hYE⟩ := G
  have hn := hT.1
  have hall := oh_tz_all ch n n 0 (by omega)
  have hYK : oh_YK (oh_tk (oh_tz ch n 0)) n ytx ynm := ⟨ch, hT, hy, oh_24y hny, rfl⟩
  have hE : oh_E (oh_tk (oh_tz ch n 0)) (oh_tz ch n 0).length 0 := ⟨oh_tk_end _, Or.inl rfl⟩
  have hbd : ∀ m FL, oh_pp (oh_tk (oh_tz ch n 0)) (oh_tz ch n 0).length rl 0 0 0 = some (m, FL) → m ≤ 6 ∧ FL.length ≤ 128 := fun m FL e => ⟨(oh_parsed hT g1 e).1, (oh_parsed hT g1 e).2.1⟩
  refine xl_parse hT hx (oh_24x hnx) (by omega) g0 g1 ?_ ?_
  · intro m' FL' tc cu xtk' xtv' xki' xst' xdn' xsn' xdf' xdt' xsf' xse' xds' xtd' xtm' e hXF hFO
    have hp := oh_parsed hT g1 e
    refine yr_parse hYK hE (by omega) g0 g1 hbd (fun m2 FL2 ps rd fc' fa' e2 hF2 => ?_) (fun e2 => by rw [e] at e2; cases e2)
    rw [e] at e2
    cases e2
    refine ⟨rfl, oh_in (b := 6 - b) ⟨⟨⟨g0, g1⟩, g2, by omega⟩, ⟨hT, hx, hy⟩, ⟨hnx, hny⟩, ⟨⟨hXE.1.1, hXE.1.2.1, hp.1, by omega⟩, hXE.2.1, hXE.2.2.1, hXF, hp.2.2⟩, ⟨hXE.1.1, hXE.1.2.1, hp.1⟩, hF2, hp.2.2, hYE.2.2.2.1, fun r hr => ?_⟩⟩
    obtain ⟨K, k2, ek, _⟩ := (hXF r hr).2.2.2.2.2.1
    exact ⟨K, k2, ek⟩
  · intro tc cu xtk' xtv' xki' xst' xdn' xsn' xdf' xdt' xsf' xse' xds' xtd' xtm' e hFO
    refine yr_parse hYK hE (by omega) g0 g1 hbd (fun m2 FL2 ps rd fc' fa' e2 hF2 => by rw [e] at e2; cases e2) (fun _ ps rd => ⟨rfl, ?_⟩)
    refine oh_in ⟨⟨⟨g0, g1⟩, g2, g3⟩, ⟨hT, hx, hy⟩, ⟨hnx, hny⟩, ⟨hXE.1, hXE.2.1, hXE.2.2.1, fun r hr => ?_, hXE.2.2.2.2⟩, hYE⟩
    have h6 := hXE.1.2.2.1
    exact oh_XF_ag (hXE.2.2.2.1 r hr) (hFO _ (by omega))
theorem i_vc_rewrite {k : Nat} {u : SX} {v : SY} (I : i_Rel k u v) (hk : k + 3 ≤ 1540) : wpX_rewrite (fun r u' => wpY_rewrite (fun r' v' => r' = r ∧ i_Rel (k + 3) u' v') v) u := by
  refine oh_el (P := fun u v => wpX_rewrite (fun r u' => wpY_rewrite (fun r' v' => r' = r ∧ i_Rel (k + 3) u' v') v) u) I ?_
  intro xos xpd xtc xcu xdc xho xtx xou xtk xtv xki xst xdn xsn xdf xdt xsf xse xnm xds xtd xtm yos ylt yfc yps yrd ykp ytx you yfa yho ynm fw lp rl hd n b m ch ho FL G
  have G0 := G
  obtain ⟨⟨⟨g0, g1⟩, g2, g3⟩, ⟨hT, hx, hy⟩, ⟨hnx, hny⟩, hXE, hYE⟩ := G
  have hn := hT.1
  have hSV := oh_SVx hXE
  refine xw_rewrite hXE.1.2.2.1 hXE.1.2.2.2 hXE.2.2.2.1 hSV hnx hx (fun z os pd ou => ?_) (fun z os pd ou xtx' hx' => ?_)
  · refine yw_rewrite hYE hSV hny hy (fun _ os' lt' ou' => ⟨rfl, oh_in G0⟩) (fun z2 => absurd z z2)
  · refine yw_rewrite hYE hSV hny hy (fun z2 => absurd z2 z) (fun _ os' lt' ou' ytx' hy' => ⟨rfl, ?_⟩)
    have hck : oh_ck (oh_tx (oh_sY FL) m) := oh_ck_al (fun r hr => oh_ck_rt (hSV r hr) r _) m 0 (by omega)
    exact oh_in ⟨⟨⟨g0, g1⟩, g2, g3⟩, ⟨oh_tn_T hck (by omega) hT.2.1, hx', hy'⟩, ⟨hnx, hny⟩, hXE, hYE⟩
theorem i_vc_ruleCount {k : Nat} {u : SX} {v : SY} (I : i_Rel k u v) (hk : k + 3 ≤ 1540) : wpX_ruleCount (fun r => wpY_ruleCount (fun r' => r' = r ∧ i_Rel (k + 3) u v) v) u := by
  refine oh_el (P := fun u v => wpX_ruleCount (fun r => wpY_ruleCount (fun r' => r' = r ∧ i_Rel (k + 3) u v) v) u) I ?_
  intro xos xpd xtc xcu xdc xho xtx xou xtk xtv xki xst xdn xsn xdf xdt xsf xse xnm xds xtd xtm yos ylt yfc yps yrd ykp ytx you yfa yho ynm fw lp rl hd n b m ch ho FL G
  have G0 := G
  obtain ⟨⟨⟨g0, g1⟩, g2, g3⟩, ⟨hT, hx, hy⟩, ⟨hnx, hny⟩, hXE, hYE⟩ := G
  have hn := hT.1
  exact ⟨rfl, oh_in G0⟩
theorem i_vc_ruleKind {k : Nat} {u : SX} {v : SY} (I : i_Rel k u v) (hk : k + 3 ≤ 1540) (v1 : Int32) : wpX_ruleKind (fun r => wpY_ruleKind (fun r' => r' = r ∧ i_Rel (k + 3) u v) v v1) u v1 := by
  refine oh_el (P := fun u v => wpX_ruleKind (fun r => wpY_ruleKind (fun r' => r' = r ∧ i_Rel (k + 3) u v) v v1) u v1) I ?_
  intro xos xpd xtc xcu xdc xho xtx xou xtk xtv xki xst xdn xsn xdf xdt xsf xse xnm xds xtd xtm yos ylt yfc yps yrd ykp ytx you yfa yho ynm fw lp rl hd n b m ch ho FL G
  have G0 := G
  obtain ⟨⟨⟨g0, g1⟩, g2, g3⟩, ⟨hT, hx, hy⟩, ⟨hnx, hny⟩, hXE, hYE⟩ := G
  have hn := hT.1
  have h6 := hXE.1.2.2.1
  have hb6 := hXE.1.2.2.2
  unfold wpX_ruleKind
  dsimp only
  rcases pk_ix v1 (n := m) (by omega) with a | a | ⟨r, hr, rfl⟩
  · refine br_t a ?_
    unfold wpY_ruleKind
    dsimp only
    exact br_t a ⟨rfl, oh_in G0⟩
  · have hY : wpY_ruleKind (fun r' => r' = -1 ∧ i_Rel (k + 3) (nI fw, nI lp, nI (365 + lp), nI rl, nI (48 * hd), nI (oh_cn ho 366), nI n, xos, xpd, xtc, xcu, nI b, nI m, xdc, xho, xtx, xou, xnm, xtk, xtv, xki, xst, xdn, xsn, xdf, xdt, xsf, xse, xds, xtd, xtm) (nI fw, nI lp, nI rl, nI hd, nI n, yos, ylt, yfc, nI m, yps, yrd, ykp, ytx, you, yfa, ynm, yho)) (nI fw, nI lp, nI rl, nI hd, nI n, yos, ylt, yfc, nI m, yps, yrd, ykp, ytx, you, yfa, ynm, yho) v1 := by
      unfold wpY_ruleKind
      dsimp only
      exact br_c (fun _ => ⟨rfl, oh_in G0⟩) (fun _ => br_f (Int32.not_lt.mpr a) ⟨rfl, oh_in G0⟩)
    exact br_c (fun _ => hY) (fun _ => br_f (Int32.not_lt.mpr a) hY)
  · obtain ⟨K, k2, ek, eki⟩ := (hXE.2.2.2.1 r hr).2.2.2.2.2.1
    refine br_f (nI_pos (by omega)) (pk_lt r m (fun _ => ?_) (fun z => absurd hr (by omega)))
    rw [nI_add, nI_clamp (by omega), eki]
    refine ⟨vp_in_nI (by omega) (by omega), ye_kind r rfl hYE hr ⟨?_, oh_in G0⟩⟩
    rw [oh_kk_eq ek]
theorem i_vc_matches {k : Nat} {u : SX} {v : SY} (I : i_Rel k u v) (hk : k + 3 ≤ 1540) (v1 : Int32) (v2 : Int32) : wpX_matches (fun r => wpY_matches (fun r' => r' = r ∧ i_Rel (k + 3) u v) v v1 v2) u v1 v2 := by
  refine oh_el (P := fun u v => wpX_matches (fun r => wpY_matches (fun r' => r' = r ∧ i_Rel (k + 3) u v) v v1 v2) u v1 v2) I ?_
  intro xos xpd xtc xcu xdc xho xtx xou xtk xtv xki xst xdn xsn xdf xdt xsf xse xnm xds xtd xtm yos ylt yfc yps yrd ykp ytx you yfa yho ynm fw lp rl hd n b m ch ho FL G
  have G0 := G
  obtain ⟨⟨⟨g0, g1⟩, g2, g3⟩, ⟨hT, hx, hy⟩, ⟨hnx, hny⟩, hXE, hYE⟩ := G
  have hn := hT.1
  have h6 := hXE.1.2.2.1
  have hl := hXE.1.2.1
  have hYn : (v1 < 0 ∨ nI m ≤ v1 ∨ v2 < 0 ∨ nI (365 + lp) ≤ v2) → wpY_matches (fun r' => r' = -1 ∧ i_Rel (k + 3) (nI fw, nI lp, nI (365 + lp), nI rl, nI (48 * hd), nI (oh_cn ho 366), nI n, xos, xpd, xtc, xcu, nI b, nI m, xdc, xho, xtx, xou, xnm, xtk, xtv, xki, xst, xdn, xsn, xdf, xdt, xsf, xse, xds, xtd, xtm) (nI fw, nI lp, nI rl, nI hd, nI n, yos, ylt, yfc, nI m, yps, yrd, ykp, ytx, you, yfa, ynm, yho)) (nI fw, nI lp, nI rl, nI hd, nI n, yos, ylt, yfc, nI m, yps, yrd, ykp, ytx, you, yfa, ynm, yho) v1 v2 := fun z => by
    unfold wpY_matches
    dsimp only
    rw [show (365 : Int32) + nI lp = nI (365 + lp) from nI_add 365 lp]
    have hp : (-1 : Int32) = -1 ∧ i_Rel (k + 3) (nI fw, nI lp, nI (365 + lp), nI rl, nI (48 * hd), nI (oh_cn ho 366), nI n, xos, xpd, xtc, xcu, nI b, nI m, xdc, xho, xtx, xou, xnm, xtk, xtv, xki, xst, xdn, xsn, xdf, xdt, xsf, xse, xds, xtd, xtm) (nI fw, nI lp, nI rl, nI hd, nI n, yos, ylt, yfc, nI m, yps, yrd, ykp, ytx, you, yfa, ynm, yho) := ⟨rfl, oh_in G0⟩
    rcases z with z | z | z | z
    · exact br_t z hp
    · exact br_c (fun _ => hp) (fun _ => br_t z hp)
    · exact br_c (fun _ => hp) (fun _ => br_c (fun _ => hp) (fun _ => br_t z hp))
    · exact br_c (fun _ => hp) (fun _ => br_c (fun _ => hp) (fun _ => br_c (fun _ => hp) (fun _ => br_f (Int32.not_lt.mpr z) hp)))
  unfold wpX_matches
  dsimp only
  rcases pk_ix v1 (n := m) (by omega) with a | a | ⟨r, hr, rfl⟩
  · exact br_t a (hYn (Or.inl a))
  · exact br_c (fun _ => hYn (Or.inr (Or.inl a))) (fun _ => br_t a (hYn (Or.inr (Or.inl a))))
  · refine br_f (nI_pos (by omega)) (pk_le m r (fun z => absurd hr (by omega)) (fun _ => ?_))
    rcases oh_dayx lp hl v2 with c | c | ⟨d, hd2, rfl⟩
    · exact xe_isDay (v := false) (d := 0) hl (Or.inr ⟨rfl, c⟩) (fun _ => hYn (Or.inr (Or.inr (Or.inl c)))) (fun z => absurd z (by decide))
    · unfold wpX_isDay
      dsimp only
      have hq := hYn (Or.inr (Or.inr (Or.inr c)))
      exact br_c (fun _ => br_t rfl hq) (fun _ => br_t c (br_t rfl hq))
    · refine xe_isDay (v := true) (d := d) hl (Or.inl ⟨rfl, hd2, rfl⟩) (fun z => absurd z (by decide)) (fun _ => ?_)
      refine xe_ap r d (nI_add b r) rfl hXE hr hd2 (fun z => ?_) (fun z => ?_)
      · exact ye_mt r d rfl rfl hYE hr hd2 ⟨by rw [z]; rfl, oh_in G0⟩
      · exact ye_mt r d rfl rfl hYE hr hd2 ⟨by rw [z]; rfl, oh_in G0⟩
theorem i_vc_setHoliday {k : Nat} {u : SX} {v : SY} (I : i_Rel k u v) (hk : k + 3 ≤ 1540) (v1 : Int32) (v2 : Int32) : wpX_setHoliday (fun r u' => wpY_setHoliday (fun r' v' => r' = r ∧ i_Rel (k + 3) u' v') v v1 (lw_bz v2)) u v1 (lw_bz v2) := by
  refine oh_el (P := fun u v => wpX_setHoliday (fun r u' => wpY_setHoliday (fun r' v' => r' = r ∧ i_Rel (k + 3) u' v') v v1 (lw_bz v2)) u v1 (lw_bz v2)) I ?_
  intro xos xpd xtc xcu xdc xho xtx xou xtk xtv xki xst xdn xsn xdf xdt xsf xse xnm xds xtd xtm yos ylt yfc yps yrd ykp ytx you yfa yho ynm fw lp rl hd n b m ch ho FL G
  have G0 := G
  obtain ⟨⟨⟨g0, g1⟩, g2, g3⟩, ⟨hT, hx, hy⟩, ⟨hnx, hny⟩, hXE, hYE⟩ := G
  have hn := hT.1
  obtain ⟨w, ew⟩ : ∃ w : Bool, lw_bz v2 = oh_bi w := by
    rcases lw_bz_01 v2 with e | e
    · exact ⟨false, e⟩
    · exact ⟨true, e⟩
  rw [ew]
  obtain ⟨r, ho', hhi, hX, hY⟩ := oh_setH (xfw := nI fw) (xlp := nI lp) (xrl := nI rl) (xhz := nI (48 * hd)) (xts := nI n) (xos := xos) (xpd := xpd) (xtc := xtc) (xcu := xcu) (xbk := nI b) (xrt := nI m) (xdc := xdc) (xtx := xtx) (xou := xou) (xtk := xtk) (xtv := xtv) (xki := xki) (xst := xst) (xdn := xdn) (xsn := xsn) (xdf := xdf) (xdt := xdt) (xsf := xsf) (xse := xse) (xnm := xnm) (xds := xds) (xtd := xtd) (xtm := xtm) (yfw := nI fw) (yrl := nI rl) (yhd := nI hd) (yts := nI n) (yos := yos) (ylt := ylt) (yfc := yfc) (yru := nI m) (yps := yps) (yrd := yrd) (ykp := ykp) (ytx := ytx) (you := you) (yfa := yfa) (ynm := ynm) (lp := lp) (ho := ho) (xho := xho) (yho := yho) (x := v1) w hXE.1.2.1 hXE.2.2.1 hYE.2.2.2.1
  refine hX _ (fun xho' hx' => hY _ (fun yho' hy' => ⟨rfl, ?_⟩))
  exact oh_in ⟨⟨⟨g0, g1⟩, g2, g3⟩, ⟨hT, hx, hy⟩, ⟨hnx, hny⟩, ⟨hXE.1, hXE.2.1, hx', hXE.2.2.2⟩, ⟨hYE.1, hYE.2.1, hYE.2.2.1, hy', hYE.2.2.2.2⟩⟩
theorem i_vc_isHoliday {k : Nat} {u : SX} {v : SY} (I : i_Rel k u v) (hk : k + 3 ≤ 1540) (v1 : Int32) : wpX_isHoliday (fun r => wpY_isHoliday (fun r' => r' = r ∧ i_Rel (k + 3) u v) v v1) u v1 := by
  refine oh_el (P := fun u v => wpX_isHoliday (fun r => wpY_isHoliday (fun r' => r' = r ∧ i_Rel (k + 3) u v) v v1) u v1) I ?_
  intro xos xpd xtc xcu xdc xho xtx xou xtk xtv xki xst xdn xsn xdf xdt xsf xse xnm xds xtd xtm yos ylt yfc yps yrd ykp ytx you yfa yho ynm fw lp rl hd n b m ch ho FL G
  have G0 := G
  obtain ⟨⟨⟨g0, g1⟩, g2, g3⟩, ⟨hT, hx, hy⟩, ⟨hnx, hny⟩, hXE, hYE⟩ := G
  have hn := hT.1
  obtain ⟨r, hX, hY⟩ := oh_isH (xfw := nI fw) (xlp := nI lp) (xrl := nI rl) (xhz := nI (48 * hd)) (xts := nI n) (xos := xos) (xpd := xpd) (xtc := xtc) (xcu := xcu) (xbk := nI b) (xrt := nI m) (xdc := xdc) (xtx := xtx) (xou := xou) (xtk := xtk) (xtv := xtv) (xki := xki) (xst := xst) (xdn := xdn) (xsn := xsn) (xdf := xdf) (xdt := xdt) (xsf := xsf) (xse := xse) (xnm := xnm) (xds := xds) (xtd := xtd) (xtm := xtm) (yfw := nI fw) (yrl := nI rl) (yhd := nI hd) (yts := nI n) (yos := yos) (ylt := ylt) (yfc := yfc) (yru := nI m) (yps := yps) (yrd := yrd) (ykp := ykp) (ytx := ytx) (you := you) (yfa := yfa) (ynm := ynm) (xhc := nI (oh_cn ho 366)) (lp := lp) (ho := ho) (xho := xho) (yho := yho) (x := v1) hXE.1.2.1 hXE.2.2.1 hYE.2.2.2.1
  exact hX _ (hY _ ⟨rfl, oh_in G0⟩)
theorem i_vc_dayNumber {k : Nat} {u : SX} {v : SY} (I : i_Rel k u v) (hk : k + 3 ≤ 1540) (v1 : Int32) (v2 : Int32) : wpX_dayNumber (fun r => wpY_dayNumber (fun r' => r' = r ∧ i_Rel (k + 3) u v) v v1 v2) u v1 v2 := by
  refine oh_el (P := fun u v => wpX_dayNumber (fun r => wpY_dayNumber (fun r' => r' = r ∧ i_Rel (k + 3) u v) v v1 v2) u v1 v2) I ?_
  intro xos xpd xtc xcu xdc xho xtx xou xtk xtv xki xst xdn xsn xdf xdt xsf xse xnm xds xtd xtm yos ylt yfc yps yrd ykp ytx you yfa yho ynm fw lp rl hd n b m ch ho FL G
  have G0 := G
  obtain ⟨⟨⟨g0, g1⟩, g2, g3⟩, ⟨hT, hx, hy⟩, ⟨hnx, hny⟩, hXE, hYE⟩ := G
  have hn := hT.1
  obtain ⟨r, hX, hY⟩ := od_num (xfw := nI fw) (xrl := nI rl) (xhz := nI (48 * hd)) (xts := nI n) (xos := xos) (xpd := xpd) (xtc := xtc) (xcu := xcu) (xbk := nI b) (xrt := nI m) (xdc := xdc) (xtx := xtx) (xou := xou) (xtk := xtk) (xtv := xtv) (xki := xki) (xst := xst) (xdn := xdn) (xsn := xsn) (xdf := xdf) (xdt := xdt) (xsf := xsf) (xse := xse) (xnm := xnm) (xds := xds) (xtd := xtd) (xtm := xtm) (yfw := nI fw) (yrl := nI rl) (yhd := nI hd) (yts := nI n) (yos := yos) (ylt := ylt) (yfc := yfc) (yru := nI m) (yps := yps) (yrd := yrd) (ykp := ykp) (ytx := ytx) (you := you) (yfa := yfa) (ynm := ynm) (xdy := nI (365 + lp)) (xhc := nI (oh_cn ho 366)) (lp := lp) (xho := xho) (yho := yho) (x := v1) (y := v2) hXE.1.2.1
  exact hX _ (hY _ ⟨rfl, oh_in G0⟩)
theorem i_vc_stateAt {k : Nat} {u : SX} {v : SY} (I : i_Rel k u v) (hk : k + 3 ≤ 1540) (v1 : Int32) : wpX_stateAt (fun r => wpY_stateAt (fun r' => r' = r ∧ i_Rel (k + 3) u v) v v1) u v1 := by
  refine oh_el (P := fun u v => wpX_stateAt (fun r => wpY_stateAt (fun r' => r' = r ∧ i_Rel (k + 3) u v) v v1) u v1) I ?_
  intro xos xpd xtc xcu xdc xho xtx xou xtk xtv xki xst xdn xsn xdf xdt xsf xse xnm xds xtd xtm yos ylt yfc yps yrd ykp ytx you yfa yho ynm fw lp rl hd n b m ch ho FL G
  have G0 := G
  obtain ⟨⟨⟨g0, g1⟩, g2, g3⟩, ⟨hT, hx, hy⟩, ⟨hnx, hny⟩, hXE, hYE⟩ := G
  have hn := hT.1
  have hl := hXE.1.2.1
  rcases pk_ix v1 (n := 48 * (365 + lp)) (by omega) with a | a | ⟨t, ht, rfl⟩
  · exact xe_st_n hl (Or.inl a) (ye_st_n hl (Or.inl a) ⟨rfl, oh_in G0⟩)
  · exact xe_st_n hl (Or.inr a) (ye_st_n hl (Or.inr a) ⟨rfl, oh_in G0⟩)
  · refine xe_st t rfl hXE ht (ye_st t rfl hYE ht ⟨rfl, oh_in G0⟩)
theorem i_vc_ruleAt {k : Nat} {u : SX} {v : SY} (I : i_Rel k u v) (hk : k + 3 ≤ 1540) (v1 : Int32) : wpX_ruleAt (fun r => wpY_ruleAt (fun r' => r' = r ∧ i_Rel (k + 3) u v) v v1) u v1 := by
  refine oh_el (P := fun u v => wpX_ruleAt (fun r => wpY_ruleAt (fun r' => r' = r ∧ i_Rel (k + 3) u v) v v1) u v1) I ?_
  intro xos xpd xtc xcu xdc xho xtx xou xtk xtv xki xst xdn xsn xdf xdt xsf xse xnm xds xtd xtm yos ylt yfc yps yrd ykp ytx you yfa yho ynm fw lp rl hd n b m ch ho FL G
  have G0 := G
  obtain ⟨⟨⟨g0, g1⟩, g2, g3⟩, ⟨hT, hx, hy⟩, ⟨hnx, hny⟩, hXE, hYE⟩ := G
  have hn := hT.1
  have hl := hXE.1.2.1
  rcases pk_ix v1 (n := 48 * (365 + lp)) (by omega) with a | a | ⟨t, ht, rfl⟩
  · exact xe_ra_n hl (Or.inl a) (ye_ra_n hl (Or.inl a) ⟨rfl, oh_in G0⟩)
  · exact xe_ra_n hl (Or.inr a) (ye_ra_n hl (Or.inr a) ⟨rfl, oh_in G0⟩)
  · refine xe_ra t rfl hXE ht (ye_ra t rfl hYE ht ⟨rfl, oh_in G0⟩)
theorem i_vc_nextChange {k : Nat} {u : SX} {v : SY} (I : i_Rel k u v) (hk : k + 3 ≤ 1540) (v1 : Int32) : wpX_nextChange (fun r => wpY_nextChange (fun r' => r' = r ∧ i_Rel (k + 3) u v) v v1) u v1 := by
  refine oh_el (P := fun u v => wpX_nextChange (fun r => wpY_nextChange (fun r' => r' = r ∧ i_Rel (k + 3) u v) v v1) u v1) I ?_
  intro xos xpd xtc xcu xdc xho xtx xou xtk xtv xki xst xdn xsn xdf xdt xsf xse xnm xds xtd xtm yos ylt yfc yps yrd ykp ytx you yfa yho ynm fw lp rl hd n b m ch ho FL G
  have G0 := G
  obtain ⟨⟨⟨g0, g1⟩, g2, g3⟩, ⟨hT, hx, hy⟩, ⟨hnx, hny⟩, hXE, hYE⟩ := G
  have hn := hT.1
  have hl := hXE.1.2.1
  rcases pk_ix v1 (n := 48 * (365 + lp)) (by omega) with a | a | ⟨t, ht, rfl⟩
  · exact xe_nc_n hl (Or.inl a) (ye_nc_n hl (Or.inl a) ⟨rfl, oh_in G0⟩)
  · exact xe_nc_n hl (Or.inr a) (ye_nc_n hl (Or.inr a) ⟨rfl, oh_in G0⟩)
  · refine xe_nc t rfl hXE g2 ht (ye_nc t rfl hYE g2 ht (fun u => oh_ST_lt hXE.2.2.2.2 u) ⟨rfl, oh_in G0⟩)
end
