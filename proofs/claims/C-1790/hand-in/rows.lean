section
/-! pure rows to paste: stores, nI and lN arithmetic, masks, shifts, narrowing, branches by naturals (pk_le, pk_lt, pk_eq), loops (lp1 .. lp16: the measure of the state; rp1 ..: recursion), negatives. Take what you need -/
theorem pk_us {f : Nat → Int32} {k : Nat} {x : Int32} : upd f k x k = x := if_pos rfl
theorem pk_un {f : Nat → Int32} {k j : Nat} {x : Int32} (h : j ≠ k) : upd f k x j = f j := if_neg h
theorem pk_uLs {f : Nat → Int64} {k : Nat} {x : Int64} : vp_updL f k x k = x := if_pos rfl
theorem pk_uLn {f : Nat → Int64} {k j : Nat} {x : Int64} (h : j ≠ k) : vp_updL f k x j = f j := if_neg h
theorem pk_sub {a b : Nat} (h : b ≤ a) : nI a - nI b = nI (a - b) := by
  obtain ⟨c, rfl⟩ : ∃ c, a = c + b := ⟨a - b, by omega⟩
  rw [← nI_add, Int32.add_sub_cancel, Nat.add_sub_cancel]
theorem pk_m1 (n : Nat) : nI (n + 1) + (-1) = nI n := by
  rw [← nI_1, Int32.add_assoc, show (1 : Int32) + (-1) = 0 from rfl, Int32.add_zero]
theorem pk_mul (a b : Nat) : nI a * nI b = nI (a * b) := (Int32.ofNat_mul a b).symm
theorem pk_div {a d : Nat} (ha : a < 2 ^ 31) (h0 : 0 < d) (hd : d < 2 ^ 31) : nI a / nI d = nI (a / d) := by
  apply Int32.toInt_inj.mp
  rw [lg_idiv_nonneg (by rw [nI_toInt ha]; omega) (by rw [nI_toInt hd]; omega), nI_toInt ha, nI_toInt hd, nI_toInt (Nat.lt_of_le_of_lt (Nat.div_le_self a d) ha)]
  first | rfl | exact (Int.natCast_ediv _ _).symm
theorem pk_rem {a d : Nat} (ha : a < 2 ^ 31) (h0 : 0 < d) (hd : d < 2 ^ 31) : nI a - nI a / nI d * nI d = nI (a % d) := by
  rw [pk_div ha h0 hd, pk_mul, pk_sub (Nat.div_mul_le_self a d)]
  exact congrArg nI (by have := Nat.div_add_mod' a d; omega)
theorem pk_sub_toInt {a b : Nat} (ha : a < 2 ^ 30) (hb : b < 2 ^ 30) : (nI a - nI b).toInt = (a : Int) - b := by
  rw [Int32.toInt_sub, nI_toInt (by omega), nI_toInt (by omega)]
  exact Int.bmod_eq_of_le (by omega) (by omega)
theorem pk_sneg {a b : Nat} (hb : b < 2 ^ 30) (h : a < b) : nI a - nI b < 0 := by
  rw [Int32.lt_iff_toInt_lt, pk_sub_toInt (by omega) hb, show (0 : Int32).toInt = 0 from by decide]
  omega
theorem pk_ix (x : Int32) {n : Nat} (hn : n < 2 ^ 31) : x < 0 ∨ nI n ≤ x ∨ ∃ j : Nat, j < n ∧ x = nI j := by
  by_cases h : x < 0
  · exact Or.inl h
  · obtain ⟨j, hj, rfl⟩ := nI_of h
    by_cases h2 : j < n
    · exact Or.inr (Or.inr ⟨j, h2, rfl⟩)
    · exact Or.inr (Or.inl (nI_le (by omega) hj))
theorem pk_le {x y : Int32} {A B : Prop} (a b : Nat) (f : a ≤ b → A) (g : b < a → B) (hx : x = nI a := by rfl) (hy : y = nI b := by rfl) (ha : a < 2 ^ 31 := by omega) (hb : b < 2 ^ 31 := by omega) : (x ≤ y → A) ∧ (¬ x ≤ y → B) := by
  subst hx hy
  rw [nI_leI ha hb]
  exact ⟨f, fun z => g (by omega)⟩
theorem pk_lt {x y : Int32} {A B : Prop} (a b : Nat) (f : a < b → A) (g : b ≤ a → B) (hx : x = nI a := by rfl) (hy : y = nI b := by rfl) (ha : a < 2 ^ 31 := by omega) (hb : b < 2 ^ 31 := by omega) : (x < y → A) ∧ (¬ x < y → B) := by
  subst hx hy
  rw [nI_ltI ha hb]
  exact ⟨f, fun z => g (by omega)⟩
theorem pk_eq {x y : Int32} {A B : Prop} (a b : Nat) (f : a = b → A) (g : a ≠ b → B) (hx : x = nI a := by rfl) (hy : y = nI b := by rfl) (ha : a < 2 ^ 31 := by omega) (hb : b < 2 ^ 31 := by omega) : (x = y → A) ∧ (¬ x = y → B) := by
  subst hx hy
  rw [nI_eq ha hb]
  exact ⟨f, g⟩
theorem pk_in {x : Int32} (n N : Nat) (h : n < N) (hx : x = nI n := by rfl) (hN : N < 2 ^ 31 := by omega) : vp_in x N := by
  subst hx
  exact vp_in_nI h hN
theorem pk_cl {x : Int32} (n : Nat) (hx : x = nI n := by rfl) (h : n < 2 ^ 31 := by omega) : x.toNatClampNeg = n := by
  subst hx
  exact nI_clamp h
theorem pk_tn {n : Nat} (h : n < 2 ^ 32) : (nI n).toBitVec.toNat = n := Nat.mod_eq_of_lt h
theorem pk_and (x : Int32) {m : Int32} (k : Nat) (hm : m.toBitVec.toNat = 2 ^ k - 1) : x &&& m = nI (x.toBitVec.toNat % 2 ^ k) := by
  apply Int32.toBitVec_inj.mp
  apply BitVec.eq_of_toNat_eq
  rw [Int32.toBitVec_and, BitVec.toNat_and, hm, Nat.and_two_pow_sub_one_eq_mod]
  show _ = (BitVec.ofNat 32 _).toNat
  rw [BitVec.toNat_ofNat]
  exact (Nat.mod_eq_of_lt (Nat.lt_of_le_of_lt (Nat.mod_le _ _) x.toBitVec.isLt)).symm
theorem pk_andN {n : Nat} (h : n < 2 ^ 32) {m : Int32} (k : Nat) (hm : m.toBitVec.toNat = 2 ^ k - 1) : nI n &&& m = nI (n % 2 ^ k) := by
  rw [pk_and _ k hm, pk_tn h]
theorem pk_andE (x : Int32) {m : Int32} (k : Nat) (hm : m.toBitVec.toNat = 2 ^ k - 1) : ∃ j : Nat, j < 2 ^ k ∧ x &&& m = nI j := ⟨_, Nat.mod_lt _ (Nat.two_pow_pos k), pk_and x k hm⟩
theorem pk_andIn (x : Int32) {m : Int32} (k : Nat) (hm : m.toBitVec.toNat = 2 ^ k - 1) (hk : k ≤ 30) : vp_in (x &&& m) (2 ^ k) := by
  obtain ⟨j, hj, e⟩ := pk_andE x k hm
  rw [e]
  exact vp_in_nI hj (Nat.lt_of_le_of_lt (Nat.pow_le_pow_right (by decide) hk) (by decide))
theorem pk_shl (a s : Int32) (k : Nat) (hs : (s.toBitVec.smod 32).toNat = k) : (a <<< s).toBitVec.toNat = a.toBitVec.toNat * 2 ^ k % 2 ^ 32 := by
  show (a.toBitVec <<< (s.toBitVec.smod 32).toNat).toNat = _
  rw [hs, BitVec.toNat_shiftLeft, Nat.shiftLeft_eq]
theorem pk_shlN {n : Nat} (s : Int32) (k : Nat) (hs : (s.toBitVec.smod 32).toNat = k) (h : n * 2 ^ k < 2 ^ 32) : nI n <<< s = nI (n * 2 ^ k) := by
  apply Int32.toBitVec_inj.mp
  apply BitVec.eq_of_toNat_eq
  have hn : n < 2 ^ 32 := Nat.lt_of_le_of_lt (Nat.le_mul_of_pos_right n (Nat.two_pow_pos k)) h
  rw [pk_shl _ _ k hs, pk_tn hn, pk_tn h, Nat.mod_eq_of_lt h]
theorem pk_shr (a s : Int32) (k : Nat) (hs : (s.toBitVec.smod 32).toNat = k) : (a >>> s).toInt = a.toInt >>> k := by
  show (a.toBitVec.sshiftRight (s.toBitVec.smod 32).toNat).toInt = _
  rw [hs, BitVec.toInt_sshiftRight]
  rfl
theorem pk_shrN {n : Nat} (h : n < 2 ^ 31) (s : Int32) (k : Nat) (hs : (s.toBitVec.smod 32).toNat = k) : nI n >>> s = nI (n / 2 ^ k) := by
  apply Int32.toInt_inj.mp
  have h2 : n / 2 ^ k ≤ n := Nat.div_le_self _ _
  rw [pk_shr _ _ k hs, nI_toInt h, nI_toInt (by omega), Int.shiftRight_eq_div_pow]
  rfl
theorem pk_ushr (x s : Int32) (k : Nat) (hs : ((s.toUInt32 &&& Int32.toUInt32 31).toBitVec % 32).toNat = k) : (x.toUInt32 >>> (s.toUInt32 &&& Int32.toUInt32 31)).toInt32.toBitVec.toNat = x.toBitVec.toNat / 2 ^ k := by
  have e : (x.toUInt32 >>> (s.toUInt32 &&& Int32.toUInt32 31)).toInt32.toBitVec = x.toBitVec >>> k := by
    rw [← hs]
    exact UInt32.toBitVec_shiftRight _ _
  rw [e, BitVec.toNat_ushiftRight, Nat.shiftRight_eq_div_pow]
theorem pk_ushrN {n : Nat} (hn : n < 2 ^ 32) (s : Int32) (k : Nat) (hs : ((s.toUInt32 &&& Int32.toUInt32 31).toBitVec % 32).toNat = k) : ((nI n).toUInt32 >>> (s.toUInt32 &&& Int32.toUInt32 31)).toInt32 = nI (n / 2 ^ k) := by
  apply Int32.toBitVec_inj.mp
  apply BitVec.eq_of_toNat_eq
  rw [pk_ushr _ s k hs, pk_tn hn, pk_tn (Nat.lt_of_le_of_lt (Nat.div_le_self _ _) hn)]
theorem pk_nb (z : Int32) : narrow .byte (.int z.toInt8.toInt32) = .int z.toInt8.toInt32 := congrArg Value.int (by simp)
theorem pk_ns (z : Int32) : narrow .short (.int z.toInt16.toInt32) = .int z.toInt16.toInt32 := congrArg Value.int (by simp)
theorem pk_fb (r : Int32) : fits .byte (.int r.toInt8.toInt32) = true := by
  have ⟨a, b⟩ := lg_i2b_range r
  have h1 : (-128 : Int32).toInt = -128 := by decide
  have h2 : (127 : Int32).toInt = 127 := by decide
  simp only [fits, Bool.and_eq_true, decide_eq_true_eq, Int32.le_iff_toInt_le, h1, h2]
  omega
theorem pk_fs (r : Int32) : fits .short (.int r.toInt16.toInt32) = true := by
  have ⟨a, b⟩ := lg_i2s_range r
  have h1 : (-32768 : Int32).toInt = -32768 := by decide
  have h2 : (32767 : Int32).toInt = 32767 := by decide
  simp only [fits, Bool.and_eq_true, decide_eq_true_eq, Int32.le_iff_toInt_le, h1, h2]
  omega
theorem pk_charN {q : Nat} (hq : q < 65536) : narrow .char (.int (nI q)) = .int (nI q) ∧ fits .char (.int (nI q)) = true := by
  constructor
  · have e : (nI q).toUInt32.toUInt16.toUInt32.toInt32 = nI q := by
      apply Int32.toBitVec_inj.mp
      apply BitVec.eq_of_toNat_eq
      show (nI q).toUInt32.toUInt16.toUInt32.toNat = q % 2 ^ 32
      rw [UInt16.toNat_toUInt32, UInt32.toNat_toUInt16, show (nI q).toUInt32.toNat = q % 2 ^ 32 from rfl]
      omega
    exact congrArg Value.int e
  · have a : (0 : Int32) ≤ nI q := nI_pos' (by omega)
    have b : nI q ≤ 65535 := nI_le (b := 65535) (by omega) (by decide)
    show (decide ((0 : Int32) ≤ nI q) && decide (nI q ≤ 65535)) = true
    rw [decide_eq_true a, decide_eq_true b]
    rfl
theorem pk_char (x : Int32) : (x.toUInt32 % 65536).toInt32 = nI (x.toBitVec.toNat % 65536) := by
  apply Int32.toBitVec_inj.mp
  apply BitVec.eq_of_toNat_eq
  rw [pk_tn (by omega)]
  show (x.toUInt32 % 65536).toNat = _
  rw [UInt32.toNat_mod]
  rfl
theorem pk_nc (x : Int32) : narrow .char (.int (x.toUInt32 % 65536).toInt32) = .int (x.toUInt32 % 65536).toInt32 := by
  rw [pk_char]
  exact (pk_charN (Nat.mod_lt _ (by decide))).1
theorem pk_fc (x : Int32) : fits .char (.int (x.toUInt32 % 65536).toInt32) = true := by
  rw [pk_char]
  exact (pk_charN (Nat.mod_lt _ (by decide))).2
theorem pk_vb (z : Int32) : vp_nar .byte z.toInt8.toInt32 = z.toInt8.toInt32 := by rw [vp_nar_byte]; simp
theorem pk_vs (z : Int32) : vp_nar .short z.toInt16.toInt32 = z.toInt16.toInt32 := by rw [vp_nar_short]; simp
theorem pk_vc (z : Int32) : vp_nar .char (z.toUInt32 % 65536).toInt32 = (z.toUInt32 % 65536).toInt32 := Value.int.inj (pk_nc z)
theorem pk_lT {n : Nat} (h : n < 2 ^ 63) : (lN n).toInt = (n : Int) := lg_ofNat_toInt h
theorem pk_lLT {a b : Nat} (ha : a < 2 ^ 63) (hb : b < 2 ^ 63) : lN a < lN b ↔ a < b := by
  rw [Int64.lt_iff_toInt_lt, pk_lT ha, pk_lT hb]; omega
theorem pk_lLE {a b : Nat} (ha : a < 2 ^ 63) (hb : b < 2 ^ 63) : lN a ≤ lN b ↔ a ≤ b := by
  rw [Int64.le_iff_toInt_le, pk_lT ha, pk_lT hb]; omega
theorem pk_lEQ {a b : Nat} (ha : a < 2 ^ 63) (hb : b < 2 ^ 63) : lN a = lN b ↔ a = b := by
  rw [← Int64.toInt_inj, pk_lT ha, pk_lT hb]; omega
theorem pk_lOf {x : Int64} (h : ¬ x < 0) : ∃ k : Nat, k < 2 ^ 63 ∧ x = lN k := by
  rw [Int64.lt_iff_toInt_lt] at h
  have h0 : (0 : Int64).toInt = 0 := by decide
  have hx := Int64.toInt_lt x
  refine ⟨x.toInt.toNat, by omega, Int64.toInt_inj.mp ?_⟩
  rw [pk_lT (by omega)]
  omega
theorem pk_lDiv {a b : Nat} (ha : a < 2 ^ 63) (h0 : 0 < b) (hb : b < 2 ^ 63) : lN a / lN b = lN (a / b) := by
  apply Int64.toInt_inj.mp
  rw [lg_ldiv_nonneg (by rw [pk_lT ha]; omega) (by rw [pk_lT hb]; omega), pk_lT ha, pk_lT hb, pk_lT (Nat.lt_of_le_of_lt (Nat.div_le_self a b) ha)]
  rfl
theorem pk_lRem {a b : Nat} (ha : a < 2 ^ 63) (h0 : 0 < b) (hb : b < 2 ^ 63) : lN a - lN a / lN b * lN b = lN (a % b) := by
  rw [pk_lDiv ha h0 hb, lN_mul, lN_sub (Nat.div_mul_le_self a b)]
  exact congrArg lN (by have := Nat.div_add_mod' a b; omega)
theorem pk_loop {σ : Type} (W : Nat → Nat → σ → Prop) (I : Nat → σ → Prop) (e i0 : Nat) (s : σ) (hi : i0 ≤ e) (h0 : I i0 s) (hx : ∀ n s, I e s → W (n + 1) e s)
    (hs : ∀ n i s, i < e → I i s → (∀ s', I (i + 1) s' → W n (i + 1) s') → W (n + 1) i s) : ∃ n, W n i0 s :=
  ⟨e + 1, loop_i W I e hx hs (e + 1) i0 s hi (by omega) h0⟩
theorem pk_loopD {σ : Type} (W : Nat → Nat → σ → Prop) (I : Nat → σ → Prop) (hx : ∀ n s, I 0 s → W (n + 1) 0 s)
    (hs : ∀ n i s, I (i + 1) s → (∀ s', I i s' → W n i s') → W (n + 1) (i + 1) s) : ∀ (e : Nat) (s : σ), I e s → W (e + 1) e s := by
  intro e
  induction e with
  | zero => exact fun s h => hx 0 s h
  | succ e ih => exact fun s h => hs (e + 1) e s h (fun s' h' => ih s' h')
theorem lp1 {A1 : Type} (W : Nat → A1 → Prop) (I : A1 → Prop) (μ : A1 → Nat) (hs : ∀ (n : Nat) (a1 : A1), I a1 → (∀ (b1 : A1), I b1 → μ b1 < μ a1 → W n b1) → W (n + 1) a1) (a1 : A1) (h : I a1) : ∃ n, W n a1 :=
  loop_m (σ := A1) (fun n s => W n s) (fun s => I s) (fun s => μ s) (fun n s hI hk => hs n s hI (fun b1 h9 hm => hk b1 h9 hm)) a1 h
theorem lp2 {A1 A2 : Type} (W : Nat → A1 → A2 → Prop) (I : A1 → A2 → Prop) (μ : A1 → A2 → Nat) (hs : ∀ (n : Nat) (a1 : A1) (a2 : A2), I a1 a2 → (∀ (b1 : A1) (b2 : A2), I b1 b2 → μ b1 b2 < μ a1 a2 → W n b1 b2) → W (n + 1) a1 a2) (a1 : A1) (a2 : A2) (h : I a1 a2) : ∃ n, W n a1 a2 :=
  loop_m (σ := A1 × A2) (fun n s => W n s.1 s.2) (fun s => I s.1 s.2) (fun s => μ s.1 s.2) (fun n s hI hk => hs n s.1 s.2 hI (fun b1 b2 h9 hm => hk (b1, b2) h9 hm)) (a1, a2) h
theorem lp3 {A1 A2 A3 : Type} (W : Nat → A1 → A2 → A3 → Prop) (I : A1 → A2 → A3 → Prop) (μ : A1 → A2 → A3 → Nat) (hs : ∀ (n : Nat) (a1 : A1) (a2 : A2) (a3 : A3), I a1 a2 a3 → (∀ (b1 : A1) (b2 : A2) (b3 : A3), I b1 b2 b3 → μ b1 b2 b3 < μ a1 a2 a3 → W n b1 b2 b3) → W (n + 1) a1 a2 a3) (a1 : A1) (a2 : A2) (a3 : A3) (h : I a1 a2 a3) : ∃ n, W n a1 a2 a3 :=
  loop_m (σ := A1 × A2 × A3) (fun n s => W n s.1 s.2.1 s.2.2) (fun s => I s.1 s.2.1 s.2.2) (fun s => μ s.1 s.2.1 s.2.2) (fun n s hI hk => hs n s.1 s.2.1 s.2.2 hI (fun b1 b2 b3 h9 hm => hk (b1, b2, b3) h9 hm)) (a1, a2, a3) h
theorem lp4 {A1 A2 A3 A4 : Type} (W : Nat → A1 → A2 → A3 → A4 → Prop) (I : A1 → A2 → A3 → A4 → Prop) (μ : A1 → A2 → A3 → A4 → Nat) (hs : ∀ (n : Nat) (a1 : A1) (a2 : A2) (a3 : A3) (a4 : A4), I a1 a2 a3 a4 → (∀ (b1 : A1) (b2 : A2) (b3 : A3) (b4 : A4), I b1 b2 b3 b4 → μ b1 b2 b3 b4 < μ a1 a2 a3 a4 → W n b1 b2 b3 b4) → W (n + 1) a1 a2 a3 a4) (a1 : A1) (a2 : A2) (a3 : A3) (a4 : A4) (h : I a1 a2 a3 a4) : ∃ n, W n a1 a2 a3 a4 :=
  loop_m (σ := A1 × A2 × A3 × A4) (fun n s => W n s.1 s.2.1 s.2.2.1 s.2.2.2) (fun s => I s.1 s.2.1 s.2.2.1 s.2.2.2) (fun s => μ s.1 s.2.1 s.2.2.1 s.2.2.2) (fun n s hI hk => hs n s.1 s.2.1 s.2.2.1 s.2.2.2 hI (fun b1 b2 b3 b4 h9 hm => hk (b1, b2, b3, b4) h9 hm)) (a1, a2, a3, a4) h
theorem lp5 {A1 A2 A3 A4 A5 : Type} (W : Nat → A1 → A2 → A3 → A4 → A5 → Prop) (I : A1 → A2 → A3 → A4 → A5 → Prop) (μ : A1 → A2 → A3 → A4 → A5 → Nat) (hs : ∀ (n : Nat) (a1 : A1) (a2 : A2) (a3 : A3) (a4 : A4) (a5 : A5), I a1 a2 a3 a4 a5 → (∀ (b1 : A1) (b2 : A2) (b3 : A3) (b4 : A4) (b5 : A5), I b1 b2 b3 b4 b5 → μ b1 b2 b3 b4 b5 < μ a1 a2 a3 a4 a5 → W n b1 b2 b3 b4 b5) → W (n + 1) a1 a2 a3 a4 a5) (a1 : A1) (a2 : A2) (a3 : A3) (a4 : A4) (a5 : A5) (h : I a1 a2 a3 a4 a5) : ∃ n, W n a1 a2 a3 a4 a5 :=
  loop_m (σ := A1 × A2 × A3 × A4 × A5) (fun n s => W n s.1 s.2.1 s.2.2.1 s.2.2.2.1 s.2.2.2.2) (fun s => I s.1 s.2.1 s.2.2.1 s.2.2.2.1 s.2.2.2.2) (fun s => μ s.1 s.2.1 s.2.2.1 s.2.2.2.1 s.2.2.2.2) (fun n s hI hk => hs n s.1 s.2.1 s.2.2.1 s.2.2.2.1 s.2.2.2.2 hI (fun b1 b2 b3 b4 b5 h9 hm => hk (b1, b2, b3, b4, b5) h9 hm)) (a1, a2, a3, a4, a5) h
theorem lp6 {A1 A2 A3 A4 A5 A6 : Type} (W : Nat → A1 → A2 → A3 → A4 → A5 → A6 → Prop) (I : A1 → A2 → A3 → A4 → A5 → A6 → Prop) (μ : A1 → A2 → A3 → A4 → A5 → A6 → Nat) (hs : ∀ (n : Nat) (a1 : A1) (a2 : A2) (a3 : A3) (a4 : A4) (a5 : A5) (a6 : A6), I a1 a2 a3 a4 a5 a6 → (∀ (b1 : A1) (b2 : A2) (b3 : A3) (b4 : A4) (b5 : A5) (b6 : A6), I b1 b2 b3 b4 b5 b6 → μ b1 b2 b3 b4 b5 b6 < μ a1 a2 a3 a4 a5 a6 → W n b1 b2 b3 b4 b5 b6) → W (n + 1) a1 a2 a3 a4 a5 a6) (a1 : A1) (a2 : A2) (a3 : A3) (a4 : A4) (a5 : A5) (a6 : A6) (h : I a1 a2 a3 a4 a5 a6) : ∃ n, W n a1 a2 a3 a4 a5 a6 :=
  loop_m (σ := A1 × A2 × A3 × A4 × A5 × A6) (fun n s => W n s.1 s.2.1 s.2.2.1 s.2.2.2.1 s.2.2.2.2.1 s.2.2.2.2.2) (fun s => I s.1 s.2.1 s.2.2.1 s.2.2.2.1 s.2.2.2.2.1 s.2.2.2.2.2) (fun s => μ s.1 s.2.1 s.2.2.1 s.2.2.2.1 s.2.2.2.2.1 s.2.2.2.2.2) (fun n s hI hk => hs n s.1 s.2.1 s.2.2.1 s.2.2.2.1 s.2.2.2.2.1 s.2.2.2.2.2 hI (fun b1 b2 b3 b4 b5 b6 h9 hm => hk (b1, b2, b3, b4, b5, b6) h9 hm)) (a1, a2, a3, a4, a5, a6) h
theorem lp7 {A1 A2 A3 A4 A5 A6 A7 : Type} (W : Nat → A1 → A2 → A3 → A4 → A5 → A6 → A7 → Prop) (I : A1 → A2 → A3 → A4 → A5 → A6 → A7 → Prop) (μ : A1 → A2 → A3 → A4 → A5 → A6 → A7 → Nat) (hs : ∀ (n : Nat) (a1 : A1) (a2 : A2) (a3 : A3) (a4 : A4) (a5 : A5) (a6 : A6) (a7 : A7), I a1 a2 a3 a4 a5 a6 a7 → (∀ (b1 : A1) (b2 : A2) (b3 : A3) (b4 : A4) (b5 : A5) (b6 : A6) (b7 : A7), I b1 b2 b3 b4 b5 b6 b7 → μ b1 b2 b3 b4 b5 b6 b7 < μ a1 a2 a3 a4 a5 a6 a7 → W n b1 b2 b3 b4 b5 b6 b7) → W (n + 1) a1 a2 a3 a4 a5 a6 a7) (a1 : A1) (a2 : A2) (a3 : A3) (a4 : A4) (a5 : A5) (a6 : A6) (a7 : A7) (h : I a1 a2 a3 a4 a5 a6 a7) : ∃ n, W n a1 a2 a3 a4 a5 a6 a7 :=
  loop_m (σ := A1 × A2 × A3 × A4 × A5 × A6 × A7) (fun n s => W n s.1 s.2.1 s.2.2.1 s.2.2.2.1 s.2.2.2.2.1 s.2.2.2.2.2.1 s.2.2.2.2.2.2) (fun s => I s.1 s.2.1 s.2.2.1 s.2.2.2.1 s.2.2.2.2.1 s.2.2.2.2.2.1 s.2.2.2.2.2.2) (fun s => μ s.1 s.2.1 s.2.2.1 s.2.2.2.1 s.2.2.2.2.1 s.2.2.2.2.2.1 s.2.2.2.2.2.2) (fun n s hI hk => hs n s.1 s.2.1 s.2.2.1 s.2.2.2.1 s.2.2.2.2.1 s.2.2.2.2.2.1 s.2.2.2.2.2.2 hI (fun b1 b2 b3 b4 b5 b6 b7 h9 hm => hk (b1, b2, b3, b4, b5, b6, b7) h9 hm)) (a1, a2, a3, a4, a5, a6, a7) h
theorem lp8 {A1 A2 A3 A4 A5 A6 A7 A8 : Type} (W : Nat → A1 → A2 → A3 → A4 → A5 → A6 → A7 → A8 → Prop) (I : A1 → A2 → A3 → A4 → A5 → A6 → A7 → A8 → Prop) (μ : A1 → A2 → A3 → A4 → A5 → A6 → A7 → A8 → Nat) (hs : ∀ (n : Nat) (a1 : A1) (a2 : A2) (a3 : A3) (a4 : A4) (a5 : A5) (a6 : A6) (a7 : A7) (a8 : A8), I a1 a2 a3 a4 a5 a6 a7 a8 → (∀ (b1 : A1) (b2 : A2) (b3 : A3) (b4 : A4) (b5 : A5) (b6 : A6) (b7 : A7) (b8 : A8), I b1 b2 b3 b4 b5 b6 b7 b8 → μ b1 b2 b3 b4 b5 b6 b7 b8 < μ a1 a2 a3 a4 a5 a6 a7 a8 → W n b1 b2 b3 b4 b5 b6 b7 b8) → W (n + 1) a1 a2 a3 a4 a5 a6 a7 a8) (a1 : A1) (a2 : A2) (a3 : A3) (a4 : A4) (a5 : A5) (a6 : A6) (a7 : A7) (a8 : A8) (h : I a1 a2 a3 a4 a5 a6 a7 a8) : ∃ n, W n a1 a2 a3 a4 a5 a6 a7 a8 :=
  loop_m (σ := A1 × A2 × A3 × A4 × A5 × A6 × A7 × A8) (fun n s => W n s.1 s.2.1 s.2.2.1 s.2.2.2.1 s.2.2.2.2.1 s.2.2.2.2.2.1 s.2.2.2.2.2.2.1 s.2.2.2.2.2.2.2) (fun s => I s.1 s.2.1 s.2.2.1 s.2.2.2.1 s.2.2.2.2.1 s.2.2.2.2.2.1 s.2.2.2.2.2.2.1 s.2.2.2.2.2.2.2) (fun s => μ s.1 s.2.1 s.2.2.1 s.2.2.2.1 s.2.2.2.2.1 s.2.2.2.2.2.1 s.2.2.2.2.2.2.1 s.2.2.2.2.2.2.2) (fun n s hI hk => hs n s.1 s.2.1 s.2.2.1 s.2.2.2.1 s.2.2.2.2.1 s.2.2.2.2.2.1 s.2.2.2.2.2.2.1 s.2.2.2.2.2.2.2 hI (fun b1 b2 b3 b4 b5 b6 b7 b8 h9 hm => hk (b1, b2, b3, b4, b5, b6, b7, b8) h9 hm)) (a1, a2, a3, a4, a5, a6, a7, a8) h
theorem lp9 {A1 A2 A3 A4 A5 A6 A7 A8 A9 : Type} (W : Nat → A1 → A2 → A3 → A4 → A5 → A6 → A7 → A8 → A9 → Prop) (I : A1 → A2 → A3 → A4 → A5 → A6 → A7 → A8 → A9 → Prop) (μ : A1 → A2 → A3 → A4 → A5 → A6 → A7 → A8 → A9 → Nat) (hs : ∀ (n : Nat) (a1 : A1) (a2 : A2) (a3 : A3) (a4 : A4) (a5 : A5) (a6 : A6) (a7 : A7) (a8 : A8) (a9 : A9), I a1 a2 a3 a4 a5 a6 a7 a8 a9 → (∀ (b1 : A1) (b2 : A2) (b3 : A3) (b4 : A4) (b5 : A5) (b6 : A6) (b7 : A7) (b8 : A8) (b9 : A9), I b1 b2 b3 b4 b5 b6 b7 b8 b9 → μ b1 b2 b3 b4 b5 b6 b7 b8 b9 < μ a1 a2 a3 a4 a5 a6 a7 a8 a9 → W n b1 b2 b3 b4 b5 b6 b7 b8 b9) → W (n + 1) a1 a2 a3 a4 a5 a6 a7 a8 a9) (a1 : A1) (a2 : A2) (a3 : A3) (a4 : A4) (a5 : A5) (a6 : A6) (a7 : A7) (a8 : A8) (a9 : A9) (h : I a1 a2 a3 a4 a5 a6 a7 a8 a9) : ∃ n, W n a1 a2 a3 a4 a5 a6 a7 a8 a9 :=
  loop_m (σ := A1 × A2 × A3 × A4 × A5 × A6 × A7 × A8 × A9) (fun n s => W n s.1 s.2.1 s.2.2.1 s.2.2.2.1 s.2.2.2.2.1 s.2.2.2.2.2.1 s.2.2.2.2.2.2.1 s.2.2.2.2.2.2.2.1 s.2.2.2.2.2.2.2.2) (fun s => I s.1 s.2.1 s.2.2.1 s.2.2.2.1 s.2.2.2.2.1 s.2.2.2.2.2.1 s.2.2.2.2.2.2.1 s.2.2.2.2.2.2.2.1 s.2.2.2.2.2.2.2.2) (fun s => μ s.1 s.2.1 s.2.2.1 s.2.2.2.1 s.2.2.2.2.1 s.2.2.2.2.2.1 s.2.2.2.2.2.2.1 s.2.2.2.2.2.2.2.1 s.2.2.2.2.2.2.2.2) (fun n s hI hk => hs n s.1 s.2.1 s.2.2.1 s.2.2.2.1 s.2.2.2.2.1 s.2.2.2.2.2.1 s.2.2.2.2.2.2.1 s.2.2.2.2.2.2.2.1 s.2.2.2.2.2.2.2.2 hI (fun b1 b2 b3 b4 b5 b6 b7 b8 b9 h9 hm => hk (b1, b2, b3, b4, b5, b6, b7, b8, b9) h9 hm)) (a1, a2, a3, a4, a5, a6, a7, a8, a9) h
theorem lp10 {A1 A2 A3 A4 A5 A6 A7 A8 A9 A10 : Type} (W : Nat → A1 → A2 → A3 → A4 → A5 → A6 → A7 → A8 → A9 → A10 → Prop) (I : A1 → A2 → A3 → A4 → A5 → A6 → A7 → A8 → A9 → A10 → Prop) (μ : A1 → A2 → A3 → A4 → A5 → A6 → A7 → A8 → A9 → A10 → Nat) (hs : ∀ (n : Nat) (a1 : A1) (a2 : A2) (a3 : A3) (a4 : A4) (a5 : A5) (a6 : A6) (a7 : A7) (a8 : A8) (a9 : A9) (a10 : A10), I a1 a2 a3 a4 a5 a6 a7 a8 a9 a10 → (∀ (b1 : A1) (b2 : A2) (b3 : A3) (b4 : A4) (b5 : A5) (b6 : A6) (b7 : A7) (b8 : A8) (b9 : A9) (b10 : A10), I b1 b2 b3 b4 b5 b6 b7 b8 b9 b10 → μ b1 b2 b3 b4 b5 b6 b7 b8 b9 b10 < μ a1 a2 a3 a4 a5 a6 a7 a8 a9 a10 → W n b1 b2 b3 b4 b5 b6 b7 b8 b9 b10) → W (n + 1) a1 a2 a3 a4 a5 a6 a7 a8 a9 a10) (a1 : A1) (a2 : A2) (a3 : A3) (a4 : A4) (a5 : A5) (a6 : A6) (a7 : A7) (a8 : A8) (a9 : A9) (a10 : A10) (h : I a1 a2 a3 a4 a5 a6 a7 a8 a9 a10) : ∃ n, W n a1 a2 a3 a4 a5 a6 a7 a8 a9 a10 :=
  loop_m (σ := A1 × A2 × A3 × A4 × A5 × A6 × A7 × A8 × A9 × A10) (fun n s => W n s.1 s.2.1 s.2.2.1 s.2.2.2.1 s.2.2.2.2.1 s.2.2.2.2.2.1 s.2.2.2.2.2.2.1 s.2.2.2.2.2.2.2.1 s.2.2.2.2.2.2.2.2.1 s.2.2.2.2.2.2.2.2.2) (fun s => I s.1 s.2.1 s.2.2.1 s.2.2.2.1 s.2.2.2.2.1 s.2.2.2.2.2.1 s.2.2.2.2.2.2.1 s.2.2.2.2.2.2.2.1 s.2.2.2.2.2.2.2.2.1 s.2.2.2.2.2.2.2.2.2) (fun s => μ s.1 s.2.1 s.2.2.1 s.2.2.2.1 s.2.2.2.2.1 s.2.2.2.2.2.1 s.2.2.2.2.2.2.1 s.2.2.2.2.2.2.2.1 s.2.2.2.2.2.2.2.2.1 s.2.2.2.2.2.2.2.2.2) (fun n s hI hk => hs n s.1 s.2.1 s.2.2.1 s.2.2.2.1 s.2.2.2.2.1 s.2.2.2.2.2.1 s.2.2.2.2.2.2.1 s.2.2.2.2.2.2.2.1 s.2.2.2.2.2.2.2.2.1 s.2.2.2.2.2.2.2.2.2 hI (fun b1 b2 b3 b4 b5 b6 b7 b8 b9 b10 h9 hm => hk (b1, b2, b3, b4, b5, b6, b7, b8, b9, b10) h9 hm)) (a1, a2, a3, a4, a5, a6, a7, a8, a9, a10) h
theorem lp11 {A1 A2 A3 A4 A5 A6 A7 A8 A9 A10 A11 : Type} (W : Nat → A1 → A2 → A3 → A4 → A5 → A6 → A7 → A8 → A9 → A10 → A11 → Prop) (I : A1 → A2 → A3 → A4 → A5 → A6 → A7 → A8 → A9 → A10 → A11 → Prop) (μ : A1 → A2 → A3 → A4 → A5 → A6 → A7 → A8 → A9 → A10 → A11 → Nat) (hs : ∀ (n : Nat) (a1 : A1) (a2 : A2) (a3 : A3) (a4 : A4) (a5 : A5) (a6 : A6) (a7 : A7) (a8 : A8) (a9 : A9) (a10 : A10) (a11 : A11), I a1 a2 a3 a4 a5 a6 a7 a8 a9 a10 a11 → (∀ (b1 : A1) (b2 : A2) (b3 : A3) (b4 : A4) (b5 : A5) (b6 : A6) (b7 : A7) (b8 : A8) (b9 : A9) (b10 : A10) (b11 : A11), I b1 b2 b3 b4 b5 b6 b7 b8 b9 b10 b11 → μ b1 b2 b3 b4 b5 b6 b7 b8 b9 b10 b11 < μ a1 a2 a3 a4 a5 a6 a7 a8 a9 a10 a11 → W n b1 b2 b3 b4 b5 b6 b7 b8 b9 b10 b11) → W (n + 1) a1 a2 a3 a4 a5 a6 a7 a8 a9 a10 a11) (a1 : A1) (a2 : A2) (a3 : A3) (a4 : A4) (a5 : A5) (a6 : A6) (a7 : A7) (a8 : A8) (a9 : A9) (a10 : A10) (a11 : A11) (h : I a1 a2 a3 a4 a5 a6 a7 a8 a9 a10 a11) : ∃ n, W n a1 a2 a3 a4 a5 a6 a7 a8 a9 a10 a11 :=
  loop_m (σ := A1 × A2 × A3 × A4 × A5 × A6 × A7 × A8 × A9 × A10 × A11) (fun n s => W n s.1 s.2.1 s.2.2.1 s.2.2.2.1 s.2.2.2.2.1 s.2.2.2.2.2.1 s.2.2.2.2.2.2.1 s.2.2.2.2.2.2.2.1 s.2.2.2.2.2.2.2.2.1 s.2.2.2.2.2.2.2.2.2.1 s.2.2.2.2.2.2.2.2.2.2) (fun s => I s.1 s.2.1 s.2.2.1 s.2.2.2.1 s.2.2.2.2.1 s.2.2.2.2.2.1 s.2.2.2.2.2.2.1 s.2.2.2.2.2.2.2.1 s.2.2.2.2.2.2.2.2.1 s.2.2.2.2.2.2.2.2.2.1 s.2.2.2.2.2.2.2.2.2.2) (fun s => μ s.1 s.2.1 s.2.2.1 s.2.2.2.1 s.2.2.2.2.1 s.2.2.2.2.2.1 s.2.2.2.2.2.2.1 s.2.2.2.2.2.2.2.1 s.2.2.2.2.2.2.2.2.1 s.2.2.2.2.2.2.2.2.2.1 s.2.2.2.2.2.2.2.2.2.2) (fun n s hI hk => hs n s.1 s.2.1 s.2.2.1 s.2.2.2.1 s.2.2.2.2.1 s.2.2.2.2.2.1 s.2.2.2.2.2.2.1 s.2.2.2.2.2.2.2.1 s.2.2.2.2.2.2.2.2.1 s.2.2.2.2.2.2.2.2.2.1 s.2.2.2.2.2.2.2.2.2.2 hI (fun b1 b2 b3 b4 b5 b6 b7 b8 b9 b10 b11 h9 hm => hk (b1, b2, b3, b4, b5, b6, b7, b8, b9, b10, b11) h9 hm)) (a1, a2, a3, a4, a5, a6, a7, a8, a9, a10, a11) h
theorem lp12 {A1 A2 A3 A4 A5 A6 A7 A8 A9 A10 A11 A12 : Type} (W : Nat → A1 → A2 → A3 → A4 → A5 → A6 → A7 → A8 → A9 → A10 → A11 → A12 → Prop) (I : A1 → A2 → A3 → A4 → A5 → A6 → A7 → A8 → A9 → A10 → A11 → A12 → Prop) (μ : A1 → A2 → A3 → A4 → A5 → A6 → A7 → A8 → A9 → A10 → A11 → A12 → Nat) (hs : ∀ (n : Nat) (a1 : A1) (a2 : A2) (a3 : A3) (a4 : A4) (a5 : A5) (a6 : A6) (a7 : A7) (a8 : A8) (a9 : A9) (a10 : A10) (a11 : A11) (a12 : A12), I a1 a2 a3 a4 a5 a6 a7 a8 a9 a10 a11 a12 → (∀ (b1 : A1) (b2 : A2) (b3 : A3) (b4 : A4) (b5 : A5) (b6 : A6) (b7 : A7) (b8 : A8) (b9 : A9) (b10 : A10) (b11 : A11) (b12 : A12), I b1 b2 b3 b4 b5 b6 b7 b8 b9 b10 b11 b12 → μ b1 b2 b3 b4 b5 b6 b7 b8 b9 b10 b11 b12 < μ a1 a2 a3 a4 a5 a6 a7 a8 a9 a10 a11 a12 → W n b1 b2 b3 b4 b5 b6 b7 b8 b9 b10 b11 b12) → W (n + 1) a1 a2 a3 a4 a5 a6 a7 a8 a9 a10 a11 a12) (a1 : A1) (a2 : A2) (a3 : A3) (a4 : A4) (a5 : A5) (a6 : A6) (a7 : A7) (a8 : A8) (a9 : A9) (a10 : A10) (a11 : A11) (a12 : A12) (h : I a1 a2 a3 a4 a5 a6 a7 a8 a9 a10 a11 a12) : ∃ n, W n a1 a2 a3 a4 a5 a6 a7 a8 a9 a10 a11 a12 :=
  loop_m (σ := A1 × A2 × A3 × A4 × A5 × A6 × A7 × A8 × A9 × A10 × A11 × A12) (fun n s => W n s.1 s.2.1 s.2.2.1 s.2.2.2.1 s.2.2.2.2.1 s.2.2.2.2.2.1 s.2.2.2.2.2.2.1 s.2.2.2.2.2.2.2.1 s.2.2.2.2.2.2.2.2.1 s.2.2.2.2.2.2.2.2.2.1 s.2.2.2.2.2.2.2.2.2.2.1 s.2.2.2.2.2.2.2.2.2.2.2) (fun s => I s.1 s.2.1 s.2.2.1 s.2.2.2.1 s.2.2.2.2.1 s.2.2.2.2.2.1 s.2.2.2.2.2.2.1 s.2.2.2.2.2.2.2.1 s.2.2.2.2.2.2.2.2.1 s.2.2.2.2.2.2.2.2.2.1 s.2.2.2.2.2.2.2.2.2.2.1 s.2.2.2.2.2.2.2.2.2.2.2) (fun s => μ s.1 s.2.1 s.2.2.1 s.2.2.2.1 s.2.2.2.2.1 s.2.2.2.2.2.1 s.2.2.2.2.2.2.1 s.2.2.2.2.2.2.2.1 s.2.2.2.2.2.2.2.2.1 s.2.2.2.2.2.2.2.2.2.1 s.2.2.2.2.2.2.2.2.2.2.1 s.2.2.2.2.2.2.2.2.2.2.2) (fun n s hI hk => hs n s.1 s.2.1 s.2.2.1 s.2.2.2.1 s.2.2.2.2.1 s.2.2.2.2.2.1 s.2.2.2.2.2.2.1 s.2.2.2.2.2.2.2.1 s.2.2.2.2.2.2.2.2.1 s.2.2.2.2.2.2.2.2.2.1 s.2.2.2.2.2.2.2.2.2.2.1 s.2.2.2.2.2.2.2.2.2.2.2 hI (fun b1 b2 b3 b4 b5 b6 b7 b8 b9 b10 b11 b12 h9 hm => hk (b1, b2, b3, b4, b5, b6, b7, b8, b9, b10, b11, b12) h9 hm)) (a1, a2, a3, a4, a5, a6, a7, a8, a9, a10, a11, a12) h
theorem lp13 {A1 A2 A3 A4 A5 A6 A7 A8 A9 A10 A11 A12 A13 : Type} (W : Nat → A1 → A2 → A3 → A4 → A5 → A6 → A7 → A8 → A9 → A10 → A11 → A12 → A13 → Prop) (I : A1 → A2 → A3 → A4 → A5 → A6 → A7 → A8 → A9 → A10 → A11 → A12 → A13 → Prop) (μ : A1 → A2 → A3 → A4 → A5 → A6 → A7 → A8 → A9 → A10 → A11 → A12 → A13 → Nat) (hs : ∀ (n : Nat) (a1 : A1) (a2 : A2) (a3 : A3) (a4 : A4) (a5 : A5) (a6 : A6) (a7 : A7) (a8 : A8) (a9 : A9) (a10 : A10) (a11 : A11) (a12 : A12) (a13 : A13), I a1 a2 a3 a4 a5 a6 a7 a8 a9 a10 a11 a12 a13 → (∀ (b1 : A1) (b2 : A2) (b3 : A3) (b4 : A4) (b5 : A5) (b6 : A6) (b7 : A7) (b8 : A8) (b9 : A9) (b10 : A10) (b11 : A11) (b12 : A12) (b13 : A13), I b1 b2 b3 b4 b5 b6 b7 b8 b9 b10 b11 b12 b13 → μ b1 b2 b3 b4 b5 b6 b7 b8 b9 b10 b11 b12 b13 < μ a1 a2 a3 a4 a5 a6 a7 a8 a9 a10 a11 a12 a13 → W n b1 b2 b3 b4 b5 b6 b7 b8 b9 b10 b11 b12 b13) → W (n + 1) a1 a2 a3 a4 a5 a6 a7 a8 a9 a10 a11 a12 a13) (a1 : A1) (a2 : A2) (a3 : A3) (a4 : A4) (a5 : A5) (a6 : A6) (a7 : A7) (a8 : A8) (a9 : A9) (a10 : A10) (a11 : A11) (a12 : A12) (a13 : A13) (h : I a1 a2 a3 a4 a5 a6 a7 a8 a9 a10 a11 a12 a13) : ∃ n, W n a1 a2 a3 a4 a5 a6 a7 a8 a9 a10 a11 a12 a13 :=
  loop_m (σ := A1 × A2 × A3 × A4 × A5 × A6 × A7 × A8 × A9 × A10 × A11 × A12 × A13) (fun n s => W n s.1 s.2.1 s.2.2.1 s.2.2.2.1 s.2.2.2.2.1 s.2.2.2.2.2.1 s.2.2.2.2.2.2.1 s.2.2.2.2.2.2.2.1 s.2.2.2.2.2.2.2.2.1 s.2.2.2.2.2.2.2.2.2.1 s.2.2.2.2.2.2.2.2.2.2.1 s.2.2.2.2.2.2.2.2.2.2.2.1 s.2.2.2.2.2.2.2.2.2.2.2.2) (fun s => I s.1 s.2.1 s.2.2.1 s.2.2.2.1 s.2.2.2.2.1 s.2.2.2.2.2.1 s.2.2.2.2.2.2.1 s.2.2.2.2.2.2.2.1 s.2.2.2.2.2.2.2.2.1 s.2.2.2.2.2.2.2.2.2.1 s.2.2.2.2.2.2.2.2.2.2.1 s.2.2.2.2.2.2.2.2.2.2.2.1 s.2.2.2.2.2.2.2.2.2.2.2.2) (fun s => μ s.1 s.2.1 s.2.2.1 s.2.2.2.1 s.2.2.2.2.1 s.2.2.2.2.2.1 s.2.2.2.2.2.2.1 s.2.2.2.2.2.2.2.1 s.2.2.2.2.2.2.2.2.1 s.2.2.2.2.2.2.2.2.2.1 s.2.2.2.2.2.2.2.2.2.2.1 s.2.2.2.2.2.2.2.2.2.2.2.1 s.2.2.2.2.2.2.2.2.2.2.2.2) (fun n s hI hk => hs n s.1 s.2.1 s.2.2.1 s.2.2.2.1 s.2.2.2.2.1 s.2.2.2.2.2.1 s.2.2.2.2.2.2.1 s.2.2.2.2.2.2.2.1 s.2.2.2.2.2.2.2.2.1 s.2.2.2.2.2.2.2.2.2.1 s.2.2.2.2.2.2.2.2.2.2.1 s.2.2.2.2.2.2.2.2.2.2.2.1 s.2.2.2.2.2.2.2.2.2.2.2.2 hI (fun b1 b2 b3 b4 b5 b6 b7 b8 b9 b10 b11 b12 b13 h9 hm => hk (b1, b2, b3, b4, b5, b6, b7, b8, b9, b10, b11, b12, b13) h9 hm)) (a1, a2, a3, a4, a5, a6, a7, a8, a9, a10, a11, a12, a13) h
theorem lp14 {A1 A2 A3 A4 A5 A6 A7 A8 A9 A10 A11 A12 A13 A14 : Type} (W : Nat → A1 → A2 → A3 → A4 → A5 → A6 → A7 → A8 → A9 → A10 → A11 → A12 → A13 → A14 → Prop) (I : A1 → A2 → A3 → A4 → A5 → A6 → A7 → A8 → A9 → A10 → A11 → A12 → A13 → A14 → Prop) (μ : A1 → A2 → A3 → A4 → A5 → A6 → A7 → A8 → A9 → A10 → A11 → A12 → A13 → A14 → Nat) (hs : ∀ (n : Nat) (a1 : A1) (a2 : A2) (a3 : A3) (a4 : A4) (a5 : A5) (a6 : A6) (a7 : A7) (a8 : A8) (a9 : A9) (a10 : A10) (a11 : A11) (a12 : A12) (a13 : A13) (a14 : A14), I a1 a2 a3 a4 a5 a6 a7 a8 a9 a10 a11 a12 a13 a14 → (∀ (b1 : A1) (b2 : A2) (b3 : A3) (b4 : A4) (b5 : A5) (b6 : A6) (b7 : A7) (b8 : A8) (b9 : A9) (b10 : A10) (b11 : A11) (b12 : A12) (b13 : A13) (b14 : A14), I b1 b2 b3 b4 b5 b6 b7 b8 b9 b10 b11 b12 b13 b14 → μ b1 b2 b3 b4 b5 b6 b7 b8 b9 b10 b11 b12 b13 b14 < μ a1 a2 a3 a4 a5 a6 a7 a8 a9 a10 a11 a12 a13 a14 → W n b1 b2 b3 b4 b5 b6 b7 b8 b9 b10 b11 b12 b13 b14) → W (n + 1) a1 a2 a3 a4 a5 a6 a7 a8 a9 a10 a11 a12 a13 a14) (a1 : A1) (a2 : A2) (a3 : A3) (a4 : A4) (a5 : A5) (a6 : A6) (a7 : A7) (a8 : A8) (a9 : A9) (a10 : A10) (a11 : A11) (a12 : A12) (a13 : A13) (a14 : A14) (h : I a1 a2 a3 a4 a5 a6 a7 a8 a9 a10 a11 a12 a13 a14) : ∃ n, W n a1 a2 a3 a4 a5 a6 a7 a8 a9 a10 a11 a12 a13 a14 :=
  loop_m (σ := A1 × A2 × A3 × A4 × A5 × A6 × A7 × A8 × A9 × A10 × A11 × A12 × A13 × A14) (fun n s => W n s.1 s.2.1 s.2.2.1 s.2.2.2.1 s.2.2.2.2.1 s.2.2.2.2.2.1 s.2.2.2.2.2.2.1 s.2.2.2.2.2.2.2.1 s.2.2.2.2.2.2.2.2.1 s.2.2.2.2.2.2.2.2.2.1 s.2.2.2.2.2.2.2.2.2.2.1 s.2.2.2.2.2.2.2.2.2.2.2.1 s.2.2.2.2.2.2.2.2.2.2.2.2.1 s.2.2.2.2.2.2.2.2.2.2.2.2.2) (fun s => I s.1 s.2.1 s.2.2.1 s.2.2.2.1 s.2.2.2.2.1 s.2.2.2.2.2.1 s.2.2.2.2.2.2.1 s.2.2.2.2.2.2.2.1 s.2.2.2.2.2.2.2.2.1 s.2.2.2.2.2.2.2.2.2.1 s.2.2.2.2.2.2.2.2.2.2.1 s.2.2.2.2.2.2.2.2.2.2.2.1 s.2.2.2.2.2.2.2.2.2.2.2.2.1 s.2.2.2.2.2.2.2.2.2.2.2.2.2) (fun s => μ s.1 s.2.1 s.2.2.1 s.2.2.2.1 s.2.2.2.2.1 s.2.2.2.2.2.1 s.2.2.2.2.2.2.1 s.2.2.2.2.2.2.2.1 s.2.2.2.2.2.2.2.2.1 s.2.2.2.2.2.2.2.2.2.1 s.2.2.2.2.2.2.2.2.2.2.1 s.2.2.2.2.2.2.2.2.2.2.2.1 s.2.2.2.2.2.2.2.2.2.2.2.2.1 s.2.2.2.2.2.2.2.2.2.2.2.2.2) (fun n s hI hk => hs n s.1 s.2.1 s.2.2.1 s.2.2.2.1 s.2.2.2.2.1 s.2.2.2.2.2.1 s.2.2.2.2.2.2.1 s.2.2.2.2.2.2.2.1 s.2.2.2.2.2.2.2.2.1 s.2.2.2.2.2.2.2.2.2.1 s.2.2.2.2.2.2.2.2.2.2.1 s.2.2.2.2.2.2.2.2.2.2.2.1 s.2.2.2.2.2.2.2.2.2.2.2.2.1 s.2.2.2.2.2.2.2.2.2.2.2.2.2 hI (fun b1 b2 b3 b4 b5 b6 b7 b8 b9 b10 b11 b12 b13 b14 h9 hm => hk (b1, b2, b3, b4, b5, b6, b7, b8, b9, b10, b11, b12, b13, b14) h9 hm)) (a1, a2, a3, a4, a5, a6, a7, a8, a9, a10, a11, a12, a13, a14) h
theorem lp15 {A1 A2 A3 A4 A5 A6 A7 A8 A9 A10 A11 A12 A13 A14 A15 : Type} (W : Nat → A1 → A2 → A3 → A4 → A5 → A6 → A7 → A8 → A9 → A10 → A11 → A12 → A13 → A14 → A15 → Prop) (I : A1 → A2 → A3 → A4 → A5 → A6 → A7 → A8 → A9 → A10 → A11 → A12 → A13 → A14 → A15 → Prop) (μ : A1 → A2 → A3 → A4 → A5 → A6 → A7 → A8 → A9 → A10 → A11 → A12 → A13 → A14 → A15 → Nat) (hs : ∀ (n : Nat) (a1 : A1) (a2 : A2) (a3 : A3) (a4 : A4) (a5 : A5) (a6 : A6) (a7 : A7) (a8 : A8) (a9 : A9) (a10 : A10) (a11 : A11) (a12 : A12) (a13 : A13) (a14 : A14) (a15 : A15), I a1 a2 a3 a4 a5 a6 a7 a8 a9 a10 a11 a12 a13 a14 a15 → (∀ (b1 : A1) (b2 : A2) (b3 : A3) (b4 : A4) (b5 : A5) (b6 : A6) (b7 : A7) (b8 : A8) (b9 : A9) (b10 : A10) (b11 : A11) (b12 : A12) (b13 : A13) (b14 : A14) (b15 : A15), I b1 b2 b3 b4 b5 b6 b7 b8 b9 b10 b11 b12 b13 b14 b15 → μ b1 b2 b3 b4 b5 b6 b7 b8 b9 b10 b11 b12 b13 b14 b15 < μ a1 a2 a3 a4 a5 a6 a7 a8 a9 a10 a11 a12 a13 a14 a15 → W n b1 b2 b3 b4 b5 b6 b7 b8 b9 b10 b11 b12 b13 b14 b15) → W (n + 1) a1 a2 a3 a4 a5 a6 a7 a8 a9 a10 a11 a12 a13 a14 a15) (a1 : A1) (a2 : A2) (a3 : A3) (a4 : A4) (a5 : A5) (a6 : A6) (a7 : A7) (a8 : A8) (a9 : A9) (a10 : A10) (a11 : A11) (a12 : A12) (a13 : A13) (a14 : A14) (a15 : A15) (h : I a1 a2 a3 a4 a5 a6 a7 a8 a9 a10 a11 a12 a13 a14 a15) : ∃ n, W n a1 a2 a3 a4 a5 a6 a7 a8 a9 a10 a11 a12 a13 a14 a15 :=
  loop_m (σ := A1 × A2 × A3 × A4 × A5 × A6 × A7 × A8 × A9 × A10 × A11 × A12 × A13 × A14 × A15) (fun n s => W n s.1 s.2.1 s.2.2.1 s.2.2.2.1 s.2.2.2.2.1 s.2.2.2.2.2.1 s.2.2.2.2.2.2.1 s.2.2.2.2.2.2.2.1 s.2.2.2.2.2.2.2.2.1 s.2.2.2.2.2.2.2.2.2.1 s.2.2.2.2.2.2.2.2.2.2.1 s.2.2.2.2.2.2.2.2.2.2.2.1 s.2.2.2.2.2.2.2.2.2.2.2.2.1 s.2.2.2.2.2.2.2.2.2.2.2.2.2.1 s.2.2.2.2.2.2.2.2.2.2.2.2.2.2) (fun s => I s.1 s.2.1 s.2.2.1 s.2.2.2.1 s.2.2.2.2.1 s.2.2.2.2.2.1 s.2.2.2.2.2.2.1 s.2.2.2.2.2.2.2.1 s.2.2.2.2.2.2.2.2.1 s.2.2.2.2.2.2.2.2.2.1 s.2.2.2.2.2.2.2.2.2.2.1 s.2.2.2.2.2.2.2.2.2.2.2.1 s.2.2.2.2.2.2.2.2.2.2.2.2.1 s.2.2.2.2.2.2.2.2.2.2.2.2.2.1 s.2.2.2.2.2.2.2.2.2.2.2.2.2.2) (fun s => μ s.1 s.2.1 s.2.2.1 s.2.2.2.1 s.2.2.2.2.1 s.2.2.2.2.2.1 s.2.2.2.2.2.2.1 s.2.2.2.2.2.2.2.1 s.2.2.2.2.2.2.2.2.1 s.2.2.2.2.2.2.2.2.2.1 s.2.2.2.2.2.2.2.2.2.2.1 s.2.2.2.2.2.2.2.2.2.2.2.1 s.2.2.2.2.2.2.2.2.2.2.2.2.1 s.2.2.2.2.2.2.2.2.2.2.2.2.2.1 s.2.2.2.2.2.2.2.2.2.2.2.2.2.2) (fun n s hI hk => hs n s.1 s.2.1 s.2.2.1 s.2.2.2.1 s.2.2.2.2.1 s.2.2.2.2.2.1 s.2.2.2.2.2.2.1 s.2.2.2.2.2.2.2.1 s.2.2.2.2.2.2.2.2.1 s.2.2.2.2.2.2.2.2.2.1 s.2.2.2.2.2.2.2.2.2.2.1 s.2.2.2.2.2.2.2.2.2.2.2.1 s.2.2.2.2.2.2.2.2.2.2.2.2.1 s.2.2.2.2.2.2.2.2.2.2.2.2.2.1 s.2.2.2.2.2.2.2.2.2.2.2.2.2.2 hI (fun b1 b2 b3 b4 b5 b6 b7 b8 b9 b10 b11 b12 b13 b14 b15 h9 hm => hk (b1, b2, b3, b4, b5, b6, b7, b8, b9, b10, b11, b12, b13, b14, b15) h9 hm)) (a1, a2, a3, a4, a5, a6, a7, a8, a9, a10, a11, a12, a13, a14, a15) h
theorem lp16 {A1 A2 A3 A4 A5 A6 A7 A8 A9 A10 A11 A12 A13 A14 A15 A16 : Type} (W : Nat → A1 → A2 → A3 → A4 → A5 → A6 → A7 → A8 → A9 → A10 → A11 → A12 → A13 → A14 → A15 → A16 → Prop) (I : A1 → A2 → A3 → A4 → A5 → A6 → A7 → A8 → A9 → A10 → A11 → A12 → A13 → A14 → A15 → A16 → Prop) (μ : A1 → A2 → A3 → A4 → A5 → A6 → A7 → A8 → A9 → A10 → A11 → A12 → A13 → A14 → A15 → A16 → Nat) (hs : ∀ (n : Nat) (a1 : A1) (a2 : A2) (a3 : A3) (a4 : A4) (a5 : A5) (a6 : A6) (a7 : A7) (a8 : A8) (a9 : A9) (a10 : A10) (a11 : A11) (a12 : A12) (a13 : A13) (a14 : A14) (a15 : A15) (a16 : A16), I a1 a2 a3 a4 a5 a6 a7 a8 a9 a10 a11 a12 a13 a14 a15 a16 → (∀ (b1 : A1) (b2 : A2) (b3 : A3) (b4 : A4) (b5 : A5) (b6 : A6) (b7 : A7) (b8 : A8) (b9 : A9) (b10 : A10) (b11 : A11) (b12 : A12) (b13 : A13) (b14 : A14) (b15 : A15) (b16 : A16), I b1 b2 b3 b4 b5 b6 b7 b8 b9 b10 b11 b12 b13 b14 b15 b16 → μ b1 b2 b3 b4 b5 b6 b7 b8 b9 b10 b11 b12 b13 b14 b15 b16 < μ a1 a2 a3 a4 a5 a6 a7 a8 a9 a10 a11 a12 a13 a14 a15 a16 → W n b1 b2 b3 b4 b5 b6 b7 b8 b9 b10 b11 b12 b13 b14 b15 b16) → W (n + 1) a1 a2 a3 a4 a5 a6 a7 a8 a9 a10 a11 a12 a13 a14 a15 a16) (a1 : A1) (a2 : A2) (a3 : A3) (a4 : A4) (a5 : A5) (a6 : A6) (a7 : A7) (a8 : A8) (a9 : A9) (a10 : A10) (a11 : A11) (a12 : A12) (a13 : A13) (a14 : A14) (a15 : A15) (a16 : A16) (h : I a1 a2 a3 a4 a5 a6 a7 a8 a9 a10 a11 a12 a13 a14 a15 a16) : ∃ n, W n a1 a2 a3 a4 a5 a6 a7 a8 a9 a10 a11 a12 a13 a14 a15 a16 :=
  loop_m (σ := A1 × A2 × A3 × A4 × A5 × A6 × A7 × A8 × A9 × A10 × A11 × A12 × A13 × A14 × A15 × A16) (fun n s => W n s.1 s.2.1 s.2.2.1 s.2.2.2.1 s.2.2.2.2.1 s.2.2.2.2.2.1 s.2.2.2.2.2.2.1 s.2.2.2.2.2.2.2.1 s.2.2.2.2.2.2.2.2.1 s.2.2.2.2.2.2.2.2.2.1 s.2.2.2.2.2.2.2.2.2.2.1 s.2.2.2.2.2.2.2.2.2.2.2.1 s.2.2.2.2.2.2.2.2.2.2.2.2.1 s.2.2.2.2.2.2.2.2.2.2.2.2.2.1 s.2.2.2.2.2.2.2.2.2.2.2.2.2.2.1 s.2.2.2.2.2.2.2.2.2.2.2.2.2.2.2) (fun s => I s.1 s.2.1 s.2.2.1 s.2.2.2.1 s.2.2.2.2.1 s.2.2.2.2.2.1 s.2.2.2.2.2.2.1 s.2.2.2.2.2.2.2.1 s.2.2.2.2.2.2.2.2.1 s.2.2.2.2.2.2.2.2.2.1 s.2.2.2.2.2.2.2.2.2.2.1 s.2.2.2.2.2.2.2.2.2.2.2.1 s.2.2.2.2.2.2.2.2.2.2.2.2.1 s.2.2.2.2.2.2.2.2.2.2.2.2.2.1 s.2.2.2.2.2.2.2.2.2.2.2.2.2.2.1 s.2.2.2.2.2.2.2.2.2.2.2.2.2.2.2) (fun s => μ s.1 s.2.1 s.2.2.1 s.2.2.2.1 s.2.2.2.2.1 s.2.2.2.2.2.1 s.2.2.2.2.2.2.1 s.2.2.2.2.2.2.2.1 s.2.2.2.2.2.2.2.2.1 s.2.2.2.2.2.2.2.2.2.1 s.2.2.2.2.2.2.2.2.2.2.1 s.2.2.2.2.2.2.2.2.2.2.2.1 s.2.2.2.2.2.2.2.2.2.2.2.2.1 s.2.2.2.2.2.2.2.2.2.2.2.2.2.1 s.2.2.2.2.2.2.2.2.2.2.2.2.2.2.1 s.2.2.2.2.2.2.2.2.2.2.2.2.2.2.2) (fun n s hI hk => hs n s.1 s.2.1 s.2.2.1 s.2.2.2.1 s.2.2.2.2.1 s.2.2.2.2.2.1 s.2.2.2.2.2.2.1 s.2.2.2.2.2.2.2.1 s.2.2.2.2.2.2.2.2.1 s.2.2.2.2.2.2.2.2.2.1 s.2.2.2.2.2.2.2.2.2.2.1 s.2.2.2.2.2.2.2.2.2.2.2.1 s.2.2.2.2.2.2.2.2.2.2.2.2.1 s.2.2.2.2.2.2.2.2.2.2.2.2.2.1 s.2.2.2.2.2.2.2.2.2.2.2.2.2.2.1 s.2.2.2.2.2.2.2.2.2.2.2.2.2.2.2 hI (fun b1 b2 b3 b4 b5 b6 b7 b8 b9 b10 b11 b12 b13 b14 b15 b16 h9 hm => hk (b1, b2, b3, b4, b5, b6, b7, b8, b9, b10, b11, b12, b13, b14, b15, b16) h9 hm)) (a1, a2, a3, a4, a5, a6, a7, a8, a9, a10, a11, a12, a13, a14, a15, a16) h
theorem pk_least (P : Nat → Prop) (h : ∃ k, P k) : ∃ k, P k ∧ ∀ j, j < k → ¬ P j := by
  obtain ⟨k, hk⟩ := h
  induction k using Nat.strongRecOn with
  | ind k ih =>
    by_cases e : ∃ j, j < k ∧ P j
    · obtain ⟨j, hj, pj⟩ := e
      exact ih j hj pj
    · exact ⟨k, hk, fun j hj pj => e ⟨j, hj, pj⟩⟩
theorem rp1 {ρ A1 : Type} (W : Nat → (ρ → Prop) → A1 → Prop) (ok : A1 → Prop) (μ : A1 → Nat) (val : A1 → ρ)
    (hs : ∀ (d : Nat) (post : ρ → Prop) (a1 : A1), ok a1 → post (val a1) → (∀ (post' : ρ → Prop) (b1 : A1), ok b1 → μ b1 < μ a1 → post' (val b1) → W d post' b1) → W (d + 1) post a1) :
    ∀ (d : Nat) (post : ρ → Prop) (a1 : A1), ok a1 → μ a1 < d → post (val a1) → W d post a1 := by
  intro d
  induction d with
  | zero => intro post a1 _ h; omega
  | succ d ih =>
    intro post a1 ho hm hp
    exact hs d post a1 ho hp (fun post' b1 ho' hm' hp' => ih post' b1 ho' (by omega) hp')
theorem rp2 {ρ A1 A2 : Type} (W : Nat → (ρ → Prop) → A1 → A2 → Prop) (ok : A1 → A2 → Prop) (μ : A1 → A2 → Nat) (val : A1 → A2 → ρ)
    (hs : ∀ (d : Nat) (post : ρ → Prop) (a1 : A1) (a2 : A2), ok a1 a2 → post (val a1 a2) → (∀ (post' : ρ → Prop) (b1 : A1) (b2 : A2), ok b1 b2 → μ b1 b2 < μ a1 a2 → post' (val b1 b2) → W d post' b1 b2) → W (d + 1) post a1 a2) :
    ∀ (d : Nat) (post : ρ → Prop) (a1 : A1) (a2 : A2), ok a1 a2 → μ a1 a2 < d → post (val a1 a2) → W d post a1 a2 := by
  intro d
  induction d with
  | zero => intro post a1 a2 _ h; omega
  | succ d ih =>
    intro post a1 a2 ho hm hp
    exact hs d post a1 a2 ho hp (fun post' b1 b2 ho' hm' hp' => ih post' b1 b2 ho' (by omega) hp')
theorem rp3 {ρ A1 A2 A3 : Type} (W : Nat → (ρ → Prop) → A1 → A2 → A3 → Prop) (ok : A1 → A2 → A3 → Prop) (μ : A1 → A2 → A3 → Nat) (val : A1 → A2 → A3 → ρ)
    (hs : ∀ (d : Nat) (post : ρ → Prop) (a1 : A1) (a2 : A2) (a3 : A3), ok a1 a2 a3 → post (val a1 a2 a3) → (∀ (post' : ρ → Prop) (b1 : A1) (b2 : A2) (b3 : A3), ok b1 b2 b3 → μ b1 b2 b3 < μ a1 a2 a3 → post' (val b1 b2 b3) → W d post' b1 b2 b3) → W (d + 1) post a1 a2 a3) :
    ∀ (d : Nat) (post : ρ → Prop) (a1 : A1) (a2 : A2) (a3 : A3), ok a1 a2 a3 → μ a1 a2 a3 < d → post (val a1 a2 a3) → W d post a1 a2 a3 := by
  intro d
  induction d with
  | zero => intro post a1 a2 a3 _ h; omega
  | succ d ih =>
    intro post a1 a2 a3 ho hm hp
    exact hs d post a1 a2 a3 ho hp (fun post' b1 b2 b3 ho' hm' hp' => ih post' b1 b2 b3 ho' (by omega) hp')
theorem rp4 {ρ A1 A2 A3 A4 : Type} (W : Nat → (ρ → Prop) → A1 → A2 → A3 → A4 → Prop) (ok : A1 → A2 → A3 → A4 → Prop) (μ : A1 → A2 → A3 → A4 → Nat) (val : A1 → A2 → A3 → A4 → ρ)
    (hs : ∀ (d : Nat) (post : ρ → Prop) (a1 : A1) (a2 : A2) (a3 : A3) (a4 : A4), ok a1 a2 a3 a4 → post (val a1 a2 a3 a4) → (∀ (post' : ρ → Prop) (b1 : A1) (b2 : A2) (b3 : A3) (b4 : A4), ok b1 b2 b3 b4 → μ b1 b2 b3 b4 < μ a1 a2 a3 a4 → post' (val b1 b2 b3 b4) → W d post' b1 b2 b3 b4) → W (d + 1) post a1 a2 a3 a4) :
    ∀ (d : Nat) (post : ρ → Prop) (a1 : A1) (a2 : A2) (a3 : A3) (a4 : A4), ok a1 a2 a3 a4 → μ a1 a2 a3 a4 < d → post (val a1 a2 a3 a4) → W d post a1 a2 a3 a4 := by
  intro d
  induction d with
  | zero => intro post a1 a2 a3 a4 _ h; omega
  | succ d ih =>
    intro post a1 a2 a3 a4 ho hm hp
    exact hs d post a1 a2 a3 a4 ho hp (fun post' b1 b2 b3 b4 ho' hm' hp' => ih post' b1 b2 b3 b4 ho' (by omega) hp')
theorem rp5 {ρ A1 A2 A3 A4 A5 : Type} (W : Nat → (ρ → Prop) → A1 → A2 → A3 → A4 → A5 → Prop) (ok : A1 → A2 → A3 → A4 → A5 → Prop) (μ : A1 → A2 → A3 → A4 → A5 → Nat) (val : A1 → A2 → A3 → A4 → A5 → ρ)
    (hs : ∀ (d : Nat) (post : ρ → Prop) (a1 : A1) (a2 : A2) (a3 : A3) (a4 : A4) (a5 : A5), ok a1 a2 a3 a4 a5 → post (val a1 a2 a3 a4 a5) → (∀ (post' : ρ → Prop) (b1 : A1) (b2 : A2) (b3 : A3) (b4 : A4) (b5 : A5), ok b1 b2 b3 b4 b5 → μ b1 b2 b3 b4 b5 < μ a1 a2 a3 a4 a5 → post' (val b1 b2 b3 b4 b5) → W d post' b1 b2 b3 b4 b5) → W (d + 1) post a1 a2 a3 a4 a5) :
    ∀ (d : Nat) (post : ρ → Prop) (a1 : A1) (a2 : A2) (a3 : A3) (a4 : A4) (a5 : A5), ok a1 a2 a3 a4 a5 → μ a1 a2 a3 a4 a5 < d → post (val a1 a2 a3 a4 a5) → W d post a1 a2 a3 a4 a5 := by
  intro d
  induction d with
  | zero => intro post a1 a2 a3 a4 a5 _ h; omega
  | succ d ih =>
    intro post a1 a2 a3 a4 a5 ho hm hp
    exact hs d post a1 a2 a3 a4 a5 ho hp (fun post' b1 b2 b3 b4 b5 ho' hm' hp' => ih post' b1 b2 b3 b4 b5 ho' (by omega) hp')
theorem rp6 {ρ A1 A2 A3 A4 A5 A6 : Type} (W : Nat → (ρ → Prop) → A1 → A2 → A3 → A4 → A5 → A6 → Prop) (ok : A1 → A2 → A3 → A4 → A5 → A6 → Prop) (μ : A1 → A2 → A3 → A4 → A5 → A6 → Nat) (val : A1 → A2 → A3 → A4 → A5 → A6 → ρ)
    (hs : ∀ (d : Nat) (post : ρ → Prop) (a1 : A1) (a2 : A2) (a3 : A3) (a4 : A4) (a5 : A5) (a6 : A6), ok a1 a2 a3 a4 a5 a6 → post (val a1 a2 a3 a4 a5 a6) → (∀ (post' : ρ → Prop) (b1 : A1) (b2 : A2) (b3 : A3) (b4 : A4) (b5 : A5) (b6 : A6), ok b1 b2 b3 b4 b5 b6 → μ b1 b2 b3 b4 b5 b6 < μ a1 a2 a3 a4 a5 a6 → post' (val b1 b2 b3 b4 b5 b6) → W d post' b1 b2 b3 b4 b5 b6) → W (d + 1) post a1 a2 a3 a4 a5 a6) :
    ∀ (d : Nat) (post : ρ → Prop) (a1 : A1) (a2 : A2) (a3 : A3) (a4 : A4) (a5 : A5) (a6 : A6), ok a1 a2 a3 a4 a5 a6 → μ a1 a2 a3 a4 a5 a6 < d → post (val a1 a2 a3 a4 a5 a6) → W d post a1 a2 a3 a4 a5 a6 := by
  intro d
  induction d with
  | zero => intro post a1 a2 a3 a4 a5 a6 _ h; omega
  | succ d ih =>
    intro post a1 a2 a3 a4 a5 a6 ho hm hp
    exact hs d post a1 a2 a3 a4 a5 a6 ho hp (fun post' b1 b2 b3 b4 b5 b6 ho' hm' hp' => ih post' b1 b2 b3 b4 b5 b6 ho' (by omega) hp')
theorem rec_p {σ ρ : Type} (W : Nat → (ρ → Prop) → σ → Prop) (ok : σ → Prop) (μ : σ → Nat) (val : σ → ρ)
    (hs : ∀ d s post, ok s → post (val s) → (∀ s' post', ok s' → μ s' < μ s → post' (val s') → W d post' s') → W (d + 1) post s) :
    ∀ d s post, ok s → μ s < d → post (val s) → W d post s := by
  intro d
  induction d with
  | zero => intro s post _ h; omega
  | succ d ih =>
    intro s post ho hm hp
    exact hs d s post ho hp (fun s' post' ho' hm' hp' => ih s' post' ho' (by omega) hp')
theorem rec_q {σ ρ : Type} (W : Nat → (ρ → Prop) → σ → Prop) (ok : σ → Prop) (μ : σ → Nat) (Q : σ → ρ → Prop)
    (hs : ∀ d s post, ok s → (∀ r, Q s r → post r) → (∀ s' post', ok s' → μ s' < μ s → (∀ r, Q s' r → post' r) → W d post' s') → W (d + 1) post s) :
    ∀ d s post, ok s → μ s < d → (∀ r, Q s r → post r) → W d post s := by
  intro d
  induction d with
  | zero => intro s post _ h; omega
  | succ d ih =>
    intro s post ho hm hp
    exact hs d s post ho hp (fun s' post' ho' hm' hp' => ih s' post' ho' (by omega) hp')
def bx_sum (f : Nat → Int32) : Nat → Int32
  | 0 => 0
  | n + 1 => bx_sum f n + f n
theorem ek_u {A : Prop} {B : Nat → Prop} {k N : Nat} (hk : k < N) (h : B k) : (some k = none → A) ∧ (∀ y : Nat, some k = some y → (y < N ∧ B y)) :=
  ⟨fun z => absurd z (Option.some_ne_none k), fun _ e => (by cases e; exact ⟨hk, h⟩)⟩
theorem ek_nu {A : Prop} {B : Nat → Prop} (h : A) : ((none : Option Nat) = none → A) ∧ (∀ y : Nat, (none : Option Nat) = some y → B y) :=
  ⟨fun _ => h, fun _ e => (by cases e)⟩
theorem ek_if {c d A B : Prop} (e : c ↔ d) (f : d → A) (g : ¬ d → B) : (c → A) ∧ (¬ c → B) :=
  ⟨fun z => f (e.mp z), fun z => g (fun y => z (e.mpr y))⟩
theorem ek_v {α : Sort _} {P : α → Prop} {a b : α} (e : a = b) (h : P b) : P a := e ▸ h
theorem co_some {x : Option Nat} {A : Prop} {B : Nat → Prop} (i : Nat) (h : B i) (hx : x = some i := by rfl) : (x = none → A) ∧ (∀ y : Nat, x = some y → B y) := by
  subst hx
  exact ⟨fun e => (nomatch e), fun y e => Option.some.inj e ▸ h⟩
theorem co_none {x : Option Nat} {A : Prop} {B : Nat → Prop} (h : A) (hx : x = none := by rfl) : (x = none → A) ∧ (∀ y : Nat, x = some y → B y) := by
  subst hx
  exact ⟨fun _ => h, fun y e => (nomatch e)⟩
theorem co_any {x : Option Nat} {A : Prop} {B : Nat → Prop} (hn : x = none → A) (hs : ∀ i : Nat, x = some i → B i) : (x = none → A) ∧ (∀ y : Nat, x = some y → B y) := ⟨hn, hs⟩
theorem co_2 {P : Nat → Prop} (h0 : P 0) (h1 : P 1) {i : Nat} (hi : i < 2) : P i :=
  match i, hi with
  | 0, _ => h0
  | 1, _ => h1
theorem co_3 {P : Nat → Prop} (h0 : P 0) (h1 : P 1) (h2 : P 2) {i : Nat} (hi : i < 3) : P i :=
  match i, hi with
  | 0, _ => h0
  | 1, _ => h1
  | 2, _ => h2
theorem co_4 {P : Nat → Prop} (h0 : P 0) (h1 : P 1) (h2 : P 2) (h3 : P 3) {i : Nat} (hi : i < 4) : P i :=
  match i, hi with
  | 0, _ => h0
  | 1, _ => h1
  | 2, _ => h2
  | 3, _ => h3
theorem co_dec {N : Nat} {P : Nat → Prop} [DecidablePred P] (h : (List.range N).all (fun i => decide (P i)) = true) {i : Nat} (hi : i < N) : P i := by
  have := List.all_eq_true.mp h i (List.mem_range.mpr hi)
  exact of_decide_eq_true this
theorem co_tab {α : Type} {l : List α} {d : α} {P : α → Prop} (h : ∀ a, a ∈ l → P a) {i : Nat} (hi : i < l.length) : P (l.getD i d) := by
  rw [List.getD_eq_getElem?_getD, List.getElem?_eq_getElem hi]
  exact h _ (List.getElem_mem hi)
theorem pk_mu {x : Int32} {L : Nat} (h0 : ¬ x < 0) (h : ¬ nI L ≤ x) (hL : L < 2 ^ 31) : ∃ j : Nat, j < L ∧ x = nI j ∧ x + 1 = nI (j + 1) ∧ x.toNatClampNeg = j ∧ L - (x + 1).toNatClampNeg < L - x.toNatClampNeg := by
  obtain ⟨j, hj, rfl⟩ := nI_of h0
  have hl : j < L := Nat.not_le.mp fun q => h (nI_le q hj)
  refine ⟨j, hl, rfl, nI_1 j, nI_clamp hj, ?_⟩
  rw [nI_1, nI_clamp (by omega), nI_clamp hj]
  omega
theorem op_s {α : Type} {r : Option α} {A : Prop} {B : α → Prop} {y : α} (h : r = some y) (b : B y) : (r = none → A) ∧ ∀ z, r = some z → B z :=
  ⟨fun e => (by rw [h] at e; cases e), fun z e => (by rw [h] at e; cases e; exact b)⟩
def l_holds {α : Type} (a : Nat → Option Nat) (LP : List Nat) (p : Nat → α) (c : Nat) (b : Nat → α) : Prop :=
  ∀ j, j < c → ∃ y, a j = some y ∧ y ∈ LP ∧ p y = b j
theorem l_holds_0 {α : Type} {a : Nat → Option Nat} {LP : List Nat} {p b : Nat → α} : l_holds a LP p 0 b := fun j h => absurd h (Nat.not_lt_zero j)
theorem l_in_new (LP : List Nat) (q : Nat) : q ∈ LP ++ [q] := List.mem_append.mpr (Or.inr (List.mem_singleton.mpr rfl))
def l_sum (b : Nat → Int32) : Nat → Int32
  | 0 => 0
  | k + 1 => l_sum b k + b k
theorem sb_shr0 (x : Int32) : x >>> ((0 : Int32) &&& 31) = x := by
  rw [show ((0 : Int32) &&& 31) = 0 by decide]
  simp
theorem sb_shl0 (x : Int32) : x <<< ((0 : Int32) &&& 31) = x := by
  rw [show ((0 : Int32) &&& 31) = 0 by decide]
  simp
theorem sb_cl0 : (0 : Int32).toNatClampNeg = 0 := by decide
theorem sb_m1 {p : Nat} (h : 0 < p) : nI p + (-1) = nI (p - 1) := by
  obtain ⟨q, rfl⟩ : ∃ q, p = q + 1 := ⟨p - 1, by omega⟩
  exact pk_m1 q
def sb_b (c : Nat) : Int32 := (nI c).toInt8.toInt32
theorem sb_byte : ∀ c, c < 256 → sb_b c &&& 255 = nI c ∧ ((nI c).toUInt32 % 65536).toInt32 = nI c ∧ nI c ≤ 255 := by decide +kernel
def sb_Fit (a : Nat → Int32) : Prop := ∀ j, fits .byte (.int (a j)) = true
def sb_Lat (t : Nat → Nat) (n : Nat) (a : Nat → Int32) : Prop := ∀ j, j < n → t j < 256 ∧ a j = sb_b (t j)
theorem sb_fitB (c : Nat) : fits .byte (.int (sb_b c)) = true := pk_fb _
theorem sb_fit0 : sb_Fit (fun _ => 0) := fun _ => by
  show fits .byte (.int 0) = true
  decide
theorem sb_fitU {a : Nat → Int32} {k : Nat} {x : Int32} (h : sb_Fit a) (hx : fits .byte (.int x) = true) : sb_Fit (upd a k x) := by
  intro j
  by_cases e : j = k
  · subst e
    rw [pk_us]
    exact hx
  · rw [pk_un e]
    exact h j
def sb_cat (t : Nat → Nat) (n : Nat) (s : Nat → Nat) : Nat → Nat := fun j => if j < n then t j else s (j - n)
theorem sb_cat_lo {t s : Nat → Nat} {n j : Nat} (h : j < n) : sb_cat t n s j = t j := if_pos h
theorem sb_cat_hi {t s : Nat → Nat} {n j : Nat} : sb_cat t n s (n + j) = s j := by
  show (if n + j < n then t (n + j) else s (n + j - n)) = s j
  rw [if_neg (by omega), Nat.add_sub_cancel_left]
theorem sb_latPut {t s : Nat → Nat} {n w : Nat} {a a' : Nat → Int32} (h : sb_Lat t n a) (hk : ∀ j, j < n → a' j = a j) (hs : ∀ i, i < w → s i < 256 ∧ a' (n + i) = sb_b (s i)) : sb_Lat (sb_cat t n s) (n + w) a' := by
  intro j hj
  by_cases e : j < n
  · rw [sb_cat_lo e, hk j e]
    exact h j e
  · obtain ⟨i, rfl⟩ : ∃ i, j = n + i := ⟨j - n, by omega⟩
    rw [sb_cat_hi]
    exact hs i (by omega)
theorem sb_latKeep {t : Nat → Nat} {n : Nat} {a a' : Nat → Int32} (h : sb_Lat t n a) (hk : ∀ j, j < n → a' j = a j) : sb_Lat t n a' := fun j hj => by
  rw [hk j hj]
  exact h j hj
def sb_cap (q m : Nat) : Nat := if q ≤ m then m else if 2 * m + 2 < q then q else 2 * m + 2
def sb_Room (q m mc ms : Nat) : Prop := q ≤ m ∨ (1 ≤ mc ∧ sb_cap q m ≤ ms ∧ sb_cap q m ≤ 65536)
theorem sb_cap_ge (q m : Nat) : q ≤ sb_cap q m := by
  unfold sb_cap
  split
  · omega
  · split <;> omega
theorem sb_cap_gem (q m : Nat) : m ≤ sb_cap q m := by
  unfold sb_cap
  split
  · omega
  · split <;> omega
theorem sb_cap_le {q m mc ms : Nat} (hm : m ≤ 65536) (hr : sb_Room q m mc ms) : sb_cap q m ≤ 65536 := by
  rcases hr with h | h
  · rw [sb_cap, if_pos h]
    exact hm
  · exact h.2.2
theorem sb_at {P : Int32 → Prop} {x y : Int32} (e : x = y) (h : P y) : P x := e ▸ h
def sb_dg (w : Nat) : Nat := if w < 10 then 1 else if w < 100 then 2 else if w < 1000 then 3 else if w < 10000 then 4 else if w < 100000 then 5 else if w < 1000000 then 6 else if w < 10000000 then 7 else if w < 100000000 then 8 else if w < 1000000000 then 9 else 10
def sb_dec (v : Nat) : Nat → Nat := fun i => 48 + v / 10 ^ (sb_dg v - 1 - i) % 10
theorem sb_dg_in (w : Nat) : 1 ≤ sb_dg w ∧ sb_dg w ≤ 10 := by
  unfold sb_dg
  constructor <;> (repeat' split) <;> omega
theorem sb_dg100 {w : Nat} (h : 100 ≤ w) (hw : w < 2 ^ 31) : sb_dg w = sb_dg (w / 100) + 2 := by
  rw [sb_dg, sb_dg, if_neg (show ¬ w < 10 by omega), if_neg (show ¬ w < 100 by omega)]
  by_cases h3 : w < 1000
  · rw [if_pos h3, if_pos (show w / 100 < 10 by omega)]
  rw [if_neg h3, if_neg (show ¬ w / 100 < 10 by omega)]
  by_cases h4 : w < 10000
  · rw [if_pos h4, if_pos (show w / 100 < 100 by omega)]
  rw [if_neg h4, if_neg (show ¬ w / 100 < 100 by omega)]
  by_cases h5 : w < 100000
  · rw [if_pos h5, if_pos (show w / 100 < 1000 by omega)]
  rw [if_neg h5, if_neg (show ¬ w / 100 < 1000 by omega)]
  by_cases h6 : w < 1000000
  · rw [if_pos h6, if_pos (show w / 100 < 10000 by omega)]
  rw [if_neg h6, if_neg (show ¬ w / 100 < 10000 by omega)]
  by_cases h7 : w < 10000000
  · rw [if_pos h7, if_pos (show w / 100 < 100000 by omega)]
  rw [if_neg h7, if_neg (show ¬ w / 100 < 100000 by omega)]
  by_cases h8 : w < 100000000
  · rw [if_pos h8, if_pos (show w / 100 < 1000000 by omega)]
  rw [if_neg h8, if_neg (show ¬ w / 100 < 1000000 by omega)]
  by_cases h9 : w < 1000000000
  · rw [if_pos h9, if_pos (show w / 100 < 10000000 by omega)]
  rw [if_neg h9, if_neg (show ¬ w / 100 < 10000000 by omega)]
  rw [if_pos (show w / 100 < 100000000 by omega)]
theorem sb_negT {w : Nat} (h : w < 2 ^ 31) : (-nI w).toInt = -(w : Int) := by
  rw [Int32.toInt_neg, nI_toInt h]
  exact Int.bmod_eq_of_le (by omega) (by omega)
theorem sb_nle {a b : Nat} (ha : a < 2 ^ 31) (hb : b < 2 ^ 31) : -nI a ≤ -nI b ↔ b ≤ a := by
  rw [Int32.le_iff_toInt_le, sb_negT ha, sb_negT hb]
  omega
theorem sb_nlt {a b : Nat} (ha : a < 2 ^ 31) (hb : b < 2 ^ 31) : -nI a < -nI b ↔ b < a := by
  rw [Int32.lt_iff_toInt_lt, sb_negT ha, sb_negT hb]
  omega
theorem sb_cmp {A B : Prop} {x : Int32} (v c : Nat) (f : c ≤ v → A) (g : v < c → B) (hv : v < 2 ^ 31) (hx : x = -nI c := by rfl) (hc : c < 2 ^ 31 := by omega) : (-nI v ≤ x → A) ∧ (¬ -nI v ≤ x → B) := by
  subst hx
  rw [sb_nle hv hc]
  exact ⟨f, fun z => g (by omega)⟩
theorem sb_ndiv {w : Nat} (hw : w < 2 ^ 31) : (-nI w) / 100 = -nI (w / 100) := by
  apply Int32.toInt_inj.mp
  have h100 : (100 : Int32).toInt = 100 := by decide
  rw [Int32.toInt_div, sb_negT hw, h100, sb_negT (by omega), Int.neg_tdiv, Int.tdiv_eq_ediv_of_nonneg (by omega), Int.bmod_eq_of_le (by omega) (by omega)]
  omega
theorem sb_nrem {w : Nat} (hw : w < 2 ^ 31) : (-nI (w / 100)) * 100 - (-nI w) = nI (w % 100) := by
  have h := pk_rem (a := w) (d := 100) hw (by decide) (by decide)
  rw [pk_div hw (by decide) (by decide)] at h
  rw [← h]
  show (-nI (w / 100)) * nI 100 - (-nI w) = nI w - nI (w / 100) * nI 100
  rw [Int32.neg_mul, Int32.sub_neg, Int32.add_comm, ← Int32.sub_eq_add_neg]
/-! rows on bits, shifts and unsigned numbers, to paste: each family out of a closed proof of our own, whole with what it rests on; each by itself clean at Lean in its own claim (generation 39, form 5). Take a family whole -/
/-! ===== Int32 by its bits: bt x i ===== -/
def bt (x : Int32) (i : Nat) : Bool := x.toBitVec.getLsbD i
theorem b_ext {x y : Int32} (h : ∀ i, i < 32 → bt x i = bt y i) : x = y := Int32.toBitVec_inj.mp (BitVec.eq_of_getLsbD_eq (fun i hi => h i hi))
theorem b_or (x y : Int32) (i : Nat) : bt (x ||| y) i = (bt x i || bt y i) := by unfold bt; rw [Int32.toBitVec_or, BitVec.getLsbD_or]
theorem b_and (x y : Int32) (i : Nat) : bt (x &&& y) i = (bt x i && bt y i) := by unfold bt; rw [Int32.toBitVec_and, BitVec.getLsbD_and]
theorem b_xor (x y : Int32) (i : Nat) : bt (x ^^^ y) i = (bt x i ^^ bt y i) := by unfold bt; rw [Int32.toBitVec_xor, BitVec.getLsbD_xor]
theorem b_big {x : Int32} {i : Nat} (h : 32 ≤ i) : bt x i = false := BitVec.getLsbD_of_ge _ _ h
theorem b_255 (i : Nat) : bt 255 i = decide (i < 8) := by
  rcases Nat.lt_or_ge i 32 with h | h
  · exact (by decide +kernel : ∀ i, i < 32 → bt 255 i = decide (i < 8)) i h
  · rw [b_big h, decide_eq_false (by omega)]
theorem b_65535 (i : Nat) : bt 65535 i = decide (i < 16) := by
  rcases Nat.lt_or_ge i 32 with h | h
  · exact (by decide +kernel : ∀ i, i < 32 → bt 65535 i = decide (i < 16)) i h
  · rw [b_big h, decide_eq_false (by omega)]
theorem b_m1 : ∀ i, i < 32 → bt (-1) i = true := by decide +kernel
theorem b_0 (i : Nat) : bt 0 i = false := BitVec.getLsbD_zero
theorem s_l : ∀ n, n < 32 → ((nI n &&& 31).toBitVec.smod 32).toNat = n := by decide +kernel
theorem s_u : ∀ n, n < 32 → (((nI n).toUInt32 &&& Int32.toUInt32 31).toBitVec % 32).toNat = n := by decide +kernel
theorem b_shl (n : Nat) (hn : n < 32) (x : Int32) {i : Nat} (hi : i < 32) : bt (x <<< (nI n &&& 31)) i = (decide (n ≤ i) && bt x (i - n)) := by
  unfold bt
  rw [Int32.toBitVec_shiftLeft]
  show (x.toBitVec <<< ((nI n &&& 31).toBitVec.smod 32).toNat).getLsbD i = _
  rw [s_l n hn, BitVec.getLsbD_shiftLeft]
  rcases Nat.lt_or_ge i n with h | h
  · simp [h, Nat.not_le.mpr h]
  · simp [hi, h, Nat.not_lt.mpr h]
theorem b_ushr (n : Nat) (hn : n < 32) (x : Int32) (i : Nat) : bt ((x.toUInt32 >>> ((nI n).toUInt32 &&& Int32.toUInt32 31)).toInt32) i = bt x (n + i) := by
  show (x.toUInt32 >>> ((nI n).toUInt32 &&& Int32.toUInt32 31)).toBitVec.getLsbD i = x.toUInt32.toBitVec.getLsbD (n + i)
  rw [UInt32.toBitVec_shiftRight]
  show (x.toUInt32.toBitVec >>> (((nI n).toUInt32 &&& Int32.toUInt32 31).toBitVec % 32).toNat).getLsbD i = _
  rw [s_u n hn, BitVec.getLsbD_ushiftRight]
theorem b_sshr (n : Nat) (hn : n < 32) (x : Int32) {i : Nat} (hi : i < 32) : bt (x >>> (nI n &&& 31)) i = if n + i < 32 then bt x (n + i) else bt x 31 := by
  unfold bt
  rw [Int32.toBitVec_shiftRight]
  show (x.toBitVec.sshiftRight ((nI n &&& 31).toBitVec.smod 32).toNat).getLsbD i = _
  rw [s_l n hn, BitVec.getLsbD_sshiftRight, BitVec.msb_eq_getLsbD_last]
  simp [hi]
theorem b_shl8 (x : Int32) {i : Nat} (hi : i < 32) : bt (x <<< ((8 : Int32) &&& 31)) i = (decide (8 ≤ i) && bt x (i - 8)) := b_shl 8 (by omega) x hi
theorem b_shl16 (x : Int32) {i : Nat} (hi : i < 32) : bt (x <<< ((16 : Int32) &&& 31)) i = (decide (16 ≤ i) && bt x (i - 16)) := b_shl 16 (by omega) x hi
theorem b_shl24 (x : Int32) {i : Nat} (hi : i < 32) : bt (x <<< ((24 : Int32) &&& 31)) i = (decide (24 ≤ i) && bt x (i - 24)) := b_shl 24 (by omega) x hi
theorem b_sshr8 (x : Int32) {i : Nat} (hi : i < 32) : bt (x >>> ((8 : Int32) &&& 31)) i = if 8 + i < 32 then bt x (8 + i) else bt x 31 := b_sshr 8 (by omega) x hi
/-! ===== nI under and, xor, >>>, one bit, 65535 ===== -/
theorem nx_and (a b : Nat) : nI a &&& nI b = nI (a &&& b) := by
  apply Int32.toBitVec_inj.1
  show BitVec.ofNat 32 a &&& BitVec.ofNat 32 b = BitVec.ofNat 32 (a &&& b)
  apply BitVec.eq_of_getLsbD_eq
  intro i hi
  simp [hi]
theorem nx_xor (a b : Nat) : nI a ^^^ nI b = nI (a ^^^ b) := by
  apply Int32.toBitVec_inj.1
  show BitVec.ofNat 32 a ^^^ BitVec.ofNat 32 b = BitVec.ofNat 32 (a ^^^ b)
  apply BitVec.eq_of_getLsbD_eq
  intro i hi
  simp [hi]
theorem nx_cnt : ∀ j : Fin 32, (UInt32.ofNat j.val &&& Int32.toUInt32 31).toNat % 32 = j.val := by decide +kernel
theorem nx_ush {k j : Nat} (hk : k < 65536) (hj : j < 32) : ((nI k).toUInt32 >>> ((nI j).toUInt32 &&& Int32.toUInt32 31)).toInt32 = nI (k >>> j) := by
  have hs : k >>> j ≤ k := by
    rw [Nat.shiftRight_eq_div_pow]
    exact Nat.div_le_self _ _
  have e2 : UInt32.ofNat k >>> (UInt32.ofNat j &&& Int32.toUInt32 31) = UInt32.ofNat (k >>> j) := by
    apply UInt32.toNat_inj.1
    have h1 : (UInt32.ofNat k).toNat = k := Nat.mod_eq_of_lt (by omega)
    have h2 : (UInt32.ofNat (k >>> j)).toNat = k >>> j := Nat.mod_eq_of_lt (by omega)
    rw [UInt32.toNat_shiftRight, nx_cnt ⟨j, hj⟩, h1, h2]
  show (UInt32.ofNat k >>> (UInt32.ofNat j &&& Int32.toUInt32 31)).toInt32 = _
  rw [e2]
  rfl
theorem nx_bit {k j : Nat} (hk : k < 65536) (hj : j < 16) : (((nI k).toUInt32 >>> ((nI j).toUInt32 &&& Int32.toUInt32 31)).toInt32 &&& 1) = 0 ↔ k.testBit j = false := by
  rw [nx_ush hk (by omega)]
  show nI (k >>> j) &&& nI 1 = 0 ↔ _
  rw [nx_and, Nat.and_one_is_mod, ← nI_0, nI_eq (by omega) (by omega), Nat.testBit_eq_decide_div_mod_eq, Nat.shiftRight_eq_div_pow, decide_eq_false_iff_not]
  generalize k / 2 ^ j = z
  omega
theorem nx_mod (k : Nat) : nI k &&& 65535 = nI (k % 65536) := by
  show nI k &&& nI 65535 = _
  rw [nx_and, show (65535 : Nat) = 2 ^ 16 - 1 from rfl, Nat.and_two_pow_sub_one_eq_mod]
theorem nx_m16 {k : Nat} (h : k < 65536) : nI k &&& 65535 = nI k := by rw [nx_mod, Nat.mod_eq_of_lt h]
theorem nx_mask (x : Int32) : ∃ k, k < 65536 ∧ x &&& 65535 = nI k := by
  have e : x = nI x.toBitVec.toNat := by
    apply Int32.toBitVec_inj.1
    show x.toBitVec = BitVec.ofNat 32 x.toBitVec.toNat
    simp
  refine ⟨x.toBitVec.toNat % 65536, Nat.mod_lt _ (by omega), ?_⟩
  rw [← nx_mod, ← e]
/-! ===== Int32 as a set of bits: test, set ===== -/
def nf_M (m : Int32) : Nat := 4294967296 - m.toBitVec.toNat
theorem nf_sh : ∀ l, l < 32 → ((1 : Int32) <<< (nI l &&& 31)).toBitVec = BitVec.twoPow 32 l := by decide +kernel
theorem nf_sl : ∀ l, l < 32 → (((nI l).toUInt32 &&& Int32.toUInt32 31).toBitVec % 32).toNat = l := by decide +kernel
theorem nf_tp : ∀ l, l < 32 → BitVec.twoPow 32 l ≠ 0#32 := by decide +kernel
theorem nf_bit (m : Int32) (l : Nat) (hl : l < 32) : ((m.toUInt32 >>> ((nI l).toUInt32 &&& Int32.toUInt32 31)).toInt32 &&& 1) = 0 ↔ (m &&& ((1 : Int32) <<< (nI l &&& 31))) = 0 := by
  have e : ((m.toUInt32 >>> ((nI l).toUInt32 &&& Int32.toUInt32 31)).toInt32).toBitVec = m.toBitVec >>> l := by
    show m.toBitVec >>> (((nI l).toUInt32 &&& Int32.toUInt32 31).toBitVec % 32) = m.toBitVec >>> l
    rw [BitVec.ushiftRight_eq', nf_sl l hl]
  rw [← Int32.toBitVec_inj, ← Int32.toBitVec_inj, Int32.toBitVec_and, Int32.toBitVec_and, nf_sh l hl, e, BitVec.and_twoPow]
  show (m.toBitVec >>> l &&& 1#32) = 0#32 ↔ _ = 0#32
  rw [BitVec.and_one_eq_setWidth_ofBool_getLsbD, BitVec.getLsbD_ushiftRight, Nat.add_zero]
  cases hb : m.toBitVec.getLsbD l
  · exact ⟨fun _ => by simp, fun _ => by decide⟩
  · exact ⟨fun z => absurd z (by decide), fun z => absurd ((if_pos rfl).symm.trans z) (nf_tp l hl)⟩
theorem nf_gr (m k : Int32) (h : m &&& k = 0) (hk : k ≠ 0) : nf_M (m ||| k) < nf_M m := by
  have hm := m.toBitVec.isLt
  have hm' := (m ||| k).toBitVec.isLt
  have h1 : m.toBitVec.toNat ≤ (m ||| k).toBitVec.toNat := by
    rw [Int32.toBitVec_or, BitVec.toNat_or]
    exact Nat.left_le_or
  have h2 : m.toBitVec.toNat ≠ (m ||| k).toBitVec.toNat := by
    intro e
    have e2 : m = m ||| k := Int32.toBitVec_inj.mp (BitVec.eq_of_toNat_eq e)
    apply hk
    apply Int32.toBitVec_inj.mp
    show k.toBitVec = 0#32
    apply BitVec.eq_of_getLsbD_eq
    intro i hi
    have a : m.toBitVec.getLsbD i = (m.toBitVec.getLsbD i || k.toBitVec.getLsbD i) := by rw [← BitVec.getLsbD_or, ← Int32.toBitVec_or, ← e2]
    have b : (m.toBitVec.getLsbD i && k.toBitVec.getLsbD i) = false := by
      rw [← BitVec.getLsbD_and, ← Int32.toBitVec_and, h]
      exact BitVec.getLsbD_zero
    rw [BitVec.getLsbD_zero]
    revert a b
    cases m.toBitVec.getLsbD i <;> cases k.toBitVec.getLsbD i <;> simp
  unfold nf_M
  omega
/-! ===== a byte read unsigned ===== -/
theorem bp_b (x : Int32) : x.toInt8.toInt32 &&& 255 = x &&& 255 := by
  apply Int32.toBitVec_inj.mp
  rw [Int32.toBitVec_and, Int32.toBitVec_and, Int8.toBitVec_toInt32, Int32.toBitVec_toInt8]
  apply BitVec.eq_of_getLsbD_eq
  intro i hi
  rw [BitVec.getLsbD_and, BitVec.getLsbD_and]
  have hm : ∀ i < 32, 8 ≤ i → (255 : Int32).toBitVec.getLsbD i = false := by decide
  rcases Nat.lt_or_ge i 8 with z | z
  · rw [BitVec.getLsbD_signExtend, BitVec.getLsbD_signExtend, if_pos z, if_pos hi]
    simp only [z, hi, decide_true, Bool.true_and]
  · rw [hm i hi z]; simp
/-! ===== the char cast and 65535 ===== -/
theorem em_w (v : Int32) : ∃ w : Nat, w < 65536 ∧ (v.toUInt32 % 65536).toInt32 = nI w ∧ v &&& 65535 = nI w := by
  have hr := lw_u16_r v
  have h0 : (0 : Int32).toInt = 0 := by decide
  obtain ⟨w, h1, h2⟩ := nI_of (x := lw_u16 v) (by rw [Int32.lt_iff_toInt_lt]; omega)
  have h3 : (v.toUInt32 % 65536).toInt32 = nI w := h2
  rw [h2, nI_toInt h1] at hr
  exact ⟨w, by omega, h3, by rw [← lg_i2c_mask, ← lg_i2c_nf, h3]⟩
/-! ===== Int64 as a set of bits: test, set, clear ===== -/
theorem ts_nf {x : Bool} (h : ¬ x = false) : x = true := by cases x <;> first | rfl | exact absurd rfl h
theorem ts_nt {x : Bool} (h : ¬ x = true) : x = false := by cases x <;> first | rfl | exact absurd rfl h
theorem ts_bit {w : Int64} {s : UInt64} {j : Nat} (hj : j < 64) (hs : s.toNat = j) : ((w.toUInt64 >>> s).toInt64 &&& 1) = 0 ↔ w.toBitVec.getLsbD j = false := by
  have e : (w.toUInt64 >>> s).toInt64.toBitVec = w.toBitVec >>> j := by
    apply BitVec.eq_of_toNat_eq
    show (w.toUInt64 >>> s).toNat = _
    rw [UInt64.toNat_shiftRight, hs, Nat.mod_eq_of_lt hj, BitVec.toNat_ushiftRight]
    rfl
  rw [← Int64.toBitVec_inj, Int64.toBitVec_and, e]
  show w.toBitVec >>> j &&& 1#64 = 0#64 ↔ _
  constructor
  · intro h
    have t := congrArg (fun x => x.getLsbD 0) h
    simpa using t
  · intro h
    apply BitVec.eq_of_getLsbD_eq
    intro i hi
    cases i with
    | zero => simp [h]
    | succ i => simp
theorem ts_or {w m : Int64} {j : Nat} (hj : j < 64) (hm : m.toBitVec = BitVec.twoPow 64 j) : (w ||| m) = w ↔ w.toBitVec.getLsbD j = true := by
  rw [← Int64.toBitVec_inj, Int64.toBitVec_or, hm]
  constructor
  · intro h
    have t := congrArg (fun x => x.getLsbD j) h
    simp only [BitVec.getLsbD_or, BitVec.getLsbD_twoPow] at t
    simpa [hj] using t.symm
  · intro h
    apply BitVec.eq_of_getLsbD_eq
    intro i hi
    rw [BitVec.getLsbD_or, BitVec.getLsbD_twoPow]
    by_cases e : j = i
    · subst e; rw [h, Bool.true_or]
    · simp [e]
theorem ts_and {w m : Int64} {j : Nat} (hj : j < 64) (hm : m.toBitVec = BitVec.twoPow 64 j) : (w &&& (m ^^^ (-1))) = w ↔ w.toBitVec.getLsbD j = false := by
  have ha : (-1 : Int64).toBitVec = BitVec.allOnes 64 := by decide
  rw [← Int64.toBitVec_inj, Int64.toBitVec_and, Int64.toBitVec_xor, hm, ha]
  constructor
  · intro h
    have t := congrArg (fun x => x.getLsbD j) h
    simp only [BitVec.getLsbD_and, BitVec.getLsbD_xor, BitVec.getLsbD_twoPow, BitVec.getLsbD_allOnes] at t
    simpa [hj] using t.symm
  · intro h
    apply BitVec.eq_of_getLsbD_eq
    intro i hi
    rw [BitVec.getLsbD_and, BitVec.getLsbD_xor, BitVec.getLsbD_twoPow, BitVec.getLsbD_allOnes]
    by_cases e : j = i
    · subst e; rw [h, Bool.false_and]
    · simp [e, hi]
/-! ===== lN n to 2^64: shifts, and, or, masks, one bit ===== -/
theorem wb_tb (n : Nat) : (lN n).toBitVec = BitVec.ofNat 64 n := rfl
theorem wb_inj {a b : Int64} (h : a.toBitVec = b.toBitVec) : a = b := Int64.toBitVec_inj.mp h
theorem wb_tn {n : Nat} (h : n < 2 ^ 64) : (lN n).toBitVec.toNat = n := by rw [wb_tb, BitVec.toNat_ofNat, Nat.mod_eq_of_lt h]
theorem wb_of (x : Int64) : ∃ n, n < 2 ^ 64 ∧ x = lN n := ⟨x.toBitVec.toNat, x.toBitVec.isLt, wb_inj (by rw [wb_tb]; simp)⟩
theorem wb_of32 (x : Int32) : ∃ n, n < 2 ^ 32 ∧ x = nI n := ⟨x.toBitVec.toNat, x.toBitVec.isLt, Int32.toBitVec_inj.mp (by show _ = BitVec.ofNat 32 _; simp)⟩
theorem wb_c : ∀ k, k < 64 → ((nI k).toInt64 &&& 63) = lN k := by decide +kernel
theorem wb_cu : ∀ k, k < 64 → ((nI k).toInt64.toUInt64 &&& Int64.toUInt64 63) = UInt64.ofNat k := by decide +kernel
theorem wb_sm : ∀ k, k < 64 → (BitVec.ofNat 64 k).smod 64 = BitVec.ofNat 64 k := by decide +kernel
theorem wb_pw {a b : Nat} (h : a ≤ b) : 2 ^ b = 2 ^ a * 2 ^ (b - a) := by rw [← Nat.pow_add]; congr 1; omega
theorem wb_lt2 {a b : Nat} (h : a < b) : 2 ^ a < 2 ^ b := Nat.pow_lt_pow_right (by decide) h
theorem wb_mod (n : Nat) : lN n = lN (n % 2 ^ 64) := wb_inj (by rw [wb_tb, wb_tb]; apply BitVec.eq_of_toNat_eq; rw [BitVec.toNat_ofNat, BitVec.toNat_ofNat, Nat.mod_mod])
theorem wb_shr {n k : Nat} (hn : n < 2 ^ 64) (hk : k < 64) : ((lN n).toUInt64 >>> ((nI k).toInt64.toUInt64 &&& Int64.toUInt64 63)).toInt64 = lN (n / 2 ^ k) := by
  rw [wb_cu k hk]
  apply wb_inj
  apply BitVec.eq_of_toNat_eq
  show ((lN n).toUInt64 >>> UInt64.ofNat k).toNat = (BitVec.ofNat 64 _).toNat
  have h1 : (UInt64.ofNat k).toNat = k := by
    show (BitVec.ofNat 64 k).toNat = k
    rw [BitVec.toNat_ofNat, Nat.mod_eq_of_lt (by omega)]
  have h2 : (lN n).toUInt64.toNat = n := wb_tn hn
  rw [UInt64.toNat_shiftRight, h1, h2, Nat.mod_eq_of_lt hk, Nat.shiftRight_eq_div_pow, BitVec.toNat_ofNat, Nat.mod_eq_of_lt (Nat.lt_of_le_of_lt (Nat.div_le_self _ _) hn)]
theorem wb_shl (n : Nat) {k : Nat} (hk : k < 64) : lN n <<< ((nI k).toInt64 &&& 63) = lN (n * 2 ^ k) := by
  rw [wb_c k hk]
  apply wb_inj
  rw [Int64.toBitVec_shiftLeft, wb_tb, wb_tb, wb_tb, wb_sm k hk]
  apply BitVec.eq_of_toNat_eq
  rw [BitVec.shiftLeft_eq', BitVec.toNat_shiftLeft, BitVec.toNat_ofNat, BitVec.toNat_ofNat, BitVec.toNat_ofNat, Nat.mod_eq_of_lt (show k < 2 ^ 64 by omega), Nat.shiftLeft_eq, Nat.mul_mod, Nat.mod_mod, ← Nat.mul_mod]
theorem wb_and {a b : Nat} (ha : a < 2 ^ 64) (hb : b < 2 ^ 64) : lN a &&& lN b = lN (a &&& b) := by
  apply wb_inj
  rw [Int64.toBitVec_and, wb_tb, wb_tb, wb_tb]
  apply BitVec.eq_of_toNat_eq
  rw [BitVec.toNat_and, BitVec.toNat_ofNat, BitVec.toNat_ofNat, BitVec.toNat_ofNat, Nat.mod_eq_of_lt ha, Nat.mod_eq_of_lt hb, Nat.mod_eq_of_lt (Nat.and_lt_two_pow _ hb)]
theorem wb_or {a b : Nat} (ha : a < 2 ^ 64) (hb : b < 2 ^ 64) : lN a ||| lN b = lN (a ||| b) := by
  apply wb_inj
  rw [Int64.toBitVec_or, wb_tb, wb_tb, wb_tb]
  apply BitVec.eq_of_toNat_eq
  rw [BitVec.toNat_or, BitVec.toNat_ofNat, BitVec.toNat_ofNat, BitVec.toNat_ofNat, Nat.mod_eq_of_lt ha, Nat.mod_eq_of_lt hb, Nat.mod_eq_of_lt (Nat.or_lt_two_pow ha hb)]
theorem wb_mask {n k : Nat} (hn : n < 2 ^ 64) (hk : k < 64) : lN n &&& lN (2 ^ k - 1) = lN (n % 2 ^ k) := by
  rw [wb_and hn (by have := wb_lt2 hk; omega), Nat.and_two_pow_sub_one_eq_mod]
theorem wb_a1 {n : Nat} (hn : n < 2 ^ 64) : lN n &&& 1 = lN (n % 2) := wb_mask (k := 1) hn (by decide)
theorem wb_bit {n k : Nat} (hn : n < 2 ^ 64) (hk : k < 64) : ((lN n).toUInt64 >>> ((nI k).toInt64.toUInt64 &&& Int64.toUInt64 63)).toInt64 &&& 1 = lN (n / 2 ^ k % 2) := by
  rw [wb_shr hn hk, wb_a1 (Nat.lt_of_le_of_lt (Nat.div_le_self _ _) hn)]
theorem wb_xor {q k : Nat} (hk : k < 63) (h : 2 ^ k ≤ q) (h2 : q < 2 ^ (k + 1)) : lN q ^^^ lN (2 ^ k) = lN (q - 2 ^ k) := by
  obtain ⟨r, rfl⟩ : ∃ r, q = 2 ^ k + r := ⟨q - 2 ^ k, by omega⟩
  have hr : r < 2 ^ k := by rw [Nat.pow_succ] at h2; omega
  have hx : (2 ^ k + r) ^^^ 2 ^ k = r := by
    apply Nat.eq_of_testBit_eq
    intro i
    rw [Nat.testBit_xor, Nat.testBit_two_pow]
    rcases Nat.lt_trichotomy i k with h | h | h
    · rw [Nat.testBit_two_pow_add_gt h]
      simp [show ¬ k = i by omega]
    · subst h
      rw [Nat.testBit_two_pow_add_eq]
      simp
    · have a1 : 2 ^ (k + 1) ≤ 2 ^ i := Nat.pow_le_pow_right (by decide) h
      rw [Nat.testBit_lt_two_pow (show 2 ^ k + r < 2 ^ i by omega), Nat.testBit_lt_two_pow (show r < 2 ^ i by omega)]
      simp [show ¬ k = i by omega]
  have b1 := wb_lt2 (show k + 1 < 64 by omega)
  have b2 := wb_lt2 (show k < 64 by omega)
  apply wb_inj
  rw [Int64.toBitVec_xor, wb_tb, wb_tb, wb_tb]
  apply BitVec.eq_of_toNat_eq
  rw [BitVec.toNat_xor, BitVec.toNat_ofNat, BitVec.toNat_ofNat, BitVec.toNat_ofNat, Nat.mod_eq_of_lt (by omega : 2 ^ k + r < 2 ^ 64), Nat.mod_eq_of_lt b2, hx, Nat.add_sub_cancel_left, Nat.mod_eq_of_lt (by omega)]
/-! ===== lN: masks, 'or' of parts that don't overlap is a sum ===== -/
theorem u_tn {n : Nat} (h : n < 2 ^ 64) : (UInt64.ofNat n).toNat = n := Nat.mod_eq_of_lt h
theorem g_and {a b c : Nat} (ha : a < 2 ^ 64) (hb : b < 2 ^ 64) (hc : a &&& b = c) : lN a &&& lN b = lN c := by
  subst hc
  have h : UInt64.ofNat a &&& UInt64.ofNat b = UInt64.ofNat (a &&& b) := UInt64.toNat_inj.mp (by rw [UInt64.toNat_and, u_tn ha, u_tn hb, u_tn (Nat.and_lt_two_pow a hb)])
  have h2 := congrArg UInt64.toInt64 h
  exact h2
theorem g_and1 {a : Nat} (ha : a < 2 ^ 64) : lN a &&& 1 = lN (a % 2) := g_and (b := 1) ha (by decide) (Nat.and_two_pow_sub_one_eq_mod a 1)
theorem g_mask {a s p : Nat} (hp : 2 ^ s = p) (hs : s < 64) (ha : a < 2 ^ 64) : lN a &&& lN (p - 1) = lN (a % p) := by
  subst hp
  have := Nat.pow_lt_pow_right (show 1 < 2 by decide) hs
  exact g_and ha (by omega) (Nat.and_two_pow_sub_one_eq_mod a s)
theorem g_or {k p a b : Nat} (hp : 2 ^ k = p) (ha : a < p) (h : b * p + a < 2 ^ 64) : lN (b * p) ||| lN a = lN (b * p + a) := by
  subst hp
  have h1 : b * 2 ^ k ||| a = b * 2 ^ k + a := by rw [← Nat.shiftLeft_eq, Nat.shiftLeft_add_eq_or_of_lt ha]
  have h3 : UInt64.ofNat (b * 2 ^ k) ||| UInt64.ofNat a = UInt64.ofNat (b * 2 ^ k + a) := UInt64.toNat_inj.mp (by rw [UInt64.toNat_or, u_tn (by omega), u_tn (by omega), u_tn h, h1])
  have h2 := congrArg UInt64.toInt64 h3
  exact h2
theorem g_or' {k p a b : Nat} (hp : 2 ^ k = p) (ha : a < p) (h : a + b * p < 2 ^ 64) : lN a ||| lN (b * p) = lN (a + b * p) := by
  rw [Int64.or_comm, g_or hp ha (by omega), Nat.add_comm]
theorem g_ushr {a k p : Nat} {y : UInt64} (hy : y = UInt64.ofNat k) (hk : k < 64) (hp : 2 ^ k = p) (ha : a < 2 ^ 64) : ((lN a).toUInt64 >>> y).toInt64 = lN (a / p) := by
  subst hy hp
  have h : UInt64.ofNat a >>> UInt64.ofNat k = UInt64.ofNat (a / 2 ^ k) := UInt64.toNat_inj.mp (by rw [UInt64.toNat_shiftRight, u_tn ha, u_tn (by omega), u_tn (Nat.lt_of_le_of_lt (Nat.div_le_self _ _) ha), Nat.mod_eq_of_lt hk, Nat.shiftRight_eq_div_pow])
  have h2 := congrArg UInt64.toInt64 h
  exact h2
theorem g_shl {a k p : Nat} {y : Int64} (hy : y.toBitVec.smod 64 = BitVec.ofNat 64 k) (hk : k < 64) (hp : 2 ^ k = p) (ha : a < 2 ^ 64) : lN a <<< y = lN (a * p) := by
  subst hp
  apply Int64.toBitVec_inj.mp
  rw [Int64.toBitVec_shiftLeft, hy]
  apply BitVec.eq_of_toNat_eq
  have hb : (lN a).toBitVec.toNat = a := Nat.mod_eq_of_lt ha
  have hk' : (BitVec.ofNat 64 k).toNat = k := Nat.mod_eq_of_lt (by omega)
  have h : ((lN a).toBitVec <<< BitVec.ofNat 64 k).toNat = (a * 2 ^ k) % 2 ^ 64 := by simp only [BitVec.shiftLeft_eq', BitVec.toNat_shiftLeft, hb, hk', Nat.shiftLeft_eq]
  exact h
/-! ===== lN to 2^62 under >> and >>> ===== -/
theorem pf_lI {a : Nat} (h : a < 2 ^ 63) : (lN a).toInt = (a : Int) := lg_ofNat_toInt h
theorem pf_shr {a d : Nat} {D : Int64} (hD : (D.toBitVec.smod 64).toNat = d) (h : a < 2 ^ 62) : lN a >>> D = lN (a / 2 ^ d) := by
  have hd : a / 2 ^ d ≤ a := Nat.div_le_self _ _
  apply Int64.toInt_inj.mp
  have e : (lN a >>> D).toInt = (lN a).toInt >>> d := by
    rw [← hD]
    exact BitVec.toInt_sshiftRight ..
  rw [e, Int.shiftRight_eq_div_pow, pf_lI (by omega), pf_lI (by omega)]
  rfl
theorem pf_ushr {a d : Nat} {D : UInt64} (hD : D.toNat % 64 = d) (h : a < 2 ^ 62) : ((lN a).toUInt64 >>> D).toInt64 = lN (a / 2 ^ d) := by
  have hd : a / 2 ^ d ≤ a := Nat.div_le_self _ _
  have e : (lN a).toUInt64 >>> D = UInt64.ofNat (a / 2 ^ d) := UInt64.toNat_inj.mp (by
    rw [UInt64.toNat_shiftRight, hD, Nat.shiftRight_eq_div_pow, UInt64.toNat_ofNat']
    show (UInt64.ofNat a).toNat / 2 ^ d = _
    rw [UInt64.toNat_ofNat', Nat.mod_eq_of_lt (by omega), Nat.mod_eq_of_lt (by omega)])
  rw [e]
  rfl
theorem pf_andw (x : Int64) : ∃ m, m < 2 ^ 32 ∧ x &&& 4294967295 = lN m := ⟨x.toBitVec.toNat % 2 ^ 32, Nat.mod_lt _ (by decide), Int64.toBitVec_inj.mp (BitVec.eq_of_toNat_eq (by
  show (x.toBitVec &&& 4294967295#64).toNat = (BitVec.ofNat 64 (x.toBitVec.toNat % 2 ^ 32)).toNat
  rw [BitVec.toNat_and, show (4294967295#64).toNat = 2 ^ 32 - 1 from by decide, Nat.and_two_pow_sub_one_eq_mod, BitVec.toNat_ofNat]
  omega))⟩
/-! ===== Int64 as an unsigned number: uN x ===== -/
def uN (x : Int64) : Nat := x.toUInt64.toNat
theorem uN_lt (x : Int64) : uN x < 18446744073709551616 := x.toUInt64.toNat_lt
theorem uN_inj {x y : Int64} (h : uN x = uN y) : x = y := congrArg UInt64.toInt64 (UInt64.toNat_inj.mp h)
theorem uN_add (x y : Int64) : uN (x + y) = (uN x + uN y) % 18446744073709551616 := by
  show (x.toUInt64 + y.toUInt64).toNat = _
  exact UInt64.toNat_add _ _
theorem uN_mul (x y : Int64) : uN (x * y) = (uN x * uN y) % 18446744073709551616 := by
  show (x.toUInt64 * y.toUInt64).toNat = _
  exact UInt64.toNat_mul _ _
theorem uN_shl (x : Int64) : uN (x <<< ((1 : Int32).toInt64 &&& 63)) = (2 * uN x) % 18446744073709551616 := by
  have h : (((1 : Int32).toInt64 &&& 63).toBitVec.smod 64).toNat = 1 := by decide
  show (x.toBitVec <<< (((1 : Int32).toInt64 &&& 63).toBitVec.smod 64).toNat).toNat = _
  rw [h, BitVec.toNat_shiftLeft, Nat.shiftLeft_eq, Nat.mul_comm]
  rfl
theorem uN_shr (x : Int64) (s : UInt64) : uN (x.toUInt64 >>> s).toInt64 = uN x / 2 ^ (s.toNat % 64) := by
  show (x.toUInt64 >>> s).toNat = _
  rw [UInt64.toNat_shiftRight, Nat.shiftRight_eq_div_pow]
  rfl
theorem uN_s32 (x : Int64) : uN (x.toUInt64 >>> ((32 : Int32).toInt64.toUInt64 &&& Int64.toUInt64 63)).toInt64 = uN x / 4294967296 := by
  have h : ((32 : Int32).toInt64.toUInt64 &&& Int64.toUInt64 63).toNat % 64 = 32 := by decide
  rw [uN_shr, h]
theorem uN_s63 (x : Int64) : uN (x.toUInt64 >>> ((63 : Int32).toInt64.toUInt64 &&& Int64.toUInt64 63)).toInt64 = uN x / 9223372036854775808 := by
  have h : ((63 : Int32).toInt64.toUInt64 &&& Int64.toUInt64 63).toNat % 64 = 63 := by decide
  rw [uN_shr, h]
theorem uN_lo (x : Int64) : uN (x &&& 4294967295) = uN x % 4294967296 := by
  show (x.toUInt64 &&& Int64.toUInt64 4294967295).toNat = _
  rw [UInt64.toNat_and]
  exact Nat.and_two_pow_sub_one_eq_mod _ 32
theorem uN_bit (x : Int64) : (x &&& 1) = 0 ↔ uN x % 2 = 0 := by
  have h : uN (x &&& 1) = uN x % 2 := by
    show (x.toUInt64 &&& Int64.toUInt64 1).toNat = _
    rw [UInt64.toNat_and]
    exact Nat.and_two_pow_sub_one_eq_mod _ 1
  rw [← h]
  exact ⟨fun z => by rw [z]; rfl, fun z => uN_inj (z.trans rfl)⟩
theorem uN_or {x y : Int64} (hy : uN y < 2) : uN ((x <<< ((1 : Int32).toInt64 &&& 63)) ||| y) = (2 * uN x) % 18446744073709551616 + uN y := by
  have h1 : uN ((x <<< ((1 : Int32).toInt64 &&& 63)) ||| y) = uN (x <<< ((1 : Int32).toInt64 &&& 63)) ||| uN y := UInt64.toNat_or _ _
  have h2 : (2 * uN x) % 18446744073709551616 = 2 ^ 1 * (uN x % 9223372036854775808) := by omega
  rw [h1, uN_shl, h2]
  exact (Nat.two_pow_add_eq_or_of_lt (i := 1) hy _).symm
theorem nat_xor {a : Nat} (h : a < 18446744073709551616) : a ^^^ 2 ^ 63 = (a + 9223372036854775808) % 18446744073709551616 := by
  have h1 : (a ^^^ 2 ^ 63) % 2 ^ 63 = a % 2 ^ 63 := by rw [Nat.xor_mod_two_pow, Nat.mod_self, Nat.xor_zero]
  have h2 : (a ^^^ 2 ^ 63) / 2 ^ 63 = (a / 2 ^ 63) ^^^ 1 := by rw [Nat.xor_div_two_pow, Nat.div_self (Nat.two_pow_pos 63)]
  have h3 : a / 2 ^ 63 = 0 ∨ a / 2 ^ 63 = 1 := by omega
  generalize a ^^^ 2 ^ 63 = t at h1 h2
  rcases h3 with h3 | h3
  · rw [h3] at h2
    have h2 : t / 2 ^ 63 = 1 := h2
    omega
  · rw [h3] at h2
    have h2 : t / 2 ^ 63 = 0 := h2
    omega
theorem uN_xor (x : Int64) : uN (x ^^^ (-9223372036854775808)) = (uN x + 9223372036854775808) % 18446744073709551616 := by
  rw [← nat_xor (uN_lt x)]
  exact UInt64.toNat_xor _ _
theorem uN_int (x : Int64) : x.toInt = if 2 * uN x < 18446744073709551616 then (uN x : Int) else (uN x : Int) - 18446744073709551616 := BitVec.toInt_eq_toNat_cond _
theorem uN_le (x y : Int64) : (x ^^^ (-9223372036854775808)) ≤ (y ^^^ (-9223372036854775808)) ↔ uN x ≤ uN y := by
  have hx := uN_lt x
  have hy := uN_lt y
  rw [Int64.le_iff_toInt_le, uN_int, uN_int, uN_xor, uN_xor]
  omega
theorem uN_sk (x : Int64) {k : Nat} (hk : k < 64) : uN (x.toUInt64 >>> ((nI k).toInt64.toUInt64 &&& Int64.toUInt64 63)).toInt64 = uN x / 2 ^ k := by
  have h : ((nI k).toInt64.toUInt64 &&& Int64.toUInt64 63).toNat % 64 = k := by
    rw [nI_l (by omega), UInt64.toNat_and]
    have e : (lN k).toUInt64.toNat = k % 2 ^ 64 := rfl
    have e2 : (Int64.toUInt64 63).toNat = 2 ^ 6 - 1 := by decide
    rw [e, e2, Nat.and_two_pow_sub_one_eq_mod]
    omega
  rw [uN_shr, h]
/-! ===== unsigned comparison by xor with the least ===== -/
theorem lN_bv (n : Nat) : (lN n).toBitVec = BitVec.ofNat 64 n := rfl
theorem lN_nat {n : Nat} (h : n < 2 ^ 64) : (lN n).toBitVec.toNat = n := by rw [lN_bv, BitVec.toNat_ofNat]; exact Nat.mod_eq_of_lt h
theorem lN_xor (a b : Nat) : lN a ^^^ lN b = lN (a ^^^ b) := by
  apply Int64.toBitVec_inj.mp; rw [Int64.toBitVec_xor, lN_bv, lN_bv, lN_bv]; apply BitVec.eq_of_getLsbD_eq; intro i hi; simp [BitVec.getLsbD_ofNat, Nat.testBit_xor, hi]
theorem lN_ti {m : Nat} (h : m < 2 ^ 64) : (lN m).toInt = if m < 2 ^ 63 then (m : Int) else (m : Int) - 2 ^ 64 := by
  have c := BitVec.toInt_eq_toNat_cond (lN m).toBitVec
  rw [lN_nat h] at c
  show (lN m).toBitVec.toInt = _
  rw [c]
  split <;> split <;> omega
theorem xor63 {x : Nat} (h : x < 2 ^ 63) : x ^^^ 2 ^ 63 = 2 ^ 63 + x := by
  apply Nat.eq_of_testBit_eq
  intro i
  rw [Nat.testBit_xor, Nat.testBit_two_pow]
  rcases Nat.lt_trichotomy i 63 with z | z | z
  · rw [Nat.testBit_two_pow_add_gt z, decide_eq_false (by omega)]; simp
  · subst z; rw [Nat.testBit_two_pow_add_eq]; simp
  · have hp : 2 ^ 64 ≤ 2 ^ i := Nat.pow_le_pow_right (by decide) z
    rw [Nat.testBit_lt_two_pow (show x < 2 ^ i by omega), Nat.testBit_lt_two_pow (show 2 ^ 63 + x < 2 ^ i by omega), decide_eq_false (by omega)]; rfl
theorem xorS {a : Nat} (h : a < 2 ^ 64) : (lN a ^^^ (-9223372036854775808)).toInt = (a : Int) - 2 ^ 63 := by
  rw [show (-9223372036854775808 : Int64) = lN (2 ^ 63) from by decide +kernel, lN_xor]
  rcases Nat.lt_or_ge a (2 ^ 63) with z | z
  · rw [xor63 z, lN_ti (by omega), if_neg (by omega)]; omega
  · obtain ⟨x, rfl⟩ : ∃ x, a = 2 ^ 63 + x := ⟨a - 2 ^ 63, by omega⟩
    rw [← xor63 (by omega), Nat.xor_assoc, Nat.xor_self, Nat.xor_zero, lN_ti (by omega), if_pos (by omega), xor63 (by omega)]; omega
theorem ultL {a b : Nat} (ha : a < 2 ^ 64) (hb : b < 2 ^ 64) : ((lN b ^^^ (-9223372036854775808)) ≤ (lN a ^^^ (-9223372036854775808))) ↔ b ≤ a := by
  rw [Int64.le_iff_toInt_le, xorS ha, xorS hb]; omega
/-! ===== Int64 masks of n low bits ===== -/
theorem cr_bits (W U M : BitVec 64) : ((W &&& U) &&& (U &&& (M ^^^ BitVec.allOnes 64))) = 0#64 ↔ (W &&& U) &&& M = W &&& U := by
  constructor
  · intro h
    apply BitVec.eq_of_getLsbD_eq
    intro i hi
    have e := congrArg (fun x => BitVec.getLsbD x i) h
    simp only [BitVec.getLsbD_and, BitVec.getLsbD_xor, BitVec.getLsbD_allOnes, BitVec.getLsbD_zero, hi, decide_true] at e ⊢
    revert e
    cases W.getLsbD i <;> cases U.getLsbD i <;> cases M.getLsbD i <;> decide
  · intro h
    apply BitVec.eq_of_getLsbD_eq
    intro i hi
    have e := congrArg (fun x => BitVec.getLsbD x i) h
    simp only [BitVec.getLsbD_and, BitVec.getLsbD_xor, BitVec.getLsbD_allOnes, BitVec.getLsbD_zero, hi, decide_true] at e ⊢
    revert e
    cases W.getLsbD i <;> cases U.getLsbD i <;> cases M.getLsbD i <;> decide
theorem cr_mask (w U m : Int64) (n : Nat) (hm : m.toBitVec.toNat = 2 ^ n - 1) : ((w &&& U) &&& (U &&& (m ^^^ (-1)))) = 0 ↔ (w &&& U).toBitVec.toNat < 2 ^ n := by
  have e0 : (-1 : Int64).toBitVec = BitVec.allOnes 64 := by decide
  have z0 : (0 : Int64).toBitVec = 0#64 := by decide
  rw [← Int64.toBitVec_inj, z0, Int64.toBitVec_and, Int64.toBitVec_and, Int64.toBitVec_and, Int64.toBitVec_xor, e0, cr_bits]
  generalize w.toBitVec &&& U.toBitVec = T
  rw [← BitVec.toNat_inj, BitVec.toNat_and, hm, Nat.and_two_pow_sub_one_eq_mod]
  constructor
  · intro h
    have t := Nat.mod_lt T.toNat (Nat.two_pow_pos n)
    rw [h] at t
    exact t
  · exact Nat.mod_eq_of_lt
theorem cr_shr (t : Int64) (x : UInt64) (n : Nat) (hx : x.toNat % 64 = n) : (t.toUInt64 >>> x).toInt64 = 0 ↔ t.toBitVec.toNat < 2 ^ n := by
  rw [← Int64.toBitVec_inj, ← BitVec.toNat_inj]
  show (t.toUInt64 >>> x).toNat = 0 ↔ t.toUInt64.toNat < 2 ^ n
  rw [UInt64.toNat_shiftRight, hx, Nat.shiftRight_eq_div_pow]
  constructor
  · intro h
    have d : t.toUInt64.toNat / 2 ^ n < 1 := by
      rw [h]
      decide
    have e := (Nat.div_lt_iff_lt_mul (Nat.two_pow_pos n)).mp d
    rw [Nat.one_mul] at e
    exact e
  · exact Nat.div_eq_of_lt
theorem cr_amt (s : Int64) : ∃ n, n < 64 ∧ s &&& 63 = lN n ∧ (s.toUInt64 &&& Int64.toUInt64 63).toNat % 64 = n := by
  have e : (s.toUInt64 &&& Int64.toUInt64 63).toNat = s.toUInt64.toNat % 2 ^ 6 := by
    rw [UInt64.toNat_and, show (Int64.toUInt64 63).toNat = 2 ^ 6 - 1 from by decide, Nat.and_two_pow_sub_one_eq_mod]
  refine ⟨s.toUInt64.toNat % 2 ^ 6, by omega, ?_, by omega⟩
  rw [← Int64.toBitVec_inj, ← BitVec.toNat_inj]
  show (s.toUInt64 &&& Int64.toUInt64 63).toNat = (BitVec.ofNat 64 (s.toUInt64.toNat % 2 ^ 6)).toNat
  rw [e, BitVec.toNat_ofNat]
  omega
end
section
section BASE
/-! sums, codes -/
def aa_sm (f : Nat → Nat) : Nat → Nat
  | 0 => 0
  | n + 1 => aa_sm f n + f n
theorem aa_sm0 (f : Nat → Nat) : aa_sm f 0 = 0 := rfl
theorem aa_sms (f : Nat → Nat) (n : Nat) : aa_sm f (n + 1) = aa_sm f n + f n := rfl
theorem aa_sm_le {f g : Nat → Nat} : ∀ {n : Nat}, (∀ i, i < n → f i ≤ g i) → aa_sm f n ≤ aa_sm g n := by
  intro n
  induction n with
  | zero => intro _; exact Nat.le_refl _
  | succ n ih =>
    intro h
    have h1 := ih (fun i hi => h i (by omega))
    have h2 := h n (by omega)
    rw [aa_sms, aa_sms]
    omega
theorem aa_sm_eq {f g : Nat → Nat} : ∀ {n : Nat}, (∀ i, i < n → f i = g i) → aa_sm f n = aa_sm g n := by
  intro n
  induction n with
  | zero => intro _; rfl
  | succ n ih =>
    intro h
    rw [aa_sms, aa_sms, ih (fun i hi => h i (by omega)), h n (by omega)]
theorem aa_sm_add (f g : Nat → Nat) (n : Nat) : aa_sm (fun i => f i + g i) n = aa_sm f n + aa_sm g n := by
  induction n with
  | zero => rfl
  | succ n ih =>
    rw [aa_sms, aa_sms, aa_sms, ih]
    omega
theorem aa_sm_upd {f g : Nat → Nat} {i : Nat} : ∀ {n : Nat}, i < n → (∀ j, j ≠ i → g j = f j) → aa_sm g n + f i = aa_sm f n + g i := by
  intro n
  induction n with
  | zero => intro h; omega
  | succ n ih =>
    intro h hg
    rw [aa_sms, aa_sms]
    by_cases e : i = n
    · subst e
      have h1 : aa_sm g i = aa_sm f i := aa_sm_eq (fun j hj => hg j (by omega))
      omega
    · have h1 := ih (by omega) hg
      have h2 := hg n (fun z => e z.symm)
      omega
theorem aa_sm_pos {f : Nat → Nat} : ∀ {n : Nat}, 0 < aa_sm f n → ∃ i, i < n ∧ 0 < f i := by
  intro n
  induction n with
  | zero => intro h; rw [aa_sm0] at h; omega
  | succ n ih =>
    intro h
    rw [aa_sms] at h
    by_cases e : 0 < f n
    · exact ⟨n, by omega, e⟩
    · obtain ⟨i, hi, hf⟩ := ih (by omega)
      exact ⟨i, by omega, hf⟩
theorem aa_sm_ge {f : Nat → Nat} {i : Nat} : ∀ {n : Nat}, i < n → f i ≤ aa_sm f n := by
  intro n
  induction n with
  | zero => intro h; omega
  | succ n ih =>
    intro h
    rw [aa_sms]
    by_cases e : i = n
    · subst e; omega
    · have := ih (by omega)
      omega
theorem aa_sm_bd {f : Nat → Nat} {B : Nat} : ∀ {n : Nat}, (∀ i, i < n → f i ≤ B) → aa_sm f n ≤ n * B := by
  intro n
  induction n with
  | zero => intro _; rw [aa_sm0]; omega
  | succ n ih =>
    intro h
    have h1 := ih (fun i hi => h i (by omega))
    have h2 := h n (by omega)
    rw [aa_sms, Nat.succ_mul]
    omega
theorem aa_sm_z {f : Nat → Nat} {n : Nat} (h : ∀ i, i < n → f i = 0) : aa_sm f n = 0 := by
  have := aa_sm_bd (f := f) (B := 0) (n := n) (fun i hi => by rw [h i hi]; exact Nat.le_refl _)
  omega
def aa_cd (a b : Nat) : Nat := if b ≤ a then 6 * b + a else 6 * a + b
theorem aa_cd_sym (a b : Nat) : aa_cd a b = aa_cd b a := by
  unfold aa_cd
  split <;> split <;> omega
theorem aa_cd_lt {a b : Nat} (ha : a < 6) (hb : b < 6) : aa_cd a b < 36 := by
  unfold aa_cd
  split <;> omega
theorem aa_cd_code {a b : Nat} (ha : a < 6) (hb : b < 6) (h : a ≠ b) : aa_cd a b / 6 < aa_cd a b % 6 := by
  unfold aa_cd
  split <;> omega
theorem aa_cd_inj {a b c d : Nat} (ha : a < 6) (hb : b < 6) (hc : c < 6) (hd : d < 6) (h : aa_cd a b = aa_cd c d) : (a = c ∧ b = d) ∨ (a = d ∧ b = c) := by
  unfold aa_cd at h
  split at h <;> split at h <;> omega
theorem aa_cd_of {c : Nat} (h : c < 36) (hc : c / 6 < c % 6) : aa_cd (c / 6) (c % 6) = c := by
  unfold aa_cd
  split <;> omega
/-! an Int32 of an Int -/
theorem aa_b0 : vp_nar .boolean 0 = 0 := by decide
theorem aa_b1 : vp_nar .boolean 1 = 1 := by decide
theorem aa_6m (a : Nat) : 6 * nI a = nI (6 * a) := pk_mul 6 a
theorem aa_6 (a b : Nat) : 6 * nI a + nI b = nI (6 * a + b) := by rw [aa_6m, nI_add]
theorem aa_div6 {c : Nat} (h : c < 2 ^ 31) : nI c / 6 = nI (c / 6) := pk_div (d := 6) h (by omega) (by omega)
theorem aa_mod6 {c : Nat} (h : c < 2 ^ 31) : nI c - nI c / 6 * 6 = nI (c % 6) := pk_rem (d := 6) h (by omega) (by omega)
theorem aa_div8 {c : Nat} (h : c < 2 ^ 31) : nI c / 8 = nI (c / 8) := pk_div (d := 8) h (by omega) (by omega)
theorem aa_mod8 {c : Nat} (h : c < 2 ^ 31) : nI c - nI c / 8 * 8 = nI (c % 8) := pk_rem (d := 8) h (by omega) (by omega)
theorem aa_6n : ¬ (6 : Int32) = 0 := by decide
theorem aa_8n : ¬ (8 : Int32) = 0 := by decide
theorem aa_m1 : (-1 : Int32) < 0 := by decide
theorem aa_m1n {a : Nat} (h : a < 2 ^ 31) : ¬ nI a = -1 := by
  intro e
  have := nI_pos (n := a) h
  rw [e] at this
  exact this aa_m1
theorem aa_sub (a b c : Nat) : nI a - nI b - nI c = nI a - nI (b + c) := by
  rw [← nI_add]; grind
theorem aa_sub0 (x : Int32) : x - 0 = x := by grind
theorem aa_add0 (x : Int32) : x + 0 = x := by grind
theorem aa_sm0' (a : Nat) : nI a = nI a - nI 0 := by rw [nI_0]; grind
theorem aa_rlt {a b w : Nat} (ha : a < 2 ^ 29) (hb : b < 2 ^ 29) (hw : w < 2 ^ 29) : nI a - nI b < nI w ↔ a < b + w := by
  rw [Int32.lt_iff_toInt_lt, pk_sub_toInt (by omega) (by omega), nI_toInt (by omega)]
  omega
theorem aa_rle {a b w : Nat} (ha : a < 2 ^ 29) (hb : b < 2 ^ 29) (hw : w < 2 ^ 29) : nI a - nI b ≤ nI w ↔ a ≤ b + w := by
  rw [Int32.le_iff_toInt_le, pk_sub_toInt (by omega) (by omega), nI_toInt (by omega)]
  omega
theorem aa_rge {a b w : Nat} (ha : a < 2 ^ 29) (hb : b < 2 ^ 29) (hw : w < 2 ^ 29) : nI w ≤ nI a - nI b ↔ b + w ≤ a := by
  rw [Int32.le_iff_toInt_le, pk_sub_toInt (by omega) (by omega), nI_toInt (by omega)]
  omega
/-- pigeons: n + 1 numbers below n -/
theorem aa_pig : ∀ (n : Nat) (f : Nat → Nat), (∀ i, i ≤ n → f i < n) → ∃ i j, i < j ∧ j ≤ n ∧ f i = f j := by
  intro n
  induction n with
  | zero => intro f h; exact absurd (h 0 (by omega)) (by omega)
  | succ n ih =>
    intro f h
    by_cases e : ∃ i, i ≤ n ∧ f i = f (n + 1)
    · obtain ⟨i, hi, he⟩ := e
      exact ⟨i, n + 1, by omega, by omega, he⟩
    · have hn : ∀ i, i ≤ n → f i ≠ f (n + 1) := fun i hi z => e ⟨i, hi, z⟩
      obtain ⟨i, j, hij, hj, he⟩ := ih (fun i => if f i < f (n + 1) then f i else f i - 1) (by
        intro i hi
        have h1 := h i (by omega)
        have h2 := hn i hi
        have h3 := h (n + 1) (by omega)
        show (if f i < f (n + 1) then f i else f i - 1) < n
        split <;> omega)
      have hi1 := hn i (by omega)
      have hj1 := hn j (by omega)
      have he' : (if f i < f (n + 1) then f i else f i - 1) = (if f j < f (n + 1) then f j else f j - 1) := he
      refine ⟨i, j, hij, by omega, ?_⟩
      split at he' <;> split at he' <;> omega
/-- different numbers below 6 are at most 6 -/
theorem aa_pig6 {f : Nat → Nat} {L : Nat} (h : ∀ i, i ≤ L → f i < 6) (hd : ∀ i j, i < j → j ≤ L → f i ≠ f j) : L ≤ 5 := by
  rcases Nat.lt_or_ge L 6 with h1 | h1
  · omega
  · obtain ⟨i, j, hij, hj, he⟩ := aa_pig 6 f (fun i hi => h i (by omega))
    exact absurd he (hd i j hij (by omega))
end BASE
end
section
section PATHS
/-! paths, their keys, the best one -/
def pa_Val (O : Nat → Prop) (s d L : Nat) (q : Nat → Nat) : Prop :=
  q 0 = s ∧ q L = d ∧ (∀ i, i ≤ L → q i < 6) ∧ (∀ i j, i < j → j ≤ L → q i ≠ q j) ∧ (∀ i, i < L → O (aa_cd (q i) (q (i + 1))))
def pa_pc (w q : Nat → Nat) : Nat → Nat
  | 0 => 0
  | i + 1 => pa_pc w q i + w (aa_cd (q i) (q (i + 1)))
def pa_nm (q : Nat → Nat) : Nat → Nat
  | 0 => 0
  | i + 1 => 6 * pa_nm q i + q (i + 1)
theorem pa_pcs (w q : Nat → Nat) (i : Nat) : pa_pc w q (i + 1) = pa_pc w q i + w (aa_cd (q i) (q (i + 1))) := rfl
theorem pa_nms (q : Nat → Nat) (i : Nat) : pa_nm q (i + 1) = 6 * pa_nm q i + q (i + 1) := rfl
def pa_Le (c L n c' L' n' : Nat) : Prop := c < c' ∨ (c = c' ∧ (L < L' ∨ (L = L' ∧ n ≤ n')))
def pa_Best (O : Nat → Prop) (w : Nat → Nat) (s d L : Nat) (q : Nat → Nat) : Prop :=
  pa_Val O s d L q ∧ L ≤ 5 ∧ ∀ (L' : Nat) (q' : Nat → Nat), pa_Val O s d L' q' → pa_Le (pa_pc w q L) L (pa_nm q L) (pa_pc w q' L') L' (pa_nm q' L')
theorem pa_Val5 {O : Nat → Prop} {s d L : Nat} {q : Nat → Nat} (h : pa_Val O s d L q) : L ≤ 5 := aa_pig6 h.2.2.1 h.2.2.2.1
theorem pa_Val1 {O : Nat → Prop} {s d L : Nat} {q : Nat → Nat} (h : pa_Val O s d L q) (hsd : s ≠ d) : 1 ≤ L := by
  rcases Nat.eq_zero_or_pos L with e | e
  · subst e
    exact absurd (h.1.symm.trans h.2.1) hsd
  · exact e
theorem pa_nm_lt {q : Nat → Nat} : ∀ {L : Nat}, (∀ i, i ≤ L → q i < 6) → pa_nm q L < 6 ^ L := by
  intro L
  induction L with
  | zero => intro _; exact Nat.one_pos
  | succ L ih =>
    intro h
    have h1 := ih (fun i hi => h i (by omega))
    have h2 := h (L + 1) (by omega)
    rw [pa_nms, Nat.pow_succ]
    omega
theorem pa_nm_inj {q q' : Nat → Nat} : ∀ {L : Nat}, (∀ i, i ≤ L → q i < 6) → (∀ i, i ≤ L → q' i < 6) → pa_nm q L = pa_nm q' L → ∀ i, 1 ≤ i → i ≤ L → q i = q' i := by
  intro L
  induction L with
  | zero => intro _ _ _ i h1 h2; omega
  | succ L ih =>
    intro h h' e i h1 h2
    rw [pa_nms, pa_nms] at e
    have a1 := h (L + 1) (by omega)
    have a2 := h' (L + 1) (by omega)
    by_cases ei : i = L + 1
    · subst ei; omega
    · exact ih (fun i hi => h i (by omega)) (fun i hi => h' i (by omega)) (by omega) i h1 (by omega)
theorem pa_nm_c {q q' : Nat → Nat} : ∀ {L : Nat}, (∀ i, 1 ≤ i → i ≤ L → q i = q' i) → pa_nm q L = pa_nm q' L := by
  intro L
  induction L with
  | zero => intro _; rfl
  | succ L ih =>
    intro h
    rw [pa_nms, pa_nms, ih (fun i h1 hi => h i h1 (by omega)), h (L + 1) (by omega) (by omega)]
theorem pa_pc_c {w q q' : Nat → Nat} : ∀ {L : Nat}, (∀ i, i ≤ L → q i = q' i) → pa_pc w q L = pa_pc w q' L := by
  intro L
  induction L with
  | zero => intro _; rfl
  | succ L ih =>
    intro h
    rw [pa_pcs, pa_pcs, ih (fun i hi => h i (by omega)), h L (by omega), h (L + 1) (by omega)]
theorem pa_Val_c {O : Nat → Prop} {s d L : Nat} {q q' : Nat → Nat} (h : ∀ i, i ≤ L → q i = q' i) (v : pa_Val O s d L q) : pa_Val O s d L q' := by
  obtain ⟨v1, v2, v3, v4, v5⟩ := v
  refine ⟨(h 0 (by omega)).symm.trans v1, (h L (by omega)).symm.trans v2, fun i hi => ?_, fun i j hij hj => ?_, fun i hi => ?_⟩
  · rw [← h i hi]; exact v3 i hi
  · rw [← h i (by omega), ← h j hj]; exact v4 i j hij hj
  · rw [← h i (by omega), ← h (i + 1) (by omega)]; exact v5 i hi
theorem pa_Val_O {O O' : Nat → Prop} {s d L : Nat} {q : Nat → Nat} (h : ∀ c, c < 36 → O c → O' c) (v : pa_Val O s d L q) : pa_Val O' s d L q := by
  obtain ⟨v1, v2, v3, v4, v5⟩ := v
  exact ⟨v1, v2, v3, v4, fun i hi => h _ (aa_cd_lt (v3 i (by omega)) (v3 (i + 1) (by omega))) (v5 i hi)⟩
theorem pa_Le_anti {c L n c' L' n' : Nat} (h : pa_Le c L n c' L' n') (h' : pa_Le c' L' n' c L n) : c = c' ∧ L = L' ∧ n = n' := by
  unfold pa_Le at h h'
  omega
theorem pa_uniq {O : Nat → Prop} {w : Nat → Nat} {s d L L' : Nat} {q q' : Nat → Nat} (h : pa_Best O w s d L q) (h' : pa_Best O w s d L' q') : L = L' ∧ pa_pc w q L = pa_pc w q' L' ∧ ∀ i, i ≤ L → q i = q' i := by
  obtain ⟨e1, e2, e3⟩ := pa_Le_anti (h.2.2 L' q' h'.1) (h'.2.2 L q h.1)
  subst e2
  refine ⟨rfl, e1, fun i hi => ?_⟩
  rcases Nat.eq_zero_or_pos i with z | z
  · subst z; rw [h.1.1, h'.1.1]
  · exact pa_nm_inj h.1.2.2.1 h'.1.2.2.1 e3 i z hi
/-! labels that come out give the best path -/
/-- the weight of a link: its cost, then one -/
def pa_W (w : Nat → Nat) (a b : Nat) : Nat := 64 * w (aa_cd a b) + 1
/-- a path by labels: each next node is the least with which they come out -/
def pa_Fol (O : Nat → Prop) (w D : Nat → Nat) (L : Nat) (q : Nat → Nat) : Prop :=
  ∀ i, i < L → q (i + 1) < 6 ∧ q i ≠ q (i + 1) ∧ O (aa_cd (q i) (q (i + 1))) ∧ D (q i) = D (q (i + 1)) + pa_W w (q i) (q (i + 1)) ∧ ∀ v, v < q (i + 1) → q i ≠ v → O (aa_cd (q i) v) → D (q i) ≠ D v + pa_W w (q i) v
theorem pa_fol_sum {O : Nat → Prop} {w D : Nat → Nat} {L : Nat} {q : Nat → Nat} (h : pa_Fol O w D L q) : ∀ i, i ≤ L → D (q 0) = D (q i) + (64 * pa_pc w q i + i) := by
  intro i
  induction i with
  | zero => intro _; rfl
  | succ i ih =>
    intro hi
    have h1 := ih (by omega)
    have h2 := (h i (by omega)).2.2.2.1
    unfold pa_W at h2
    rw [pa_pcs]
    omega
theorem pa_fol_dec {O : Nat → Prop} {w D : Nat → Nat} {L : Nat} {q : Nat → Nat} (h : pa_Fol O w D L q) {i : Nat} : ∀ j, i < j → j ≤ L → D (q j) < D (q i) := by
  intro j
  induction j with
  | zero => intro h; omega
  | succ j ih =>
    intro h1 h2
    have h3 := (h j (by omega)).2.2.2.1
    unfold pa_W at h3
    by_cases e : i = j
    · subst e; omega
    · have := ih (by omega) (by omega)
      omega
theorem pa_tel {O : Nat → Prop} {w D : Nat → Nat} {s d L : Nat} {q : Nat → Nat} (hT : ∀ a b, a < 6 → b < 6 → a ≠ b → O (aa_cd a b) → D a ≤ D b + pa_W w a b) (v : pa_Val O s d L q) : ∀ k i, i + k ≤ L → D (q i) + (64 * pa_pc w q i + i) ≤ D (q (i + k)) + (64 * pa_pc w q (i + k) + (i + k)) := by
  intro k
  induction k with
  | zero => intro i _; exact Nat.le_refl _
  | succ k ih =>
    intro i hi
    have h1 := ih i (by omega)
    have h2 := hT (q (i + k)) (q (i + k + 1)) (v.2.2.1 _ (by omega)) (v.2.2.1 _ (by omega)) (v.2.2.2.1 _ _ (by omega) (by omega)) (v.2.2.2.2 _ (by omega))
    unfold pa_W at h2
    rw [show i + (k + 1) = i + k + 1 from rfl, pa_pcs]
    omega
theorem pa_dij {O : Nat → Prop} {w D : Nat → Nat} {s d L : Nat} {q : Nat → Nat} (hs : s < 6) (h0 : D d = 0) (hT : ∀ a b, a < 6 → b < 6 → a ≠ b → O (aa_cd a b) → D a ≤ D b + pa_W w a b) (hq0 : q 0 = s) (hqL : q L = d) (hf : pa_Fol O w D L q) : pa_Best O w s d L q ∧ D s = 64 * pa_pc w q L + L := by
  have hv : pa_Val O s d L q := by
    refine ⟨hq0, hqL, fun i hi => ?_, fun i j hij hj e => ?_, fun i hi => (hf i hi).2.2.1⟩
    · rcases Nat.eq_zero_or_pos i with z | z
      · subst z; rw [hq0]; exact hs
      · obtain ⟨j, rfl⟩ : ∃ j, i = j + 1 := ⟨i - 1, by omega⟩
        exact (hf j (by omega)).1
    · have := pa_fol_dec hf j hij hj
      rw [e] at this
      omega
  have hs1 : D s = 64 * pa_pc w q L + L := by
    have := pa_fol_sum hf L (Nat.le_refl _)
    rw [hq0, hqL, h0] at this
    omega
  refine ⟨⟨hv, pa_Val5 hv, fun L' q' v' => ?_⟩, hs1⟩
  have hL := pa_Val5 hv
  have hL' := pa_Val5 v'
  have ht := pa_tel hT v' L' 0 (by omega)
  rw [Nat.zero_add, v'.1, v'.2.1, h0, hs1] at ht
  have z0 : pa_pc w q' 0 = 0 := rfl
  rw [z0] at ht
  unfold pa_Le
  by_cases c1 : pa_pc w q L < pa_pc w q' L'
  · exact Or.inl c1
  · refine Or.inr ⟨by omega, ?_⟩
    by_cases c2 : L < L'
    · exact Or.inl c2
    · have eL : L = L' := by omega
      subst eL
      have ec : pa_pc w q L = pa_pc w q' L := by omega
      refine Or.inr ⟨rfl, ?_⟩
      have tight : ∀ i, i < L → D (q' i) = D (q' (i + 1)) + pa_W w (q' i) (q' (i + 1)) := by
        intro i hi
        have t1 := pa_tel hT v' i 0 (by omega)
        have t2 := pa_tel hT v' (L - i) i (by omega)
        have t3 := pa_tel hT v' (i + 1) 0 (by omega)
        have t4 := pa_tel hT v' (L - (i + 1)) (i + 1) (by omega)
        rw [Nat.zero_add, v'.1, hs1, z0] at t1 t3
        rw [show i + (L - i) = L by omega, v'.2.1, h0] at t2
        rw [show i + 1 + (L - (i + 1)) = L by omega, v'.2.1, h0] at t4
        rw [pa_pcs] at t3 t4
        unfold pa_W
        omega
      have key : ∀ i, i ≤ L → (∀ j, j ≤ i → q j = q' j) ∨ pa_nm q i < pa_nm q' i := by
        intro i
        induction i with
        | zero =>
          intro _
          refine Or.inl fun j hj => ?_
          rw [show j = 0 by omega, hq0, v'.1]
        | succ i ih =>
          intro hi
          have b1 := (hf i (by omega)).1
          rcases ih (by omega) with e | e
          · have eq := e i (by omega)
            have tq := tight i (by omega)
            have ne := v'.2.2.2.1 i (i + 1) (by omega) (by omega)
            have oq := v'.2.2.2.2 i (by omega)
            have hl := (hf i (by omega)).2.2.2.2 (q' (i + 1))
            rw [← eq] at tq ne oq
            have ge : ¬ q' (i + 1) < q (i + 1) := fun z => hl z ne oq tq
            by_cases e2 : q (i + 1) = q' (i + 1)
            · refine Or.inl fun j hj => ?_
              by_cases e3 : j = i + 1
              · rw [e3]; exact e2
              · exact e j (by omega)
            · refine Or.inr ?_
              rw [pa_nms, pa_nms, pa_nm_c (q := q) (q' := q') (fun j _ hj => e j hj)]
              omega
          · refine Or.inr ?_
            rw [pa_nms, pa_nms]
            omega
      rcases key L (Nat.le_refl _) with e | e
      · rw [pa_nm_c (q := q) (q' := q') (fun j _ hj => e j hj)]
        exact Nat.le_refl _
      · exact Nat.le_of_lt e
/-! all paths, one behind another -/
def pa_cand (s d b num i : Nat) : Nat := if i = 0 then s else if i = b + 1 then d else num / 6 ^ (b - i) % 6
theorem pa_cand0 (s d b num : Nat) : pa_cand s d b num 0 = s := if_pos rfl
theorem pa_candL (s d b num : Nat) : pa_cand s d b num (b + 1) = d := by
  unfold pa_cand
  rw [if_neg (by omega), if_pos rfl]
theorem pa_candm {s d b num i : Nat} (h0 : 1 ≤ i) (h1 : i ≤ b) : pa_cand s d b num i = num / 6 ^ (b - i) % 6 := by
  unfold pa_cand
  rw [if_neg (by omega), if_neg (by omega)]
theorem pa_cand6 {s d b num : Nat} (hs : s < 6) (hd : d < 6) (i : Nat) : pa_cand s d b num i < 6 := by
  unfold pa_cand
  split
  · exact hs
  · split
    · exact hd
    · exact Nat.mod_lt _ (by omega)
theorem pa_cand_nm {s d b num : Nat} (h : num < 6 ^ b) : ∀ i, i ≤ b → pa_nm (pa_cand s d b num) i = num / 6 ^ (b - i) := by
  intro i
  induction i with
  | zero => intro _; rw [Nat.sub_zero, Nat.div_eq_of_lt h]; rfl
  | succ i ih =>
    intro hi
    rw [pa_nms, ih (by omega), pa_candm (by omega) hi]
    have e : b - i = (b - (i + 1)) + 1 := by omega
    rw [e, Nat.pow_succ, ← Nat.div_div_eq_div_mul]
    omega
def pa_Pre (b num L : Nat) (q : Nat → Nat) : Prop := 1 ≤ L ∧ (L ≤ b ∨ (L = b + 1 ∧ pa_nm q b < num))
def pa_Inv (O : Nat → Prop) (w : Nat → Nat) (s d b num hl hc : Nat) (q : Nat → Nat) : Prop :=
  (hl = 0 ∧ ∀ L' q', pa_Val O s d L' q' → ¬ pa_Pre b num L' q') ∨
  (∃ L, hl = L + 1 ∧ pa_Val O s d L q ∧ hc = pa_pc w q L ∧ pa_Pre b num L q ∧ ∀ L' q', pa_Val O s d L' q' → pa_Pre b num L' q' → pa_Le (pa_pc w q L) L (pa_nm q L) (pa_pc w q' L') L' (pa_nm q' L'))
theorem pa_Inv0 {O : Nat → Prop} {w : Nat → Nat} {s d hc : Nat} {q : Nat → Nat} (hsd : s ≠ d) : pa_Inv O w s d 0 0 0 hc q := by
  refine Or.inl ⟨rfl, fun L' q' v p => ?_⟩
  obtain ⟨p1, p2⟩ := p
  rcases p2 with p2 | p2 <;> omega
/-- a path behind the ones looked at is the one that is looked at -/
theorem pa_cover {O : Nat → Prop} {s d b num L : Nat} {q : Nat → Nat} (hs : s < 6) (hd : d < 6) (hn : num < 6 ^ b) (v : pa_Val O s d L q) (p : pa_Pre b (num + 1) L q) (np : ¬ pa_Pre b num L q) : L = b + 1 ∧ ∀ i, i ≤ L → q i = pa_cand s d b num i := by
  obtain ⟨p1, p2⟩ := p
  have h1 : L = b + 1 ∧ pa_nm q b = num := by
    rcases p2 with p2 | p2
    · exact absurd ⟨p1, Or.inl p2⟩ np
    · refine ⟨p2.1, ?_⟩
      have : ¬ pa_nm q b < num := fun z => np ⟨p1, Or.inr ⟨p2.1, z⟩⟩
      omega
  obtain ⟨e, en⟩ := h1
  subst e
  refine ⟨rfl, fun i hi => ?_⟩
  have hc := pa_cand_nm (s := s) (d := d) hn b (Nat.le_refl _)
  rw [Nat.sub_self, Nat.pow_zero, Nat.div_one] at hc
  have inj := pa_nm_inj (L := b) (q := q) (q' := pa_cand s d b num) (fun i hi => v.2.2.1 i (by omega)) (fun i _ => pa_cand6 hs hd i) (en.trans hc.symm)
  by_cases z : i = 0
  · subst z; rw [v.1, pa_cand0]
  · by_cases z2 : i = b + 1
    · subst z2; rw [v.2.1, pa_candL]
    · exact inj i (by omega) (by omega)
theorem pa_Pre_up {b num L : Nat} {q : Nat → Nat} (h : pa_Pre b num L q) : pa_Pre b (num + 1) L q := by
  obtain ⟨h1, h2⟩ := h
  refine ⟨h1, ?_⟩
  rcases h2 with h2 | h2
  · exact Or.inl h2
  · exact Or.inr ⟨h2.1, by omega⟩
theorem pa_step_no {O : Nat → Prop} {w : Nat → Nat} {s d b num hl hc : Nat} {q : Nat → Nat} (hs : s < 6) (hd : d < 6) (hn : num < 6 ^ b) (I : pa_Inv O w s d b num hl hc q) (nv : ¬ pa_Val O s d (b + 1) (pa_cand s d b num)) : pa_Inv O w s d b (num + 1) hl hc q := by
  have back : ∀ L' q', pa_Val O s d L' q' → pa_Pre b (num + 1) L' q' → pa_Pre b num L' q' := by
    intro L' q' v p
    by_cases z : pa_Pre b num L' q'
    · exact z
    · obtain ⟨e1, e2⟩ := pa_cover hs hd hn v p z
      subst e1
      exact absurd (pa_Val_c e2 v) nv
  rcases I with ⟨h1, h2⟩ | ⟨L, h1, h2, h3, h4, h5⟩
  · exact Or.inl ⟨h1, fun L' q' v p => h2 L' q' v (back L' q' v p)⟩
  · exact Or.inr ⟨L, h1, h2, h3, pa_Pre_up h4, fun L' q' v p => h5 L' q' v (back L' q' v p)⟩
theorem pa_candP {s d b num : Nat} (hn : num < 6 ^ b) : pa_Pre b (num + 1) (b + 1) (pa_cand s d b num) := by
  have hc := pa_cand_nm (s := s) (d := d) hn b (Nat.le_refl _)
  rw [Nat.sub_self, Nat.pow_zero, Nat.div_one] at hc
  exact ⟨by omega, Or.inr ⟨rfl, by omega⟩⟩
theorem pa_step_new {O : Nat → Prop} {w : Nat → Nat} {s d b num hl hc : Nat} {q : Nat → Nat} (hs : s < 6) (hd : d < 6) (hn : num < 6 ^ b) (I : pa_Inv O w s d b num hl hc q) (v : pa_Val O s d (b + 1) (pa_cand s d b num)) (hb : hl = 0 ∨ pa_pc w (pa_cand s d b num) (b + 1) < hc) : pa_Inv O w s d b (num + 1) (b + 2) (pa_pc w (pa_cand s d b num) (b + 1)) (pa_cand s d b num) := by
  refine Or.inr ⟨b + 1, rfl, v, rfl, pa_candP hn, fun L' q' v' p' => ?_⟩
  by_cases z : pa_Pre b num L' q'
  · rcases I with ⟨h1, h2⟩ | ⟨L, h1, h2, h3, h4, h5⟩
    · exact absurd z (h2 L' q' v')
    · have := h5 L' q' v' z
      unfold pa_Le at this ⊢
      omega
  · obtain ⟨e1, e2⟩ := pa_cover hs hd hn v' p' z
    subst e1
    rw [pa_pc_c e2, pa_nm_c (fun i _ hi => e2 i hi)]
    exact Or.inr ⟨rfl, Or.inr ⟨rfl, Nat.le_refl _⟩⟩
theorem pa_step_old {O : Nat → Prop} {w : Nat → Nat} {s d b num hl hc : Nat} {q : Nat → Nat} (hs : s < 6) (hd : d < 6) (hn : num < 6 ^ b) (I : pa_Inv O w s d b num hl hc q) (hl0 : hl ≠ 0) (hb : hc ≤ pa_pc w (pa_cand s d b num) (b + 1)) : pa_Inv O w s d b (num + 1) hl hc q := by
  rcases I with ⟨h1, h2⟩ | ⟨L, h1, h2, h3, h4, h5⟩
  · exact absurd h1 hl0
  · refine Or.inr ⟨L, h1, h2, h3, pa_Pre_up h4, fun L' q' v' p' => ?_⟩
    by_cases z : pa_Pre b num L' q'
    · exact h5 L' q' v' z
    · obtain ⟨e1, e2⟩ := pa_cover hs hd hn v' p' z
      subst e1
      have hc' := pa_cand_nm (s := s) (d := d) hn b (Nat.le_refl _)
      rw [Nat.sub_self, Nat.pow_zero, Nat.div_one] at hc'
      rw [pa_pc_c e2, pa_nm_c (fun i _ hi => e2 i hi)]
      obtain ⟨p1, p2⟩ := h4
      unfold pa_Le
      by_cases z1 : pa_pc w q L < pa_pc w (pa_cand s d b num) (b + 1)
      · exact Or.inl z1
      · refine Or.inr ⟨by omega, ?_⟩
        rcases p2 with p2 | ⟨p2, p3⟩
        · exact Or.inl (by omega)
        · subst p2
          refine Or.inr ⟨rfl, ?_⟩
          rw [pa_nms, pa_nms, hc', h2.2.1, pa_candL]
          omega
theorem pa_round {O : Nat → Prop} {w : Nat → Nat} {s d b hl hc : Nat} {q : Nat → Nat} (I : pa_Inv O w s d b (6 ^ b) hl hc q) : pa_Inv O w s d (b + 1) 0 hl hc q := by
  have back : ∀ L' q', pa_Val O s d L' q' → (pa_Pre (b + 1) 0 L' q' ↔ pa_Pre b (6 ^ b) L' q') := by
    intro L' q' v
    constructor
    · intro p
      obtain ⟨p1, p2⟩ := p
      refine ⟨p1, ?_⟩
      rcases p2 with p2 | p2
      · rcases Nat.lt_or_ge b L' with z | z
        · exact Or.inr ⟨by omega, pa_nm_lt (fun i hi => v.2.2.1 i (by omega))⟩
        · exact Or.inl z
      · omega
    · intro p
      obtain ⟨p1, p2⟩ := p
      refine ⟨p1, ?_⟩
      rcases p2 with p2 | p2
      · exact Or.inl (by omega)
      · exact Or.inl (by omega)
  rcases I with ⟨h1, h2⟩ | ⟨L, h1, h2, h3, h4, h5⟩
  · exact Or.inl ⟨h1, fun L' q' v p => h2 L' q' v ((back L' q' v).mp p)⟩
  · exact Or.inr ⟨L, h1, h2, h3, (back L q h2).mpr h4, fun L' q' v p => h5 L' q' v ((back L' q' v).mp p)⟩
theorem pa_end {O : Nat → Prop} {w : Nat → Nat} {s d hl hc : Nat} {q : Nat → Nat} (hsd : s ≠ d) (I : pa_Inv O w s d 5 0 hl hc q) : (hl = 0 ∧ ∀ L' q', ¬ pa_Val O s d L' q') ∨ (∃ L, hl = L + 1 ∧ pa_Best O w s d L q ∧ hc = pa_pc w q L) := by
  rcases I with ⟨h1, h2⟩ | ⟨L, h1, h2, h3, h4, h5⟩
  · exact Or.inl ⟨h1, fun L' q' v => h2 L' q' v ⟨pa_Val1 v hsd, Or.inl (pa_Val5 v)⟩⟩
  · exact Or.inr ⟨L, h1, ⟨h2, pa_Val5 h2, fun L' q' v => h5 L' q' v ⟨pa_Val1 v hsd, Or.inl (pa_Val5 v)⟩⟩, h3⟩
end PATHS
end
section
section CONN
/-! what hangs together -/
def cn_C (P : Nat → Prop) (a b : Nat) : Prop := ∀ S : Nat → Prop, S a → (∀ x y, x < 6 → y < 6 → x ≠ y → S x → P (aa_cd x y) → S y) → S b
theorem cn_refl {P : Nat → Prop} {a : Nat} : cn_C P a a := fun _ h _ => h
theorem cn_trans {P : Nat → Prop} {a b c : Nat} (h1 : cn_C P a b) (h2 : cn_C P b c) : cn_C P a c := fun S hs hc => h2 S (h1 S hs hc) hc
theorem cn_step {P : Nat → Prop} {x y : Nat} (hx : x < 6) (hy : y < 6) (hn : x ≠ y) (hp : P (aa_cd x y)) : cn_C P x y := fun _ hs hc => hc x y hx hy hn hs hp
theorem cn_sym {P : Nat → Prop} {a b : Nat} (h : cn_C P a b) : cn_C P b a := by
  refine h (fun z => cn_C P z a) cn_refl ?_
  intro x y hx hy hn hs hp
  rw [aa_cd_sym] at hp
  exact cn_trans (cn_step hy hx (fun z => hn z.symm) hp) hs
theorem cn_mono {P Q : Nat → Prop} {a b : Nat} (hPQ : ∀ c, c < 36 → P c → Q c) (h : cn_C P a b) : cn_C Q a b := by
  intro S hs hc
  exact h S hs (fun x y hx hy hn hsx hp => hc x y hx hy hn hsx (hPQ _ (aa_cd_lt hx hy) hp))
theorem cn_range {P : Nat → Prop} {a b : Nat} (h : cn_C P a b) (ha : a < 6) : b < 6 := h (fun z => z < 6) ha (fun _ _ _ hy _ _ _ => hy)
theorem cn_of_path {P : Nat → Prop} {s d L : Nat} {q : Nat → Nat} (v : pa_Val P s d L q) : cn_C P s d := by
  have h : ∀ i, i ≤ L → cn_C P s (q i) := by
    intro i
    induction i with
    | zero => intro _; rw [v.1]; exact cn_refl
    | succ i ih =>
      intro hi
      exact cn_trans (ih (by omega)) (cn_step (v.2.2.1 i (by omega)) (v.2.2.1 (i + 1) hi) (v.2.2.2.1 i (i + 1) (by omega) hi) (v.2.2.2.2 i (by omega)))
  have := h L (Nat.le_refl _)
  rw [v.2.1] at this
  exact this
theorem cn_simple {P : Nat → Prop} {s d : Nat} (hs : s < 6) (h : cn_C P s d) : ∃ L q, pa_Val P s d L q := by
  refine h (fun z => ∃ L q, pa_Val P s z L q) ⟨0, fun _ => s, rfl, rfl, fun _ _ => hs, fun i j h1 h2 => by omega, fun i h1 => by omega⟩ ?_
  intro x y hx hy hn ⟨L, q, v1, v2, v3, v4, v5⟩ hp
  by_cases z : ∃ i, i ≤ L ∧ q i = y
  · obtain ⟨i, hi, e⟩ := z
    exact ⟨i, q, v1, e, fun j hj => v3 j (by omega), fun j k h1 h2 => v4 j k h1 (by omega), fun j hj => v5 j (by omega)⟩
  · have zn : ∀ i, i ≤ L → q i ≠ y := fun i hi e => z ⟨i, hi, e⟩
    have e1 : ∀ i, i ≤ L → (fun i => if i ≤ L then q i else y) i = q i := fun i hi => if_pos hi
    have e2 : (fun i => if i ≤ L then q i else y) (L + 1) = y := if_neg (by omega)
    refine ⟨L + 1, fun i => if i ≤ L then q i else y, (e1 0 (by omega)).trans v1, e2, fun i hi => ?_, fun i j hij hj => ?_, fun i hi => ?_⟩
    · by_cases c : i ≤ L
      · rw [e1 i c]; exact v3 i c
      · rw [show i = L + 1 by omega, e2]; exact hy
    · by_cases c : j ≤ L
      · rw [e1 i (by omega), e1 j c]; exact v4 i j hij c
      · rw [show j = L + 1 by omega, e2, e1 i (by omega)]; exact zn i (by omega)
    · by_cases c : i + 1 ≤ L
      · rw [e1 i (by omega), e1 (i + 1) c]; exact v5 i (by omega)
      · have : i = L := by omega
        subst this
        rw [e1 i (by omega), e2, v2]; exact hp
/-- labels of groups -/
def cn_Lab (P : Nat → Prop) (g : Nat → Nat) : Prop := ∀ a b, a < 6 → b < 6 → (g a = g b ↔ cn_C P a b)
theorem cn_lab0 {P : Nat → Prop} {g : Nat → Nat} (hP : ∀ c, c < 36 → ¬ P c) (hg : ∀ v, v < 6 → g v = v) : cn_Lab P g := by
  intro a b ha hb
  rw [hg a ha, hg b hb]
  constructor
  · intro e; subst e; exact cn_refl
  · intro h
    exact h (fun z => a = z) rfl (fun x y hx hy _ _ hp => absurd hp (hP _ (aa_cd_lt hx hy)))
theorem cn_labP {P Q : Nat → Prop} {g : Nat → Nat} (h : cn_Lab P g) (hPQ : ∀ c, c < 36 → (P c ↔ Q c)) : cn_Lab Q g := by
  intro a b ha hb
  rw [h a b ha hb]
  exact ⟨cn_mono (fun c hc => (hPQ c hc).mp), cn_mono (fun c hc => (hPQ c hc).mpr)⟩
theorem cn_join {P : Nat → Prop} {g g' : Nat → Nat} {x y : Nat} (hx : x < 6) (hy : y < 6) (hxy : x ≠ y) (h : cn_Lab P g) (hg : ∀ v, v < 6 → g' v = if g v = g x then g y else g v) : cn_Lab (fun c => P c ∨ c = aa_cd x y) g' := by
  have up : ∀ {a b : Nat}, cn_C P a b → cn_C (fun c => P c ∨ c = aa_cd x y) a b := fun h => cn_mono (fun c _ hc => Or.inl hc) h
  have xy : cn_C (fun c => P c ∨ c = aa_cd x y) x y := cn_step hx hy hxy (Or.inr rfl)
  have gx : g' x = g y := by rw [hg x hx, if_pos rfl]
  have gy : g' y = g y := by rw [hg y hy]; split <;> rfl
  intro a b ha hb
  constructor
  · intro e
    rw [hg a ha, hg b hb] at e
    by_cases c1 : g a = g x
    · by_cases c2 : g b = g x
      · exact up ((h a b ha hb).mp (c1.trans c2.symm))
      · rw [if_pos c1, if_neg c2] at e
        exact cn_trans (up ((h a x ha hx).mp c1)) (cn_trans xy (up ((h y b hy hb).mp e)))
    · by_cases c2 : g b = g x
      · rw [if_neg c1, if_pos c2] at e
        exact cn_trans (up ((h a y ha hy).mp e)) (cn_trans (cn_sym xy) (cn_sym (up ((h b x hb hx).mp c2))))
      · rw [if_neg c1, if_neg c2] at e
        exact up ((h a b ha hb).mp e)
  · intro c
    refine c (fun z => g' a = g' z) rfl ?_
    intro u v hu hv hn e hp
    rw [e]
    rcases hp with hp | hp
    · have := (h u v hu hv).mpr (cn_step hu hv hn hp)
      rw [hg u hu, hg v hv, this]
    · rcases aa_cd_inj hu hv hx hy hp with ⟨e1, e2⟩ | ⟨e1, e2⟩
      · rw [e1, e2, gx, gy]
      · rw [e1, e2, gx, gy]
/-! the widest way -/
def wd_Spec (F : Nat → Prop) (rm : Nat → Nat) (s d M : Nat) : Prop :=
  (M = 0 ∨ cn_C (fun c => F c ∧ M ≤ rm c) s d) ∧ ∀ m, 1 ≤ m → cn_C (fun c => F c ∧ m ≤ rm c) s d → m ≤ M
theorem wd_uniq {F : Nat → Prop} {rm : Nat → Nat} {s d M M' : Nat} (h : wd_Spec F rm s d M) (h' : wd_Spec F rm s d M') : M = M' := by
  have a1 : M ≤ M' := by
    rcases h.1 with z | z
    · omega
    · rcases Nat.eq_zero_or_pos M with y | y
      · omega
      · exact h'.2 M y z
  have a2 : M' ≤ M := by
    rcases h'.1 with z | z
    · omega
    · rcases Nat.eq_zero_or_pos M' with y | y
      · omega
      · exact h.2 M' y z
  omega
/-- the ends are joined by the link c, the widest of those that are left -/
theorem wd_hit {F P O : Nat → Prop} {rm : Nat → Nat} {s d c : Nat} (hF : ∀ x, x < 36 → (F x ↔ P x ∨ O x)) (hc : O c) (hc36 : c < 36) (hpo : ∀ x y, x < 36 → P x → y < 36 → O y → rm y ≤ rm x) (hm : ∀ y, y < 36 → O y → rm y ≤ rm c) (hn : ¬ cn_C P s d) (hj : cn_C (fun x => P x ∨ x = c) s d) : wd_Spec F rm s d (rm c) := by
  refine ⟨Or.inr (cn_mono ?_ hj), fun m h1 h2 => ?_⟩
  · intro x hx hp
    rcases hp with hp | hp
    · exact ⟨(hF x hx).mpr (Or.inl hp), hpo x c hx hp hc36 hc⟩
    · subst hp
      exact ⟨(hF x hx).mpr (Or.inr hc), Nat.le_refl _⟩
  · rcases Nat.lt_or_ge (rm c) m with z | z
    · refine absurd (cn_mono ?_ h2) hn
      intro x hx hp
      rcases (hF x hx).mp hp.1 with y | y
      · exact y
      · have := hm x hx y
        omega
    · exact z
theorem wd_miss {F P : Nat → Prop} {rm : Nat → Nat} {s d : Nat} (hF : ∀ x, x < 36 → (F x → P x)) (hn : ¬ cn_C P s d) : wd_Spec F rm s d 0 := by
  refine ⟨Or.inl rfl, fun m h1 h2 => ?_⟩
  exact absurd (cn_mono (fun x hx hp => hF x hx hp.1) h2) hn
/-- the reference: the best of all paths looked at -/
def wd_Inv (F : Nat → Prop) (rm : Nat → Nat) (s d b num M : Nat) : Prop :=
  (M = 0 ∨ cn_C (fun c => F c ∧ M ≤ rm c) s d) ∧ ∀ m L q, 1 ≤ m → pa_Val (fun c => F c ∧ m ≤ rm c) s d L q → pa_Pre b num L q → m ≤ M
theorem wd_Inv0 {F : Nat → Prop} {rm : Nat → Nat} {s d : Nat} : wd_Inv F rm s d 0 0 0 := by
  refine ⟨Or.inl rfl, fun m L q _ _ p => ?_⟩
  obtain ⟨p1, p2⟩ := p
  rcases p2 with p2 | p2 <;> omega
theorem wd_stepN {F : Nat → Prop} {rm : Nat → Nat} {s d b num M M' : Nat} (hs : s < 6) (hd : d < 6) (hn : num < 6 ^ b) (I : wd_Inv F rm s d b num M) (hM : M ≤ M') (h1 : M' = M ∨ pa_Val (fun c => F c ∧ M' ≤ rm c) s d (b + 1) (pa_cand s d b num)) (h2 : ∀ m, 1 ≤ m → pa_Val (fun c => F c ∧ m ≤ rm c) s d (b + 1) (pa_cand s d b num) → m ≤ M') : wd_Inv F rm s d b (num + 1) M' := by
  refine ⟨?_, fun m L q hm v p => ?_⟩
  · rcases h1 with h1 | h1
    · rw [h1]; exact I.1
    · exact Or.inr (cn_of_path h1)
  · by_cases z : pa_Pre b num L q
    · exact Nat.le_trans (I.2 m L q hm v z) hM
    · obtain ⟨e1, e2⟩ := pa_cover hs hd hn v p z
      subst e1
      exact h2 m hm (pa_Val_c e2 v)
theorem wd_round {F : Nat → Prop} {rm : Nat → Nat} {s d b M : Nat} (I : wd_Inv F rm s d b (6 ^ b) M) : wd_Inv F rm s d (b + 1) 0 M := by
  refine ⟨I.1, fun m L q hm v p => I.2 m L q hm v ?_⟩
  obtain ⟨p1, p2⟩ := p
  refine ⟨p1, ?_⟩
  rcases p2 with p2 | p2
  · rcases Nat.lt_or_ge b L with z | z
    · exact Or.inr ⟨by omega, pa_nm_lt (fun i hi => v.2.2.1 i (by omega))⟩
    · exact Or.inl z
  · omega
theorem wd_end {F : Nat → Prop} {rm : Nat → Nat} {s d M : Nat} (hs : s < 6) (hsd : s ≠ d) (I : wd_Inv F rm s d 5 0 M) : wd_Spec F rm s d M := by
  refine ⟨I.1, fun m hm h => ?_⟩
  obtain ⟨L, q, v⟩ := cn_simple hs h
  exact I.2 m L q hm v ⟨pa_Val1 v hsd, Or.inl (pa_Val5 v)⟩
end CONN
end
section
section DFS
/-! one walk in depth from an end a of the link a - b -/
def df_u (f : Nat → Nat) (i v : Nat) : Nat → Nat := fun j => if j = i then v else f j
theorem df_us {f : Nat → Nat} {i v : Nat} : df_u f i v i = v := if_pos rfl
theorem df_un {f : Nat → Nat} {i v j : Nat} (h : j ≠ i) : df_u f i v j = f j := if_neg h
def df_G (G : Nat → Prop) (a b : Nat) : Nat → Prop := fun c => G c ∧ c ≠ aa_cd a b
/-- the tree: V seen, F left, p above, e entered, t the child of the root above a node, k tried; x the node where the walk is -/
def df_T (G : Nat → Prop) (a b : Nat) (V F : Nat → Prop) (t e p k : Nat → Nat) (x clk : Nat) : Prop :=
  (V a ∧ e a = 0 ∧ x < 6 ∧ V x ∧ ¬ F x) ∧
  (∀ v, v < 6 → ¬ V v → k v = 0) ∧
  (∀ v, v < 6 → V v → ∀ y, y < k v → v ≠ y → G (aa_cd v y) → V y) ∧
  (∀ v, v < 6 → F v → V v ∧ k v = 6) ∧
  (∀ v, v < 6 → V v → v ≠ a → p v < 6 ∧ V (p v) ∧ v ≠ p v ∧ G (aa_cd v (p v)) ∧ e (p v) < e v ∧ (p v = a → t v = v) ∧ (p v ≠ a → t v = t (p v))) ∧
  (∀ v, v < 6 → V v → v ≠ a → t v < 6 ∧ V (t v) ∧ t v ≠ a ∧ p (t v) = a ∧ cn_C (df_G G a b) (t v) v) ∧
  (∀ u v, u < 6 → v < 6 → V u → V v → u ≠ a → v ≠ a → u ≠ v → G (aa_cd u v) → t u = t v) ∧
  (∀ z, z < 6 → V z → ¬ F z → z ≠ a → ¬ F (p z) ∧ ∀ y, y < 6 → V y → ¬ F y → e y < e z → e y ≤ e (p z)) ∧
  (∀ z, z < 6 → V z → ¬ F z → e z ≤ e x) ∧
  (∀ u v, u < 6 → v < 6 → V u → V v → e u = e v → u = v) ∧
  (∀ v, v < 6 → V v → e v ≤ clk)
/-- what leads back: l lowest, B a bridge was seen -/
def df_L (G : Nat → Prop) (a b : Nat) (V F : Nat → Prop) (t p k l : Nat → Nat) (B : Prop) : Prop :=
  (∀ z, z < 6 → V z → z ≠ a → p z ≠ a → G (aa_cd z a) → a < k z → l z = 0) ∧
  (∀ z, z < 6 → V z → z ≠ a → F z → p z ≠ a → l z = 0 → l (p z) = 0) ∧
  (∀ z, z < 6 → V z → z ≠ a → l z = 0 → ∃ y, y < 6 ∧ V y ∧ y ≠ a ∧ t y = t z ∧ y ≠ t z ∧ G (aa_cd y a)) ∧
  (B → ¬ cn_C (df_G G a b) a b) ∧
  (V b → F b → p b = a → (B ∨ cn_C (df_G G a b) a b))
variable {G : Nat → Prop} {a b : Nat} {V F : Nat → Prop} {t e p k l : Nat → Nat} {x clk : Nat} {B : Prop}
theorem df_init {k0 e0 t0 p0 l0 : Nat → Nat} (ha : a < 6) (hk : ∀ v, v < 6 → k0 v = 0) (he : e0 a = 0) : df_T G a b (fun z => z = a) (fun _ => False) t0 e0 p0 k0 a 0 ∧ df_L G a b (fun z => z = a) (fun _ => False) t0 p0 k0 l0 False := by
  refine ⟨⟨⟨rfl, he, ha, rfl, fun z => z⟩, fun v hv _ => hk v hv, ?_, fun v _ h => h.elim, ?_, ?_, ?_, ?_, ?_, ?_, ?_⟩, ?_, ?_, ?_, fun h => h.elim, fun _ h => h.elim⟩
  · intro v hv _ y hy; rw [hk v hv] at hy; omega
  · intro v hv h1 h2; exact absurd h1 h2
  · intro v hv h1 h2; exact absurd h1 h2
  · intro u v hu hv h1 h2 h3; exact absurd h1 h3
  · intro z hz h1 _ h2; exact absurd h1 h2
  · intro z hz h1 _; have h1' : z = a := h1; rw [h1']; exact Nat.le_refl _
  · intro u v hu hv h1 h2 _; have h1' : u = a := h1; have h2' : v = a := h2; rw [h1', h2']
  · intro v hv h1; have h1' : v = a := h1; rw [h1', he]; exact Nat.le_refl _
  · intro z hz h1 h2; exact absurd h1 h2
  · intro z hz h1 h2; exact absurd h1 h2
  · intro z hz h1 h2; exact absurd h1 h2
/-- the nodes of the walk's stack hang below one child of the root -/
theorem df_stack (ha : a < 6) (I : df_T G a b V F t e p k x clk) : ∀ n z y, e z ≤ n → z < 6 → V z → ¬ F z → z ≠ a → y < 6 → V y → ¬ F y → y ≠ a → e y ≤ e z → t y = t z := by
  obtain ⟨⟨i1, i2, i3, i4, i5⟩, i6, i7, i8, i9, i10, i11, i12, i13, i14, i15⟩ := I
  intro n
  induction n with
  | zero =>
    intro z y hn hz vz fz za hy vy fy ya hyz
    exact absurd (i14 z a hz ha vz i1 (by omega)) za
  | succ n ih =>
    intro z y hn hz vz fz za hy vy fy ya hyz
    by_cases ee : e y = e z
    · rw [i14 y z hy hz vy vz ee]
    · obtain ⟨q1, q2, q3, q4, q5, q6, q7⟩ := i9 z hz vz za
      obtain ⟨r1, r2⟩ := i12 z hz vz fz za
      have r3 := r2 y hy vy fy (by omega)
      by_cases pa : p z = a
      · rw [pa, i2] at r3
        exact absurd (i14 y a hy ha vy i1 (by omega)) ya
      · rw [q7 pa]
        exact ih (p z) y (by omega) q1 q2 r1 pa hy vy fy ya r3
theorem df_stackA (ha : a < 6) (I : df_T G a b V F t e p k a clk) {y : Nat} (hy : y < 6) (vy : V y) (fy : ¬ F y) : y = a := by
  obtain ⟨⟨i1, i2, i3, i4, i5⟩, i6, i7, i8, i9, i10, i11, i12, i13, i14, i15⟩ := I
  have := i13 y hy vy fy
  exact i14 y a hy ha vy i1 (by omega)
/-- one more node tried: nothing new -/
theorem df_try (I : df_T G a b V F t e p k x clk) (hv : k x < 6) (h : x ≠ k x → G (aa_cd x (k x)) → V (k x)) : df_T G a b V F t e p (df_u k x (k x + 1)) x clk := by
  obtain ⟨⟨i1, i2, i3, i4, i5⟩, i6, i7, i8, i9, i10, i11, i12, i13, i14, i15⟩ := I
  refine ⟨⟨i1, i2, i3, i4, i5⟩, fun v hv' nv => ?_, fun v hv' vv y hy hn hg => ?_, fun v hv' fv => ?_, i9, i10, i11, i12, i13, i14, i15⟩
  · have : v ≠ x := fun z => nv (z ▸ i4)
    rw [df_un this]; exact i6 v hv' nv
  · by_cases ev : v = x
    · subst ev
      rw [df_us] at hy
      by_cases ey : y = k v
      · subst ey; exact h hn hg
      · exact i7 v hv' vv y (by omega) hn hg
    · rw [df_un ev] at hy
      exact i7 v hv' vv y hy hn hg
  · have : v ≠ x := fun z => i5 (z ▸ fv)
    rw [df_un this]; exact i8 v hv' fv
theorem df_tryL (I : df_T G a b V F t e p k x clk) (J : df_L G a b V F t p k l B) (h : x ≠ a → p x ≠ a → G (aa_cd x a) → k x = a → l x = 0) : df_L G a b V F t p (df_u k x (k x + 1)) l B := by
  obtain ⟨j1, j2, j3, j4, j5⟩ := J
  refine ⟨fun z hz vz za pz hg hk => ?_, j2, j3, j4, j5⟩
  by_cases ez : z = x
  · subst ez
    rw [df_us] at hk
    by_cases ek : k z = a
    · exact h za pz hg ek
    · exact j1 z hz vz za pz hg (by omega)
  · rw [df_un ez] at hk
    exact j1 z hz vz za pz hg hk
/-- a link that leads back to v -/
theorem df_back (ha : a < 6) (I : df_T G a b V F t e p k x clk) (J : df_L G a b V F t p k l B) {v : Nat} (hk : k x = v) (hv : v < 6) (vv : V v) (hn : x ≠ v) (hg : G (aa_cd x v)) (hp : x = a ∨ v ≠ p x) : df_L G a b V F t p (df_u k x (k x + 1)) (df_u l x (min (e v) (l x))) B := by
  obtain ⟨⟨i1, i2, i3, i4, i5⟩, i6, i7, i8, i9, i10, i11, i12, i13, i14, i15⟩ := I
  obtain ⟨j1, j2, j3, j4, j5⟩ := J
  have lz : ∀ z, l z = 0 → df_u l x (min (e v) (l x)) z = 0 := by
    intro z hz
    by_cases ez : z = x
    · subst ez; rw [df_us, hz]; exact Nat.min_zero _
    · rw [df_un ez]; exact hz
  refine ⟨fun z hz vz za pz hgz hkz => ?_, fun z hz vz za fz pz hl => ?_, fun z hz vz za hl => ?_, j4, j5⟩
  · by_cases ez : z = x
    · subst ez
      rw [df_us] at hkz
      by_cases ek : k z = a
      · rw [df_us, ← hk, ek, i2]; exact Nat.zero_min _
      · exact lz z (j1 z hz vz za pz hgz (by omega))
    · rw [df_un ez] at hkz
      exact lz z (j1 z hz vz za pz hgz hkz)
  · have ez : z ≠ x := fun h => i5 (h ▸ fz)
    rw [df_un ez] at hl
    exact lz _ (j2 z hz vz za fz pz hl)
  · by_cases ez : z = x
    · subst ez
      rw [df_us] at hl
      by_cases l0 : l z = 0
      · exact j3 z hz vz za l0
      · have e0 : e v = 0 := by omega
        have ev : v = a := i14 v a hv ha vv i1 (by rw [e0, i2])
        have px : p z ≠ a := by
          rcases hp with hp | hp
          · exact absurd hp za
          · rw [← ev]; exact fun h => hp h.symm
        obtain ⟨q1, q2, q3, q4, q5⟩ := i10 z hz vz za
        refine ⟨z, hz, vz, za, rfl, fun h => ?_, by rw [← ev]; exact hg⟩
        rw [← h] at q4
        exact px q4
    · rw [df_un ez] at hl
      exact j3 z hz vz za hl
/-- a new node v -/
theorem df_enter (ha : a < 6) (hb : b < 6) (I : df_T G a b V F t e p k x clk) {v : Nat} (hk : k x = v) (hv : v < 6) (nv : ¬ V v) (hn : x ≠ v) (hg : G (aa_cd x v)) : df_T G a b (fun z => V z ∨ z = v) F (df_u t v (if x = a then v else t x)) (df_u e v (clk + 1)) (df_u p v x) (df_u k x (k x + 1)) v (clk + 1) := by
  have st := df_stack ha I
  obtain ⟨⟨i1, i2, i3, i4, i5⟩, i6, i7, i8, i9, i10, i11, i12, i13, i14, i15⟩ := I
  have va : v ≠ a := fun h => nv (h ▸ i1)
  have ne : ∀ {z : Nat}, V z → z ≠ v := fun hz h => nv (h ▸ hz)
  have e_o : ∀ {z : Nat}, V z → df_u e v (clk + 1) z = e z := fun hz => df_un (ne hz)
  have p_o : ∀ {z : Nat}, V z → df_u p v x z = p z := fun hz => df_un (ne hz)
  have t_o : ∀ {z : Nat}, V z → df_u t v (if x = a then v else t x) z = t z := fun hz => df_un (ne hz)
  have fv : ¬ F v := fun h => nv (i8 v hv h).1
  have cross : ∀ y, y < 6 → V y → y ≠ a → G (aa_cd v y) → x ≠ a ∧ t y = t x := by
    intro y hy vy ya hgy
    have fy : ¬ F y := by
      intro h
      have k6 := (i8 y hy h).2
      rw [aa_cd_sym] at hgy
      exact nv (i7 y hy vy v (by omega) (ne vy) hgy)
    have le := i13 y hy vy fy
    have xa : x ≠ a := by
      intro h
      rw [h, i2] at le
      exact ya (i14 y a hy ha vy i1 (by omega))
    exact ⟨xa, st (e x) x y (Nat.le_refl _) i3 i4 i5 xa hy vy fy ya le⟩
  refine ⟨⟨Or.inl i1, by rw [e_o i1]; exact i2, hv, Or.inr rfl, fv⟩, ?_, ?_, ?_, ?_, ?_, ?_, ?_, ?_, ?_, ?_⟩
  · intro z hz nz
    have n1 : ¬ V z := fun h => nz (Or.inl h)
    have n2 : z ≠ x := fun h => n1 (h ▸ i4)
    rw [df_un n2]; exact i6 z hz n1
  · intro z hz vz y hy hny hgy
    rcases vz with vz | vz
    · by_cases ez : z = x
      · subst ez
        rw [df_us] at hy
        by_cases ey : y = v
        · exact Or.inr ey
        · exact Or.inl (i7 z hz vz y (by omega) hny hgy)
      · rw [df_un ez] at hy
        exact Or.inl (i7 z hz vz y hy hny hgy)
    · subst vz
      rw [df_un (fun h => hn h.symm), i6 z hz nv] at hy
      omega
  · intro z hz fz
    have h1 := i8 z hz fz
    have h2 : z ≠ x := fun h => i5 (h ▸ fz)
    rw [df_un h2]
    exact ⟨Or.inl h1.1, h1.2⟩
  · intro z hz vz za
    rcases vz with vz | vz
    · obtain ⟨q1, q2, q3, q4, q5, q6, q7⟩ := i9 z hz vz za
      rw [p_o vz, e_o vz, t_o vz, e_o q2, t_o q2]
      exact ⟨q1, Or.inl q2, q3, q4, q5, q6, q7⟩
    · subst vz
      rw [df_us, df_us, df_us, e_o i4, t_o i4]
      have := i15 x i3 i4
      exact ⟨i3, Or.inl i4, fun h => hn h.symm, by rw [aa_cd_sym]; exact hg, by omega, fun h => if_pos h, fun h => if_neg h⟩
  · intro z hz vz za
    rcases vz with vz | vz
    · obtain ⟨q1, q2, q3, q4, q5⟩ := i10 z hz vz za
      rw [t_o vz, p_o q2]
      exact ⟨q1, Or.inl q2, q3, q4, q5⟩
    · subst vz
      rw [df_us]
      by_cases xa : x = a
      · rw [if_pos xa, df_us]
        exact ⟨hz, Or.inr rfl, za, xa, cn_refl⟩
      · rw [if_neg xa]
        obtain ⟨q1, q2, q3, q4, q5⟩ := i10 x i3 i4 xa
        rw [p_o q2]
        refine ⟨q1, Or.inl q2, q3, q4, cn_trans q5 (cn_step i3 hz hn ⟨hg, fun h => ?_⟩)⟩
        rcases aa_cd_inj i3 hz ha hb h with ⟨e1, e2⟩ | ⟨e1, e2⟩
        · exact xa e1
        · exact za e2
  · intro u w hu hw vu vw ua wa uw hgw
    rcases vu with vu | vu
    · rcases vw with vw | vw
      · rw [t_o vu, t_o vw]
        exact i11 u w hu hw vu vw ua wa uw hgw
      · subst vw
        rw [aa_cd_sym] at hgw
        obtain ⟨c1, c2⟩ := cross u hu vu ua hgw
        rw [t_o vu, df_us, if_neg c1]; exact c2
    · subst vu
      rcases vw with vw | vw
      · obtain ⟨c1, c2⟩ := cross w hw vw wa hgw
        rw [t_o vw, df_us, if_neg c1]; exact c2.symm
      · exact absurd vw.symm uw
  · intro z hz vz fz za
    rcases vz with vz | vz
    · obtain ⟨r1, r2⟩ := i12 z hz vz fz za
      obtain ⟨q1, q2, q3, q4, q5, q6, q7⟩ := i9 z hz vz za
      rw [p_o vz, e_o vz, e_o q2]
      refine ⟨r1, fun y hy vy fy hyz => ?_⟩
      rcases vy with vy | vy
      · rw [e_o vy] at hyz ⊢
        exact r2 y hy vy fy hyz
      · subst vy
        rw [df_us] at hyz
        have := i15 z hz vz
        omega
    · subst vz
      rw [df_us, df_us, e_o i4]
      refine ⟨i5, fun y hy vy fy hyz => ?_⟩
      rcases vy with vy | vy
      · rw [e_o vy]; exact i13 y hy vy fy
      · subst vy
        rw [df_us] at hyz; omega
  · intro z hz vz fz
    rw [df_us]
    rcases vz with vz | vz
    · rw [e_o vz]
      have := i15 z hz vz
      omega
    · subst vz; rw [df_us]; exact Nat.le_refl _
  · intro u w hu hw vu vw euw
    rcases vu with vu | vu
    · rcases vw with vw | vw
      · rw [e_o vu, e_o vw] at euw
        exact i14 u w hu hw vu vw euw
      · subst vw
        rw [e_o vu, df_us] at euw
        have := i15 u hu vu
        omega
    · subst vu
      rcases vw with vw | vw
      · rw [e_o vw, df_us] at euw
        have := i15 w hw vw
        omega
      · exact vw.symm
  · intro z hz vz
    rcases vz with vz | vz
    · rw [e_o vz]
      have := i15 z hz vz
      omega
    · subst vz; rw [df_us]; exact Nat.le_refl _
theorem df_enterL (ha : a < 6) (I : df_T G a b V F t e p k x clk) (J : df_L G a b V F t p k l B) {v : Nat} (hk : k x = v) (hv : v < 6) (nv : ¬ V v) (hn : x ≠ v) : df_L G a b (fun z => V z ∨ z = v) F (df_u t v (if x = a then v else t x)) (df_u p v x) (df_u k x (k x + 1)) (df_u l v (clk + 1)) B := by
  obtain ⟨⟨i1, i2, i3, i4, i5⟩, i6, i7, i8, i9, i10, i11, i12, i13, i14, i15⟩ := I
  obtain ⟨j1, j2, j3, j4, j5⟩ := J
  have va : v ≠ a := fun h => nv (h ▸ i1)
  have ne : ∀ {z : Nat}, V z → z ≠ v := fun hz h => nv (h ▸ hz)
  refine ⟨?_, ?_, ?_, j4, ?_⟩
  · intro z hz vz za pz hgz hkz
    rcases vz with vz | vz
    · rw [df_un (ne vz)] at pz ⊢
      by_cases ez : z = x
      · subst ez
        rw [df_us] at hkz
        have : k z ≠ a := fun h => va (hk.symm.trans h)
        exact j1 z hz vz za pz hgz (by omega)
      · rw [df_un ez] at hkz
        exact j1 z hz vz za pz hgz hkz
    · subst vz
      rw [df_un (fun h => hn h.symm), i6 z hz nv] at hkz
      omega
  · intro z hz vz za fz pz hl
    have vz' : V z := (i8 z hz fz).1
    have q2 := (i9 z hz vz' za).2.1
    rw [df_un (ne vz')] at pz hl ⊢
    rw [df_un (ne q2)]
    exact j2 z hz vz' za fz pz hl
  · intro z hz vz za hl
    rcases vz with vz | vz
    · rw [df_un (ne vz)] at hl ⊢
      obtain ⟨y, y1, y2, y3, y4, y5, y6⟩ := j3 z hz vz za hl
      exact ⟨y, y1, Or.inl y2, y3, by rw [df_un (ne y2)]; exact y4, y5, y6⟩
    · subst vz
      rw [df_us] at hl; omega
  · intro vb fb pb
    have b6 : V b := by
      rcases vb with vb | vb
      · exact vb
      · subst vb; exact (i8 b hv fb).1
    rw [df_un (ne b6)] at pb
    exact j5 b6 fb pb
/-- the way back to the node above -/
theorem df_leave (ha : a < 6) (I : df_T G a b V F t e p k x clk) (xa : x ≠ a) (k6 : k x = 6) : df_T G a b V (fun z => F z ∨ z = x) t e p k (p x) clk := by
  obtain ⟨⟨i1, i2, i3, i4, i5⟩, i6, i7, i8, i9, i10, i11, i12, i13, i14, i15⟩ := I
  obtain ⟨q1, q2, q3, q4, q5, q6, q7⟩ := i9 x i3 i4 xa
  obtain ⟨r1, r2⟩ := i12 x i3 i4 i5 xa
  refine ⟨⟨i1, i2, q1, q2, fun h => ?_⟩, i6, i7, ?_, i9, i10, i11, ?_, ?_, i14, i15⟩
  · rcases h with h | h
    · exact r1 h
    · exact q3 h.symm
  · intro v hv fv
    rcases fv with fv | fv
    · exact i8 v hv fv
    · subst fv; exact ⟨i4, k6⟩
  · intro z hz vz fz za
    have fz' : ¬ F z := fun h => fz (Or.inl h)
    obtain ⟨s1, s2⟩ := i12 z hz vz fz' za
    refine ⟨fun h => ?_, fun y hy vy fy hyz => s2 y hy vy (fun h => fy (Or.inl h)) hyz⟩
    rcases h with h | h
    · exact s1 h
    · have h1 := (i9 z hz vz za).2.2.2.2.1
      have h2 := i13 z hz vz fz'
      rw [h] at h1
      omega
  · intro z hz vz fz
    have fz' : ¬ F z := fun h => fz (Or.inl h)
    have zx : z ≠ x := fun h => fz (Or.inr h)
    have h2 := i13 z hz vz fz'
    have h3 : e z ≠ e x := fun h => zx (i14 z x hz i3 vz i4 h)
    exact r2 z hz vz fz' (by omega)
/-- below b nothing leads back: b's part is closed -/
theorem df_bridge (ha : a < 6) (hb : b < 6) (I : df_T G a b V F t e p k b clk) (J : df_L G a b V F t p k l B) (ba : b ≠ a) (k6 : k b = 6) (pb : p b = a) (hl : l b ≠ 0) : ¬ cn_C (df_G G a b) a b := by
  obtain ⟨⟨i1, i2, i3, i4, i5⟩, i6, i7, i8, i9, i10, i11, i12, i13, i14, i15⟩ := I
  obtain ⟨j1, j2, j3, j4, j5⟩ := J
  have tb : t b = b := (i9 b hb i4 ba).2.2.2.2.2.1 pb
  have stk : ∀ y, y < 6 → V y → y ≠ a → y ≠ b → F y := by
    intro y hy vy ya yb
    by_cases f : F y
    · exact f
    · have h1 := i13 y hy vy f
      have h2 : e y ≠ e b := fun h => yb (i14 y b hy hb vy i4 h)
      have h3 := (i12 b hb i4 i5 ba).2 y hy vy f (by omega)
      rw [pb, i2] at h3
      exact absurd (i14 y a hy ha vy i1 (by omega)) ya
  have chain : ∀ n y, e y ≤ n → y < 6 → V y → y ≠ a → t y = b → l y = 0 → False := by
    intro n
    induction n with
    | zero =>
      intro y hn hy vy ya ty ly
      exact ya (i14 y a hy ha vy i1 (by omega))
    | succ n ih =>
      intro y hn hy vy ya ty ly
      by_cases yb : y = b
      · subst yb; exact hl ly
      · obtain ⟨q1, q2, q3, q4, q5, q6, q7⟩ := i9 y hy vy ya
        by_cases pa : p y = a
        · exact yb ((q6 pa).symm.trans ty)
        · exact ih (p y) (by omega) q1 q2 pa ((q7 pa).symm.trans ty) (j2 y hy vy ya (stk y hy vy ya yb) pa ly)
  intro c
  have h := cn_sym c (fun z => z < 6 ∧ V z ∧ z ≠ a ∧ t z = b) ⟨hb, i4, ba, tb⟩ ?_
  · exact h.2.2.1 rfl
  · intro y w hy hw hn hs hg
    obtain ⟨_, vy, ya, ty⟩ := hs
    have ky : k y = 6 := by
      by_cases yb : y = b
      · rw [yb]; exact k6
      · exact (i8 y hy (stk y hy vy ya yb)).2
    have vw : V w := i7 y hy vy w (by omega) hn hg.1
    have wa : w ≠ a := by
      intro wa
      subst wa
      have yb : y ≠ b := by
        intro yb
        subst yb
        exact hg.2 (aa_cd_sym _ _)
      have py : p y ≠ w := fun h => yb (((i9 y hy vy ya).2.2.2.2.2.1 h).symm.trans ty)
      exact chain (e y) y (Nat.le_refl _) hy vy ya ty (j1 y hy vy ya py hg.1 (by omega))
    exact ⟨hw, vw, wa, (i11 y w hy hw vy vw ya wa hn hg.1).symm.trans ty⟩
theorem df_leaveL (ha : a < 6) (hb : b < 6) (hab : a ≠ b) (I : df_T G a b V F t e p k x clk) (J : df_L G a b V F t p k l B) (xa : x ≠ a) (k6 : k x = 6) : df_L G a b V (fun z => F z ∨ z = x) t p k (df_u l (p x) (min (l x) (l (p x)))) (B ∨ (aa_cd (p x) x = aa_cd a b ∧ e (p x) < l x)) := by
  have I0 := I
  have J0 := J
  obtain ⟨⟨i1, i2, i3, i4, i5⟩, i6, i7, i8, i9, i10, i11, i12, i13, i14, i15⟩ := I
  obtain ⟨j1, j2, j3, j4, j5⟩ := J
  obtain ⟨q1, q2, q3, q4, q5, q6, q7⟩ := i9 x i3 i4 xa
  have lz : ∀ z, l z = 0 → df_u l (p x) (min (l x) (l (p x))) z = 0 := by
    intro z hz
    by_cases ez : z = p x
    · subst ez; rw [df_us, hz]; exact Nat.min_zero _
    · rw [df_un ez]; exact hz
  refine ⟨?_, ?_, ?_, ?_, ?_⟩
  · intro z hz vz za pz hg hk
    exact lz z (j1 z hz vz za pz hg hk)
  · intro z hz vz za fz pz hl
    rcases fz with fz | fz
    · by_cases ez : z = p x
      · exact absurd fz (ez ▸ (i12 x i3 i4 i5 xa).1)
      · rw [df_un ez] at hl
        exact lz _ (j2 z hz vz za fz pz hl)
    · subst fz
      rw [df_un q3] at hl
      rw [df_us, hl]; exact Nat.zero_min _
  · intro z hz vz za hl
    by_cases ez : z = p x
    · subst ez
      rw [df_us] at hl
      by_cases l0 : l (p x) = 0
      · exact j3 _ hz vz za l0
      · have lx : l x = 0 := by omega
        rw [← q7 za]
        exact j3 x i3 i4 xa lx
    · rw [df_un ez] at hl
      exact j3 z hz vz za hl
  · intro h
    rcases h with h | ⟨h1, h2⟩
    · exact j4 h
    · rcases aa_cd_inj q1 i3 ha hb h1 with ⟨e1, e2⟩ | ⟨e1, e2⟩
      · subst e2
        exact df_bridge ha hb I0 J0 xa k6 e1 (by omega)
      · exact absurd e2 xa
  · intro vb fb pb
    rcases fb with fb | fb
    · rcases j5 vb fb pb with h | h
      · exact Or.inl (Or.inl h)
      · exact Or.inr h
    · subst fb
      by_cases l0 : l b = 0
      · obtain ⟨y, y1, y2, y3, y4, y5, y6⟩ := j3 b i3 i4 xa l0
        have tb := q6 pb
        rw [tb] at y4 y5
        have c1 := (i10 y y1 y2 y3).2.2.2.2
        rw [y4] at c1
        refine Or.inr (cn_sym (cn_trans c1 (cn_step y1 ha y3 ⟨y6, fun h => ?_⟩)))
        rcases aa_cd_inj y1 ha ha hb h with ⟨e1, e2⟩ | ⟨e1, e2⟩
        · exact y3 e1
        · exact y5 e1
      · refine Or.inl (Or.inr ⟨by rw [pb], ?_⟩)
        rw [pb, i2]; omega
/-- the walk is over -/
theorem df_end (ha : a < 6) (hb : b < 6) (hab : a ≠ b) (hg : G (aa_cd a b)) (I : df_T G a b V F t e p k a clk) (J : df_L G a b V F t p k l B) (k6 : k a = 6) : B ↔ ¬ cn_C (df_G G a b) a b := by
  have sA := fun {y : Nat} => df_stackA ha I (y := y)
  obtain ⟨⟨i1, i2, i3, i4, i5⟩, i6, i7, i8, i9, i10, i11, i12, i13, i14, i15⟩ := I
  obtain ⟨j1, j2, j3, j4, j5⟩ := J
  refine ⟨j4, fun nc => ?_⟩
  have vb : V b := i7 a ha i1 b (by omega) hab hg
  have fb : F b := by
    by_cases f : F b
    · exact f
    · exact absurd (sA hb vb f).symm hab
  have ba : b ≠ a := fun h => hab h.symm
  by_cases pb : p b = a
  · rcases j5 vb fb pb with h | h
    · exact h
    · exact absurd h nc
  · obtain ⟨t1, t2, t3, t4, t5⟩ := i10 b hb vb ba
    have tb : t b ≠ b := fun h => pb (h ▸ t4)
    obtain ⟨q1, q2, q3, q4, q5, q6, q7⟩ := i9 (t b) t1 t2 t3
    rw [t4] at q4
    refine absurd (cn_trans (cn_sym (cn_step t1 ha t3 ⟨q4, fun h => ?_⟩)) t5) nc
    rcases aa_cd_inj t1 ha ha hb h with ⟨e1, e2⟩ | ⟨e1, e2⟩
    · exact t3 e1
    · exact tb e1
end DFS
end
section
section FLOW
/-! flows: what leads out of a set -/
def fl_out (X : Nat → Bool) (r : Nat → Nat) : Nat := aa_sm (fun k => if X (k / 6) = true ∧ X (k % 6) = false then r k else 0) 36
theorem fl_d {a b : Nat} (hb : b < 6) : (6 * a + b) / 6 = a ∧ (6 * a + b) % 6 = b := by omega
/-- one link of the way: l goes from p - v over to v - p -/
def fl_mv (r : Nat → Nat) (l p v : Nat) : Nat → Nat := df_u (df_u r (6 * p + v) (r (6 * p + v) - l)) (6 * v + p) (r (6 * v + p) + l)
theorem fl_mv1 {r : Nat → Nat} {l p v : Nat} (hp : p < 6) (hv : v < 6) (hn : p ≠ v) : fl_mv r l p v (6 * p + v) = r (6 * p + v) - l := by
  unfold fl_mv
  rw [df_un (by omega), df_us]
theorem fl_mv2 {r : Nat → Nat} {l p v : Nat} : fl_mv r l p v (6 * v + p) = r (6 * v + p) + l := df_us
theorem fl_mv3 {r : Nat → Nat} {l p v j : Nat} (h1 : j ≠ 6 * p + v) (h2 : j ≠ 6 * v + p) : fl_mv r l p v j = r j := by
  unfold fl_mv
  rw [df_un h2, df_un h1]
theorem fl_step {X : Nat → Bool} {r : Nat → Nat} {l p v : Nat} (hp : p < 6) (hv : v < 6) (hn : p ≠ v) (hl : l ≤ r (6 * p + v)) : fl_out X (fl_mv r l p v) + (if X p = true then l else 0) = fl_out X r + (if X v = true then l else 0) := by
  have u1 := aa_sm_upd (f := fun k => if X (k / 6) = true ∧ X (k % 6) = false then r k else 0) (g := fun k => if X (k / 6) = true ∧ X (k % 6) = false then df_u r (6 * p + v) (r (6 * p + v) - l) k else 0) (i := 6 * p + v) (n := 36) (by omega) (by
    intro j hj
    show (if X (j / 6) = true ∧ X (j % 6) = false then df_u r (6 * p + v) (r (6 * p + v) - l) j else 0) = (if X (j / 6) = true ∧ X (j % 6) = false then r j else 0)
    rw [df_un hj])
  have u2 := aa_sm_upd (f := fun k => if X (k / 6) = true ∧ X (k % 6) = false then df_u r (6 * p + v) (r (6 * p + v) - l) k else 0) (g := fun k => if X (k / 6) = true ∧ X (k % 6) = false then fl_mv r l p v k else 0) (i := 6 * v + p) (n := 36) (by omega) (by
    intro j hj
    show (if X (j / 6) = true ∧ X (j % 6) = false then fl_mv r l p v j else 0) = (if X (j / 6) = true ∧ X (j % 6) = false then df_u r (6 * p + v) (r (6 * p + v) - l) j else 0)
    unfold fl_mv
    rw [df_un hj])
  try dsimp only at u1 u2
  rw [(fl_d (a := p) hv).1, (fl_d (a := p) hv).2, df_us] at u1
  rw [(fl_d (a := v) hp).1, (fl_d (a := v) hp).2, fl_mv2, df_un (by omega)] at u2
  unfold fl_out
  cases hXp : X p <;> cases hXv : X v <;> simp only [hXp, hXv, if_true, if_false, and_true, and_false, true_and, false_and, reduceCtorEq] at u1 u2 ⊢ <;> omega
/-- a walk back over the way: ch 0 the far end .. ch K the near one -/
def fl_Way (r : Nat → Nat) (s d K : Nat) (ch : Nat → Nat) : Prop :=
  ch 0 = d ∧ ch K = s ∧ (∀ i, i ≤ K → ch i < 6) ∧ (∀ i j, i < j → j ≤ K → ch i ≠ ch j) ∧ (∀ i, i < K → 0 < r (6 * ch (i + 1) + ch i))
def fl_rs (r ch : Nat → Nat) (l : Nat) : Nat → Nat → Nat
  | 0 => r
  | i + 1 => fl_mv (fl_rs r ch l i) l (ch (i + 1)) (ch i)
theorem fl_rss (r ch : Nat → Nat) (l i : Nat) : fl_rs r ch l (i + 1) = fl_mv (fl_rs r ch l i) l (ch (i + 1)) (ch i) := rfl
theorem fl_keep {r ch : Nat → Nat} {s d K l : Nat} (w : fl_Way r s d K ch) : ∀ i, i ≤ K → ∀ j, i ≤ j → j < K → fl_rs r ch l i (6 * ch (j + 1) + ch j) = r (6 * ch (j + 1) + ch j) := by
  obtain ⟨w1, w2, w3, w4, w5⟩ := w
  intro i
  induction i with
  | zero => intro _ j _ _; rfl
  | succ i ih =>
    intro hi j hj hK
    rw [fl_rss, fl_mv3, ih (by omega) j (by omega) hK]
    · intro h
      have a1 := w3 i (by omega)
      have a2 := w3 j (by omega)
      exact w4 i j (by omega) (by omega) (by omega)
    · intro h
      have a1 := w3 i (by omega)
      have a2 := w3 j (by omega)
      have a3 := w3 (i + 1) (by omega)
      have a4 := w3 (j + 1) (by omega)
      exact w4 i (j + 1) (by omega) (by omega) (by omega)
theorem fl_pairS {r : Nat → Nat} {l p v : Nat} (hp : p < 6) (hv : v < 6) (hn : p ≠ v) (hl : l ≤ r (6 * p + v)) {x y : Nat} (hx : x < 6) (hy : y < 6) : fl_mv r l p v (6 * x + y) + fl_mv r l p v (6 * y + x) = r (6 * x + y) + r (6 * y + x) := by
  by_cases c1 : x = p ∧ y = v
  · obtain ⟨rfl, rfl⟩ := c1
    rw [fl_mv1 hx hy hn, fl_mv2]; omega
  · by_cases c2 : x = v ∧ y = p
    · obtain ⟨rfl, rfl⟩ := c2
      rw [fl_mv1 hy hx hn, fl_mv2]; omega
    · rw [fl_mv3 (by omega) (by omega), fl_mv3 (by omega) (by omega)]
theorem fl_all {r ch : Nat → Nat} {s d K l : Nat} (w : fl_Way r s d K ch) (hl : ∀ i, i < K → l ≤ r (6 * ch (i + 1) + ch i)) : ∀ i, i ≤ K → (∀ X : Nat → Bool, fl_out X (fl_rs r ch l i) + (if X (ch i) = true then l else 0) = fl_out X r + (if X d = true then l else 0)) ∧ (∀ x y, x < 6 → y < 6 → fl_rs r ch l i (6 * x + y) + fl_rs r ch l i (6 * y + x) = r (6 * x + y) + r (6 * y + x)) := by
  have kp := fl_keep (l := l) w
  obtain ⟨w1, w2, w3, w4, w5⟩ := w
  intro i
  induction i with
  | zero => intro _; exact ⟨fun X => by rw [w1]; rfl, fun _ _ _ _ => rfl⟩
  | succ i ih =>
    intro hi
    obtain ⟨h1, h2⟩ := ih (by omega)
    have n1 : ch (i + 1) ≠ ch i := fun h => w4 i (i + 1) (by omega) hi h.symm
    have l1 : l ≤ fl_rs r ch l i (6 * ch (i + 1) + ch i) := by
      rw [kp i (by omega) i (Nat.le_refl _) (by omega)]
      exact hl i (by omega)
    refine ⟨fun X => ?_, fun x y hx hy => ?_⟩
    · rw [fl_rss, fl_step (w3 _ hi) (w3 _ (by omega)) n1 l1]
      exact h1 X
    · rw [fl_rss, fl_pairS (w3 _ hi) (w3 _ (by omega)) n1 l1 hx hy]
      exact h2 x y hx hy
/-- the flow so far -/
def fl_Inv (r0 : Nat → Nat) (s d tot : Nat) (r : Nat → Nat) : Prop :=
  (∀ X : Nat → Bool, X s = true → X d = false → fl_out X r + tot = fl_out X r0) ∧ (∀ x y, x < 6 → y < 6 → r (6 * x + y) + r (6 * y + x) = r0 (6 * x + y) + r0 (6 * y + x))
theorem fl_fill {r0 r ch : Nat → Nat} {s d K l tot : Nat} (I : fl_Inv r0 s d tot r) (w : fl_Way r s d K ch) (hl : ∀ i, i < K → l ≤ r (6 * ch (i + 1) + ch i)) : fl_Inv r0 s d (tot + l) (fl_rs r ch l K) := by
  obtain ⟨h1, h2⟩ := fl_all w hl K (Nat.le_refl _)
  refine ⟨fun X xs xd => ?_, fun x y hx hy => ?_⟩
  · have e1 := h1 X
    rw [w.2.1, if_pos xs, xd, if_neg (by decide)] at e1
    have e2 := I.1 X xs xd
    omega
  · rw [h2 x y hx hy]; exact I.2 x y hx hy
/-- the answer: the least cut -/
def fl_Spec (r0 : Nat → Nat) (s d tot : Nat) : Prop :=
  (∀ X : Nat → Bool, X s = true → X d = false → tot ≤ fl_out X r0) ∧ ∃ X : Nat → Bool, X s = true ∧ X d = false ∧ tot = fl_out X r0
theorem fl_uniq {r0 : Nat → Nat} {s d m n : Nat} (h : fl_Spec r0 s d m) (h' : fl_Spec r0 s d n) : m = n := by
  obtain ⟨a1, X, a2, a3, a4⟩ := h
  obtain ⟨b1, Z, b2, b3, b4⟩ := h'
  have := a1 Z b2 b3
  have := b1 X a2 a3
  omega
theorem fl_end {r0 r : Nat → Nat} {s d tot : Nat} (R : Nat → Prop) (I : fl_Inv r0 s d tot r) (hs : R s) (hd : ¬ R d) (hc : ∀ a b, a < 6 → b < 6 → R a → 0 < r (6 * a + b) → R b) : fl_Spec r0 s d tot := by
  refine ⟨fun X xs xd => ?_, ?_⟩
  · have := I.1 X xs xd
    omega
  · refine ⟨fun v => @decide (R v) (Classical.propDecidable _), ?_, ?_, ?_⟩
    · exact @decide_eq_true _ (Classical.propDecidable _) hs
    · exact @decide_eq_false _ (Classical.propDecidable _) hd
    · have h1 := I.1 (fun v => @decide (R v) (Classical.propDecidable _)) (@decide_eq_true _ (Classical.propDecidable _) hs) (@decide_eq_false _ (Classical.propDecidable _) hd)
      have h2 : fl_out (fun v => @decide (R v) (Classical.propDecidable _)) r = 0 := by
        refine aa_sm_z fun k hk => ?_
        try dsimp only
        split
        · rename_i h
          have ha : R (k / 6) := @of_decide_eq_true _ (Classical.propDecidable _) h.1
          have hb : ¬ R (k % 6) := @of_decide_eq_false _ (Classical.propDecidable _) h.2
          rcases Nat.eq_zero_or_pos (r k) with z | z
          · exact z
          · refine absurd (hc (k / 6) (k % 6) (by omega) (by omega) ha ?_) hb
            rw [show 6 * (k / 6) + k % 6 = k by omega]
            exact z
        · rfl
      omega
/-- the number of rounds is below 600 -/
theorem fl_bound {r0 r : Nat → Nat} {s d tot : Nat} (I : fl_Inv r0 s d tot r) (hsd : s ≠ d) (hb : ∀ k, k < 36 → r0 k ≤ 100) (hs : s < 6) : tot ≤ 600 - 1 := by
  have h := I.1 (fun v => decide (v = s)) (decide_eq_true rfl) (decide_eq_false (fun h => hsd h.symm))
  have h2 : fl_out (fun v => decide (v = s)) r0 ≤ aa_sm (fun k => if k / 6 = s ∧ k % 6 ≠ s then 100 else 0) 36 := by
    refine aa_sm_le fun k hk => ?_
    try dsimp only
    split
    · rename_i h
      rw [if_pos ⟨of_decide_eq_true h.1, of_decide_eq_false h.2⟩]
      exact hb k hk
    · exact Nat.zero_le _
  have h3 : ∀ s, s < 6 → aa_sm (fun k => if k / 6 = s ∧ k % 6 ≠ s then 100 else 0) 36 ≤ 500 := by decide +kernel
  have := h3 s hs
  omega
/-- a set of nodes as bits -/
theorem fl_mask (X : Nat → Bool) : ∃ m, m < 64 ∧ ∀ v, v < 6 → m.testBit v = X v := by
  have h : ∀ b0 b1 b2 b3 b4 b5 : Bool, ∃ m, m < 64 ∧ Nat.testBit m 0 = b0 ∧ Nat.testBit m 1 = b1 ∧ Nat.testBit m 2 = b2 ∧ Nat.testBit m 3 = b3 ∧ Nat.testBit m 4 = b4 ∧ Nat.testBit m 5 = b5 := by
    intro b0 b1 b2 b3 b4 b5
    refine ⟨b0.toNat + 2 * b1.toNat + 4 * b2.toNat + 8 * b3.toNat + 16 * b4.toNat + 32 * b5.toNat, ?_⟩
    cases b0 <;> cases b1 <;> cases b2 <;> cases b3 <;> cases b4 <;> cases b5 <;> decide
  obtain ⟨m, h1, m0, m1, m2, m3, m4, m5⟩ := h (X 0) (X 1) (X 2) (X 3) (X 4) (X 5)
  refine ⟨m, h1, fun v hv => ?_⟩
  have : v = 0 ∨ v = 1 ∨ v = 2 ∨ v = 3 ∨ v = 4 ∨ v = 5 := by omega
  rcases this with rfl | rfl | rfl | rfl | rfl | rfl
  · exact m0
  · exact m1
  · exact m2
  · exact m3
  · exact m4
  · exact m5
theorem fl_out_c {X Z : Nat → Bool} {r : Nat → Nat} (h : ∀ v, v < 6 → X v = Z v) : fl_out X r = fl_out Z r := by
  refine aa_sm_eq fun k hk => ?_
  try dsimp only
  rw [h (k / 6) (by omega), h (k % 6) (by omega)]
/-- two sums over ordered pairs agree if they agree over each pair -/
theorem fl_pairs {f g : Nat → Nat} (h0 : ∀ a, a < 6 → f (7 * a) = g (7 * a)) (h : ∀ a b, a < b → b < 6 → f (6 * a + b) + f (6 * b + a) = g (6 * a + b) + g (6 * b + a)) : aa_sm f 36 = aa_sm g 36 := by
  have z0 := h0 0 (by omega)
  have z1 := h0 1 (by omega)
  have z2 := h0 2 (by omega)
  have z3 := h0 3 (by omega)
  have z4 := h0 4 (by omega)
  have z5 := h0 5 (by omega)
  have a01 := h 0 1 (by omega) (by omega)
  have a02 := h 0 2 (by omega) (by omega)
  have a03 := h 0 3 (by omega) (by omega)
  have a04 := h 0 4 (by omega) (by omega)
  have a05 := h 0 5 (by omega) (by omega)
  have a12 := h 1 2 (by omega) (by omega)
  have a13 := h 1 3 (by omega) (by omega)
  have a14 := h 1 4 (by omega) (by omega)
  have a15 := h 1 5 (by omega) (by omega)
  have a23 := h 2 3 (by omega) (by omega)
  have a24 := h 2 4 (by omega) (by omega)
  have a25 := h 2 5 (by omega) (by omega)
  have a34 := h 3 4 (by omega) (by omega)
  have a35 := h 3 5 (by omega) (by omega)
  have a45 := h 4 5 (by omega) (by omega)
  simp only [aa_sm, Nat.reduceMul, Nat.reduceAdd] at *
  omega
/-- a set's cut, by links -/
theorem fl_cut {X : Nat → Bool} {r0 rm : Nat → Nat} {Fb : Nat → Bool} (h0 : ∀ a b, a < 6 → b < 6 → r0 (6 * a + b) = if a ≠ b ∧ Fb (aa_cd a b) = true then rm (aa_cd a b) else 0) (hF : ∀ c, c < 36 → Fb c = true → c / 6 < c % 6) : fl_out X r0 = aa_sm (fun c => if X (c / 6) ≠ X (c % 6) ∧ Fb c = true then rm c else 0) 36 := by
  refine fl_pairs (fun a ha => ?_) (fun a b hab hb => ?_)
  · try dsimp only
    rw [if_neg, if_neg]
    · intro h
      have := hF (7 * a) (by omega) h.2
      omega
    · intro h
      rw [show 7 * a / 6 = a by omega, show 7 * a % 6 = a by omega] at h
      exact absurd (h.1.symm.trans h.2) (by decide)
  · have ea : (6 * a + b) / 6 = a := by omega
    have eb : (6 * a + b) % 6 = b := by omega
    have ec : (6 * b + a) / 6 = b := by omega
    have ed : (6 * b + a) % 6 = a := by omega
    have c1 : aa_cd a b = 6 * a + b := by unfold aa_cd; rw [if_neg (by omega)]
    have c2 : aa_cd b a = 6 * a + b := by unfold aa_cd; rw [if_pos (by omega)]
    have nf : ¬ Fb (6 * b + a) = true := by
      intro h
      have := hF _ (by omega) h
      omega
    have n1 : a ≠ b := by omega
    have n2 : b ≠ a := by omega
    try dsimp only
    rw [h0 a b (by omega) hb, h0 b a hb (by omega), ea, eb, ec, ed, c1, c2]
    simp only [nf, n1, n2, and_false, if_false, ne_eq, not_false_eq_true, true_and]
    cases X a <;> cases X b <;> simp
end FLOW
end
section
section POT
/-! settling ends: weights by priority -/
def po_2 (R : Nat → Nat) : Nat := 1 + aa_sm (fun t => if R t = 3 then 1 else 0) 8
def po_1 (R : Nat → Nat) : Nat := 1 + aa_sm (fun t => if R t = 3 then 1 else if R t = 2 then po_2 R else 0) 8
def po_0 (R : Nat → Nat) : Nat := 1 + aa_sm (fun t => if R t = 3 then 1 else if R t = 2 then po_2 R else if R t = 1 then po_1 R else 0) 8
def po_U (R : Nat → Nat) (p : Nat) : Nat := if p = 3 then 1 else if p = 2 then po_2 R else if p = 1 then po_1 R else if p = 0 then po_0 R else 0
theorem po_rec {R : Nat → Nat} (hR : ∀ t, t < 8 → R t ≤ 3) {p : Nat} (hp : p ≤ 3) : po_U R p = 1 + aa_sm (fun t => if p < R t then po_U R (R t) else 0) 8 := by
  have h : p = 0 ∨ p = 1 ∨ p = 2 ∨ p = 3 := by omega
  have hc : ∀ t, t < 8 → R t = 0 ∨ R t = 1 ∨ R t = 2 ∨ R t = 3 := by
    intro t ht
    have := hR t ht
    omega
  rcases h with rfl | rfl | rfl | rfl
  · show po_0 R = _
    unfold po_0
    refine congrArg (1 + ·) (aa_sm_eq fun t ht => ?_)
    rcases hc t ht with e | e | e | e <;> simp [e, po_U]
  · show po_1 R = _
    unfold po_1
    refine congrArg (1 + ·) (aa_sm_eq fun t ht => ?_)
    rcases hc t ht with e | e | e | e <;> simp [e, po_U]
  · show po_2 R = _
    unfold po_2
    refine congrArg (1 + ·) (aa_sm_eq fun t ht => ?_)
    rcases hc t ht with e | e | e | e <;> simp [e, po_U]
  · show 1 = _
    rw [aa_sm_z]
    intro t ht
    rcases hc t ht with e | e | e | e <;> simp [e]
def po_Phi (R : Nat → Nat) (pl : Nat → Bool) : Nat := aa_sm (fun t => if pl t = true then po_U R (R t) else 0) 8
theorem po_one {t0 c : Nat} (h : t0 < 8) : aa_sm (fun t => if t = t0 then c else 0) 8 = c := by
  have := aa_sm_upd (f := fun _ => 0) (g := fun t => if t = t0 then c else 0) (i := t0) (n := 8) h (fun j hj => if_neg hj)
  have z : aa_sm (fun _ => 0) 8 = 0 := aa_sm_z (fun _ _ => rfl)
  try dsimp only at this
  rw [if_pos rfl, z] at this
  omega
theorem po_grow {R : Nat → Nat} {pl pl' : Nat → Bool} {t0 : Nat} (hR : ∀ t, t < 8 → R t ≤ 3) (h0 : t0 < 8) (hn : pl t0 = false) (hy : pl' t0 = true) (hk : ∀ t, t < 8 → t ≠ t0 → R t ≤ R t0 → pl t = true → pl' t = true) : po_Phi R pl + 1 ≤ po_Phi R pl' := by
  have e := po_rec hR (hR t0 h0)
  have key : aa_sm (fun t => (if pl t = true then po_U R (R t) else 0) + (if t = t0 then po_U R (R t0) else 0)) 8 ≤ aa_sm (fun t => (if pl' t = true then po_U R (R t) else 0) + (if R t0 < R t then po_U R (R t) else 0)) 8 := by
    refine aa_sm_le fun t ht => ?_
    try dsimp only
    by_cases c : t = t0
    · subst c
      rw [hn, hy, if_pos rfl, if_pos rfl]
      simp
    · rw [if_neg c]
      by_cases c2 : R t ≤ R t0
      · cases hp : pl t
        · simp
        · rw [hk t ht c c2 hp]
          simp
      · rw [if_pos (show R t0 < R t by omega)]
        split <;> omega
  rw [aa_sm_add, aa_sm_add, po_one h0] at key
  unfold po_Phi
  omega
theorem po_cnt {R : Nat → Nat} {A B C : Nat} : ∀ n, (∀ t, t < n → R t ≤ 3) → aa_sm (fun t => if R t = 3 then 1 else if R t = 2 then A else if R t = 1 then B else if R t = 0 then C else 0) n = aa_sm (fun t => if R t = 3 then 1 else 0) n + aa_sm (fun t => if R t = 2 then 1 else 0) n * A + aa_sm (fun t => if R t = 1 then 1 else 0) n * B + aa_sm (fun t => if R t = 0 then 1 else 0) n * C := by
  intro n
  induction n with
  | zero => intro _; simp [aa_sm]
  | succ n ih =>
    intro h
    have h1 := ih (fun t ht => h t (by omega))
    have h2 := h n (by omega)
    rw [aa_sms, aa_sms, aa_sms, aa_sms, aa_sms, h1]
    have hc : R n = 0 ∨ R n = 1 ∨ R n = 2 ∨ R n = 3 := by omega
    rcases hc with e | e | e | e <;> simp [e, Nat.add_mul] <;> omega
theorem po_tot {R : Nat → Nat} : ∀ n, (∀ t, t < n → R t ≤ 3) → aa_sm (fun t => if R t = 3 then 1 else 0) n + aa_sm (fun t => if R t = 2 then 1 else 0) n + aa_sm (fun t => if R t = 1 then 1 else 0) n + aa_sm (fun t => if R t = 0 then 1 else 0) n = n := by
  intro n
  induction n with
  | zero => intro _; rfl
  | succ n ih =>
    intro h
    have h1 := ih (fun t ht => h t (by omega))
    have h2 := h n (by omega)
    rw [aa_sms, aa_sms, aa_sms, aa_sms]
    have hc : R n = 0 ∨ R n = 1 ∨ R n = 2 ∨ R n = 3 := by omega
    rcases hc with e | e | e | e <;> simp [e] <;> omega
theorem po_fin : ∀ x, x < 9 → ∀ y, y < 9 → ∀ z, z < 9 → x + y + z ≤ 8 → x + y * (1 + x) + z * (1 + (x + y * (1 + x))) + (8 - x - y - z) * (1 + (x + y * (1 + x) + z * (1 + (x + y * (1 + x))))) < 4000 := by decide +kernel
theorem po_bound {R : Nat → Nat} {pl : Nat → Bool} (hR : ∀ t, t < 8 → R t ≤ 3) : po_Phi R pl < 4000 := by
  have t := po_tot 8 hR
  have e2 : po_2 R = 1 + aa_sm (fun t => if R t = 3 then 1 else 0) 8 := rfl
  have e1 : po_1 R = 1 + (aa_sm (fun t => if R t = 3 then 1 else 0) 8 + aa_sm (fun t => if R t = 2 then 1 else 0) 8 * po_2 R) := by
    have h := po_cnt (R := R) (A := po_2 R) (B := 0) (C := 0) 8 hR
    simp only [Nat.mul_zero, Nat.add_zero] at h
    rw [← h]
    unfold po_1
    refine congrArg (1 + ·) (aa_sm_eq fun t _ => ?_)
    try dsimp only
    split
    · rfl
    · split
      · rfl
      · split
        · rfl
        · split <;> rfl
  have e0 : po_0 R = 1 + (aa_sm (fun t => if R t = 3 then 1 else 0) 8 + aa_sm (fun t => if R t = 2 then 1 else 0) 8 * po_2 R + aa_sm (fun t => if R t = 1 then 1 else 0) 8 * po_1 R) := by
    have h := po_cnt (R := R) (A := po_2 R) (B := po_1 R) (C := 0) 8 hR
    simp only [Nat.mul_zero, Nat.add_zero] at h
    rw [← h]
    unfold po_0
    refine congrArg (1 + ·) (aa_sm_eq fun t _ => ?_)
    try dsimp only
    split
    · rfl
    · split
      · rfl
      · split
        · rfl
        · split <;> rfl
  have eP : po_Phi R pl ≤ aa_sm (fun t => if R t = 3 then 1 else 0) 8 + aa_sm (fun t => if R t = 2 then 1 else 0) 8 * po_2 R + aa_sm (fun t => if R t = 1 then 1 else 0) 8 * po_1 R + aa_sm (fun t => if R t = 0 then 1 else 0) 8 * po_0 R := by
    rw [← po_cnt 8 hR]
    refine aa_sm_le fun t _ => ?_
    try dsimp only
    split
    · exact Nat.le_refl _
    · exact Nat.zero_le _
  have f := po_fin (aa_sm (fun t => if R t = 3 then 1 else 0) 8) (by omega) (aa_sm (fun t => if R t = 2 then 1 else 0) 8) (by omega) (aa_sm (fun t => if R t = 1 then 1 else 0) 8) (by omega) (by omega)
  rw [← e2] at f
  rw [show 8 - aa_sm (fun t => if R t = 3 then 1 else 0) 8 - aa_sm (fun t => if R t = 2 then 1 else 0) 8 - aa_sm (fun t => if R t = 1 then 1 else 0) 8 = aa_sm (fun t => if R t = 0 then 1 else 0) 8 by omega] at f
  rw [← e1, ← e0] at f
  omega
end POT
end
section
section XA
/-! the component: loads, rooms, links that may be used -/
def tn_v (f : Nat → Int32) (g : Nat → Nat) (n m : Nat) : Prop := ∀ t, t < n → f t = nI (g t) ∧ g t ≤ m
def tn_XO (pl : Nat → Int32) (us : Nat → Int64) (ov : Nat → Nat → Bool) : Prop := ∀ t c, t < 8 → c < 36 → (ov t c = true ↔ ¬ pl t = 0 ∧ ((us t >>> ((nI c).toInt64 &&& 63)) &&& 1) = 1)
def tn_f (ov : Nat → Nat → Bool) (B R : Nat → Nat) (c p but t : Nat) : Nat := if t ≠ but ∧ R t ≤ p ∧ ov t c = true then B t else 0
def tn_tk (ov : Nat → Nat → Bool) (B R : Nat → Nat) (c p but : Nat) : Nat := aa_sm (tn_f ov B R c p but) 8
def tn_mp (th up cl : Nat → Int32) (x : Int32) (c : Nat) : Prop := ¬ th c = 0 ∧ ¬ up c = 0 ∧ (cl c &&& x) = 0
def tn_O (th up cl : Nat → Int32) (ov : Nat → Nat → Bool) (B R K : Nat → Nat) (p : Nat) (x : Int32) (b but c : Nat) : Prop := tn_mp th up cl x c ∧ tn_tk ov B R c p but + b ≤ K c
def tn_Op (op : Nat → Int32) (O : Nat → Prop) : Prop := ∀ c, c < 36 → (¬ op c = 0 ↔ c / 6 < c % 6 ∧ O c)
def tn_Bt (x : Int32) (but : Nat) : Prop := ∀ t, t < 8 → (nI t = x ↔ t = but)
theorem tn_bt8 : tn_Bt (-1) 8 := by
  intro t ht
  exact ⟨fun h => absurd h (aa_m1n (by omega)), fun h => by omega⟩
theorem tn_btN {t : Nat} (ht : t < 8) : tn_Bt (nI t) t := by
  intro s hs
  exact nI_eq (by omega) (by omega)
variable {gc gk gb : Int32} {th up co ca cl ex pl fi la bw pr av cn pa fo op ct lk dn gp rs cf qu en lo ab tr : Nat → Int32} {us : Nat → Int64}
variable {w K B R : Nat → Nat} {ov : Nat → Nat → Bool}
theorem tn_tk_bd (hB : tn_v bw B 8 100) {c p but : Nat} : tn_tk ov B R c p but ≤ 800 := by
  refine aa_sm_bd (n := 8) (B := 100) fun t ht => ?_
  unfold tn_f
  split
  · exact (hB t ht).2
  · exact Nat.zero_le _
theorem xa_isCode {post : Int32 → Prop} {c : Nat} (hc : c < 36) (h1 : c / 6 < c % 6 → post 1) (h0 : ¬ c / 6 < c % 6 → post 0) : wpX_isCode post (nI c) := by
  refine br_f (nI_pos (by omega)) (br_f (nI_ge (b := 36) (by omega) (by omega)) ⟨aa_6n, aa_6n, ?_⟩)
  rw [aa_mod6 (by omega), aa_div6 (by omega)]
  exact pk_le (c % 6) (c / 6) (fun h => h0 (by omega)) (fun h => h1 (by omega))
theorem xa_codeOf {post : Int32 → Prop} {a b : Nat} (ha : a < 6) (hb : b < 6) (h : post (nI (aa_cd a b))) : wpX_codeOf post (nI a) (nI b) := by
  unfold wpX_codeOf
  unfold aa_cd at h
  refine pk_le b a (fun hl => ?_) (fun hl => ?_)
  · rw [if_pos hl] at h
    rw [aa_6]; exact h
  · rw [if_neg (by omega)] at h
    rw [aa_6]; exact h
theorem xa_isOver {post : Int32 → Prop} {t c : Nat} (ht : t < 8) (hc : c < 36) (hO : tn_XO pl us ov) (h1 : ov t c = true → post 1) (h0 : ov t c = false → post 0) : wpX_isOver post (gc, gk, gb, th, up, co, ca, cl, ex, pl, fi, la, bw, pr, av, cn, pa, us, fo, op, ct, lk, dn, gp, rs, cf, qu, en, lo, ab, tr) (nI t) (nI c) := by
  unfold wpX_isOver
  dsimp only
  rw [nI_clamp (show t < 2 ^ 31 by omega)]
  have iff := hO t c ht hc
  exact ⟨vp_in_nI ht (by omega), br_c (fun hp => h0 (ts_nt (fun e => (iff.mp e).1 hp))) (fun hp => ⟨vp_in_nI ht (by omega), br_c (fun hu => h1 (iff.mpr ⟨hp, hu⟩)) (fun hu => h0 (ts_nt (fun e => hu (iff.mp e).2)))⟩)⟩
theorem xa_load_l {post : Int32 → Prop} {c : Nat} (hc : c < 36) (hO : tn_XO pl us ov) (hB : tn_v bw B 8 100) (hR : tn_v pr R 8 3) (h : post (nI (tn_tk ov B R c 3 8))) : ∀ d i, i + d = 8 → wX_loadOf_4 post (nI c) gc gk gb th up co ca cl ex pl fi la bw pr av cn pa us fo op ct lk dn gp rs cf qu en lo ab tr (d + 1) (nI (aa_sm (tn_f ov B R c 3 8) i)) (nI i) := by
  intro d
  induction d with
  | zero =>
    intro i hi
    have e : i = 8 := by omega
    subst e
    exact br_t (nI_le (a := 8) (by omega) (by omega)) h
  | succ d ih =>
    intro i hi
    refine br_f (nI_ge (b := 8) (by omega) (by omega)) (xa_isOver (by omega) hc hO (fun ho => ?_) (fun ho => ?_))
    · refine br_f (by decide) ⟨vp_in_nI (by omega) (by omega), nm_r (e' := nI (aa_sm (tn_f ov B R c 3 8) (i + 1))) ?_ (nm_r (nI_1 i) (ih (i + 1) (by omega)))⟩
      rw [nI_clamp (by omega), (hB i (by omega)).1, nI_add, aa_sms]
      unfold tn_f
      rw [if_pos ⟨by omega, (hR i (by omega)).2, ho⟩]
    · refine br_t rfl (nm_r (e' := nI (aa_sm (tn_f ov B R c 3 8) (i + 1))) ?_ (nm_r (nI_1 i) (ih (i + 1) (by omega))))
      rw [aa_add0, aa_sms]
      unfold tn_f
      rw [if_neg (fun z => by rw [ho] at z; exact absurd z.2.2 (by decide)), Nat.add_zero]
theorem xa_loadOf {post : Int32 → Prop} {c : Nat} (hc : c < 36) (hO : tn_XO pl us ov) (hB : tn_v bw B 8 100) (hR : tn_v pr R 8 3) (h : post (nI (tn_tk ov B R c 3 8))) : wpX_loadOf post (gc, gk, gb, th, up, co, ca, cl, ex, pl, fi, la, bw, pr, av, cn, pa, us, fo, op, ct, lk, dn, gp, rs, cf, qu, en, lo, ab, tr) (nI c) :=
  Exists.intro 9 (xa_load_l hc hO hB hR h 8 0 rfl)
theorem xa_room_l {post : Int32 → Prop} {c p but : Nat} {x : Int32} (hc : c < 36) (hp : p < 2 ^ 31) (hx : tn_Bt x but) (hO : tn_XO pl us ov) (hB : tn_v bw B 8 100) (hR : tn_v pr R 8 3) (h : post (nI (K c) - nI (tn_tk ov B R c p but))) : ∀ d i, i + d = 8 → wX_roomFor_11 post (nI c) (nI p) x gc gk gb th up co ca cl ex pl fi la bw pr av cn pa us fo op ct lk dn gp rs cf qu en lo ab tr (d + 1) (nI (K c) - nI (aa_sm (tn_f ov B R c p but) i)) (nI i) := by
  intro d
  induction d with
  | zero =>
    intro i hi
    have e : i = 8 := by omega
    subst e
    exact br_t (nI_le (a := 8) (by omega) (by omega)) h
  | succ d ih =>
    intro i hi
    have nx := ih (i + 1) (by omega)
    have zero : ¬ (i ≠ but ∧ R i ≤ p ∧ ov i c = true) → nI (K c) - nI (aa_sm (tn_f ov B R c p but) i) - 0 = nI (K c) - nI (aa_sm (tn_f ov B R c p but) (i + 1)) := by
      intro hz
      have ef : tn_f ov B R c p but i = 0 := if_neg hz
      rw [aa_sub0, aa_sms, ef, Nat.add_zero]
    have er : pr (nI i).toNatClampNeg = nI (R i) := by
      rw [nI_clamp (by omega)]; exact (hR i (by omega)).1
    have rb := (hR i (by omega)).2
    refine br_f (nI_ge (b := 8) (by omega) (by omega)) (br_c (fun e => ?_) (fun e => ⟨vp_in_nI (by omega) (by omega), br_c (fun hl => ?_) (fun hl => xa_isOver (by omega) hc hO (fun ho => ?_) (fun ho => ?_))⟩))
    · exact nm_r (zero (fun z => z.1 ((hx i (by omega)).mp e))) (nm_r (nI_1 i) nx)
    · rw [er, nI_ltI hp (by omega)] at hl
      exact nm_r (zero (fun z => by omega)) (nm_r (nI_1 i) nx)
    · refine br_f (by decide) ⟨vp_in_nI (by omega) (by omega), nm_r (e' := nI (K c) - nI (aa_sm (tn_f ov B R c p but) (i + 1))) ?_ (nm_r (nI_1 i) nx)⟩
      rw [er, nI_ltI hp (by omega)] at hl
      have ef : tn_f ov B R c p but i = B i := if_pos ⟨fun z => e ((hx i (by omega)).mpr z), by omega, ho⟩
      rw [nI_clamp (by omega), (hB i (by omega)).1, aa_sub, aa_sms, ef]
    · exact br_t rfl (nm_r (zero (fun z => by rw [ho] at z; exact absurd z.2.2 (by decide))) (nm_r (nI_1 i) nx))
theorem xa_roomFor {post : Int32 → Prop} {c p but : Nat} {x : Int32} (hc : c < 36) (hp : p < 2 ^ 31) (hx : tn_Bt x but) (hO : tn_XO pl us ov) (hB : tn_v bw B 8 100) (hR : tn_v pr R 8 3) (hK : tn_v ca K 36 100) (h : post (nI (K c) - nI (tn_tk ov B R c p but))) : wpX_roomFor post (gc, gk, gb, th, up, co, ca, cl, ex, pl, fi, la, bw, pr, av, cn, pa, us, fo, op, ct, lk, dn, gp, rs, cf, qu, en, lo, ab, tr) (nI c) (nI p) x := by
  refine And.intro (vp_in_nI hc (by omega)) (nm_r (e' := nI (K c) - nI (aa_sm (tn_f ov B R c p but) 0)) ?_ (Exists.intro 9 (xa_room_l hc hp hx hO hB hR h 8 0 rfl)))
  rw [nI_clamp (by omega), (hK c hc).1, aa_sm0]
  exact aa_sm0' _
theorem xa_mayPass {post : Int32 → Prop} {c : Nat} {x : Int32} (hc : c < 36) (h1 : tn_mp th up cl x c → post 1) (h0 : ¬ tn_mp th up cl x c → post 0) : wpX_mayPass post (gc, gk, gb, th, up, co, ca, cl, ex, pl, fi, la, bw, pr, av, cn, pa, us, fo, op, ct, lk, dn, gp, rs, cf, qu, en, lo, ab, tr) (nI c) x := by
  unfold wpX_mayPass
  dsimp only
  rw [nI_clamp (show c < 2 ^ 31 by omega)]
  have hi : vp_in (nI c) 36 := vp_in_nI hc (by omega)
  exact ⟨hi, br_c (fun a => h0 (fun z => z.1 a)) (fun a => ⟨hi, br_c (fun b => h0 (fun z => z.2.1 b)) (fun b => ⟨hi, br_c (fun d => h1 ⟨a, b, d⟩) (fun d => h0 (fun z => d z.2.2))⟩)⟩)⟩
theorem xa_open_l {post : SX → Prop} {p b but : Nat} {x y : Int32} (hp : p < 2 ^ 31) (hb : b < 2 ^ 20) (hy : tn_Bt y but) (hO : tn_XO pl us ov) (hB : tn_v bw B 8 100) (hR : tn_v pr R 8 3) (hK : tn_v ca K 36 100) (h : ∀ o, tn_Op o (tn_O th up cl ov B R K p x b but) → post (gc, gk, gb, th, up, co, ca, cl, ex, pl, fi, la, bw, pr, av, cn, pa, us, fo, o, ct, lk, dn, gp, rs, cf, qu, en, lo, ab, tr)) : ∀ d i o, i + d = 36 → (∀ c, c < i → (¬ o c = 0 ↔ c / 6 < c % 6 ∧ tn_O th up cl ov B R K p x b but c)) → wX_openLinks_3 post (nI p) x (nI b) y gc gk gb (d + 1) (nI i) th up co ca cl ex pl fi la bw pr av cn pa us fo o ct lk dn gp rs cf qu en lo ab tr := by
  intro d
  induction d with
  | zero =>
    intro i o hi ho
    have e : i = 36 := by omega
    subst e
    exact br_t (nI_le (a := 36) (by omega) (by omega)) (h o ho)
  | succ d ih =>
    intro i o hi ho
    have hi36 : i < 36 := by omega
    have step : ∀ v : Int32, (¬ v = 0 ↔ i / 6 < i % 6 ∧ tn_O th up cl ov B R K p x b but i) → wX_openLinks_3 post (nI p) x (nI b) y gc gk gb (d + 1) (nI (i + 1)) th up co ca cl ex pl fi la bw pr av cn pa us fo (upd o i v) ct lk dn gp rs cf qu en lo ab tr := by
      intro v hv
      refine ih (i + 1) (upd o i v) (by omega) (fun c hc => ?_)
      by_cases e : c = i
      · subst e; rw [pk_us]; exact hv
      · rw [pk_un e]; exact ho c (by omega)
    have e0 : upd o (nI i).toNatClampNeg (vp_nar .boolean 0) = upd o i 0 := by rw [nI_clamp (by omega), aa_b0]
    have e1 : upd o (nI i).toNatClampNeg (vp_nar .boolean 1) = upd o i 1 := by rw [nI_clamp (by omega), aa_b1]
    have vi : vp_in (nI i) 36 := vp_in_nI hi36 (by omega)
    have s0 : ¬ (i / 6 < i % 6 ∧ tn_O th up cl ov B R K p x b but i) → wX_openLinks_3 post (nI p) x (nI b) y gc gk gb (d + 1) (nI (i + 1)) th up co ca cl ex pl fi la bw pr av cn pa us fo (upd o i 0) ct lk dn gp rs cf qu en lo ab tr := fun hn => step 0 ⟨fun z => absurd rfl z, fun z => absurd z hn⟩
    have bd := tn_tk_bd (ov := ov) (R := R) (c := i) (p := p) (but := but) hB
    have kb := (hK i hi36).2
    refine br_f (nI_ge (b := 36) (by omega) (by omega)) (xa_isCode hi36 (fun hc => ?_) (fun hc => ?_))
    · refine br_f (by decide) (xa_mayPass hi36 (fun hm => ?_) (fun hm => ?_))
      · refine br_f (by decide) (xa_roomFor hi36 hp hy hO hB hR hK (br_c (fun hl => ?_) (fun hl => ?_)))
        · rw [aa_rlt (by omega) (by omega) (by omega)] at hl
          exact ⟨vi, nm_r e0 (nm_r (nI_1 i) (s0 (fun z => by have := z.2.2; omega)))⟩
        · rw [aa_rlt (by omega) (by omega) (by omega)] at hl
          exact ⟨vi, nm_r e1 (nm_r (nI_1 i) (step 1 ⟨fun _ => ⟨hc, hm, by omega⟩, fun _ => by decide⟩))⟩
      · exact br_t rfl ⟨vi, nm_r e0 (nm_r (nI_1 i) (s0 (fun z => hm z.2.1)))⟩
    · exact br_t rfl ⟨vi, nm_r e0 (nm_r (nI_1 i) (s0 (fun z => hc z.1)))⟩
theorem xa_openLinks {post : SX → Prop} {p b but : Nat} {x y : Int32} (hp : p < 2 ^ 31) (hb : b < 2 ^ 20) (hy : tn_Bt y but) (hO : tn_XO pl us ov) (hB : tn_v bw B 8 100) (hR : tn_v pr R 8 3) (hK : tn_v ca K 36 100) (h : ∀ o, tn_Op o (tn_O th up cl ov B R K p x b but) → post (gc, gk, gb, th, up, co, ca, cl, ex, pl, fi, la, bw, pr, av, cn, pa, us, fo, o, ct, lk, dn, gp, rs, cf, qu, en, lo, ab, tr)) : wpX_openLinks post (gc, gk, gb, th, up, co, ca, cl, ex, pl, fi, la, bw, pr, av, cn, pa, us, fo, op, ct, lk, dn, gp, rs, cf, qu, en, lo, ab, tr) (nI p) x (nI b) y :=
  Exists.intro 37 (xa_open_l hp hb hy hO hB hR hK h 36 0 op rfl (fun c hc => absurd hc (Nat.not_lt_zero c)))
theorem xa_areJoined {post : Int32 → Prop} {O : Nat → Prop} {a b : Nat} (ha : a < 6) (hb : b < 6) (ho : tn_Op op O) (h1 : a ≠ b → O (aa_cd a b) → post 1) (h0 : ¬ (a ≠ b ∧ O (aa_cd a b)) → post 0) : wpX_areJoined post (gc, gk, gb, th, up, co, ca, cl, ex, pl, fi, la, bw, pr, av, cn, pa, us, fo, op, ct, lk, dn, gp, rs, cf, qu, en, lo, ab, tr) (nI a) (nI b) := by
  refine br_c (fun e => h0 (fun z => z.1 ((nI_eq (by omega) (by omega)).mp e))) (fun e => xa_codeOf ha hb ?_)
  have hn : a ≠ b := fun z => e (by rw [z])
  have hl := aa_cd_lt ha hb
  have iff := ho (aa_cd a b) hl
  refine ⟨vp_in_nI hl (by omega), ?_⟩
  rw [nI_clamp (by omega)]
  exact br_c (fun z => h0 (fun y => (iff.mpr ⟨aa_cd_code ha hb hn, y.2⟩) z)) (fun z => h1 hn (iff.mp z).2)
end XA
end
section
section DIJ
/-! labels in rounds: pure -/
def dj_D (c l : Nat → Nat) (v : Nat) : Nat := 64 * c v + l v
def dj_cnt (N : Nat → Bool) : Nat := aa_sm (fun v => if N v = true then 1 else 0) 6
/-- N: the nodes that are done; r rounds -/
def dj_I (O : Nat → Prop) (w : Nat → Nat) (d : Nat) (N : Nat → Bool) (D : Nat → Nat) (r : Nat) : Prop :=
  d < 6 ∧
  dj_cnt N = r ∧ D d = 0 ∧ (∀ v, v < 6 → D v ≤ 64000) ∧
  (∀ u v, u < 6 → v < 6 → N u = true → N v = false → D u ≤ D v) ∧
  (∀ u v, u < 6 → v < 6 → N u = true → u ≠ v → O (aa_cd u v) → D v ≤ D u + pa_W w u v) ∧
  (∀ v, v < 6 → v ≠ d → D v < 64000 → ∃ u, u < 6 ∧ N u = true ∧ u ≠ v ∧ O (aa_cd u v) ∧ D v = D u + pa_W w u v)
theorem dj_W_sym (w : Nat → Nat) (a b : Nat) : pa_W w a b = pa_W w b a := by
  unfold pa_W
  rw [aa_cd_sym]
theorem dj_c1 : ∀ a, a < 6 → aa_sm (fun v => if v = a then 0 else 1) 6 = 5 := by decide +kernel
theorem dj_c2 : ∀ a, a < 6 → ∀ b, b < 6 → a ≠ b → aa_sm (fun v => if v = a ∨ v = b then 0 else 1) 6 = 4 := by decide +kernel
theorem dj_le1 {N : Nat → Bool} {a : Nat} (ha : a < 6) (h : N a = false) : dj_cnt N ≤ 5 := by
  rw [← dj_c1 a ha]
  refine aa_sm_le fun v _ => ?_
  try dsimp only
  by_cases e : v = a
  · subst e; rw [h, if_neg (by decide)]; exact Nat.zero_le _
  · rw [if_neg e]; split <;> omega
theorem dj_le2 {N : Nat → Bool} {a b : Nat} (ha : a < 6) (hb : b < 6) (hab : a ≠ b) (h : N a = false) (h' : N b = false) : dj_cnt N ≤ 4 := by
  rw [← dj_c2 a ha b hb hab]
  refine aa_sm_le fun v _ => ?_
  try dsimp only
  by_cases e : v = a
  · subst e; rw [h, if_neg (by decide)]; exact Nat.zero_le _
  · by_cases e' : v = b
    · subst e'; rw [h', if_neg (by decide)]; exact Nat.zero_le _
    · rw [if_neg (show ¬ (v = a ∨ v = b) from fun z => z.elim e e')]; split <;> omega
theorem dj_all {N : Nat → Bool} (h : dj_cnt N = 6) {v : Nat} (hv : v < 6) : N v = true := by
  cases e : N v
  · have := dj_le1 hv e
    omega
  · rfl
theorem dj_some {N : Nat → Bool} (h : dj_cnt N < 6) : ∃ v, v < 6 ∧ N v = false := by
  by_cases z : ∃ v, v < 6 ∧ N v = false
  · exact z
  · have ht : ∀ v, v < 6 → N v = true := by
      intro v hv
      cases e : N v
      · exact absurd ⟨v, hv, e⟩ z
      · rfl
    have : dj_cnt N = aa_sm (fun _ => 1) 6 := by
      refine aa_sm_eq fun v hv => ?_
      try dsimp only
      rw [ht v hv, if_pos rfl]
    rw [show aa_sm (fun _ => 1) 6 = 6 from rfl] at this
    omega
theorem dj_start {O : Nat → Prop} {w D : Nat → Nat} {d : Nat} {N : Nat → Bool} (hD : ∀ v, v < 6 → D v = if v = d then 0 else 64000) (hd : d < 6) (hN : ∀ v, v < 6 → N v = false) : dj_I O w d N D 0 := by
  refine ⟨hd, aa_sm_z fun v hv => ?_, by rw [hD d hd, if_pos rfl], fun v hv => ?_, fun u v hu hv h _ => ?_, fun u v hu hv h => ?_, fun v hv hn h => ?_⟩
  · try dsimp only
    rw [hN v hv]; rfl
  · rw [hD v hv]; split <;> omega
  · rw [hN u hu] at h; exact absurd h (by decide)
  · rw [hN u hu] at h; exact absurd h (by decide)
  · rw [hD v hv, if_neg hn] at h; omega
/-- node v behind a round from u -/
def dj_st (O : Nat → Prop) (w D D' : Nat → Nat) (u v : Nat) : Prop := (v ≠ u ∧ O (aa_cd u v) ∧ D u + pa_W w u v < D v → D' v = D u + pa_W w u v) ∧ (¬ (v ≠ u ∧ O (aa_cd u v) ∧ D u + pa_W w u v < D v) → D' v = D v)
theorem dj_round {O : Nat → Prop} {w D D' : Nat → Nat} {d r u : Nat} {N N' : Nat → Bool} (I : dj_I O w d N D r) (hu : u < 6) (hNu : N u = false) (hmin : ∀ v, v < 6 → N v = false → D u ≤ D v) (hN : ∀ v, v < 6 → N' v = (if v = u then true else N v)) (hD : ∀ v, v < 6 → dj_st O w D D' u v) : dj_I O w d N' D' (r + 1) ∧ ∀ v, v < 6 → D' v ≠ D v → v ≠ u ∧ N v = false ∧ D' v = D u + pa_W w u v := by
  obtain ⟨i0, i1, i2, i3, i4, i5, i6⟩ := I
  have W1 : ∀ a b, 1 ≤ pa_W w a b := fun a b => by unfold pa_W; omega
  have hdn : ∀ v, v < 6 → N v = true → D' v = D v := by
    intro v hv nv
    refine (hD v hv).2 fun z => ?_
    have := i4 v u hv hu nv hNu
    have := z.2.2
    omega
  have hDu : D' u = D u := (hD u hu).2 (fun z => z.1 rfl)
  have hle : ∀ v, v < 6 → D' v ≤ D v := by
    intro v hv
    by_cases z : v ≠ u ∧ O (aa_cd u v) ∧ D u + pa_W w u v < D v
    · have := (hD v hv).1 z
      have := z.2.2
      omega
    · have := (hD v hv).2 z
      omega
  have hge : ∀ v, v < 6 → D u ≤ D v → D u ≤ D' v := by
    intro v hv h
    by_cases z : v ≠ u ∧ O (aa_cd u v) ∧ D u + pa_W w u v < D v
    · have := (hD v hv).1 z
      omega
    · have := (hD v hv).2 z
      omega
  have hNo : ∀ v, v < 6 → v ≠ u → N' v = N v := fun v hv h => by rw [hN v hv, if_neg h]
  have hNu' : N' u = true := by rw [hN u hu, if_pos rfl]
  refine ⟨⟨i0, ?_, ?_, ?_, ?_, ?_, ?_⟩, ?_⟩
  · have e := aa_sm_upd (f := fun v => if N v = true then 1 else 0) (g := fun v => if (if v = u then true else N v) = true then 1 else 0) (i := u) (n := 6) hu (fun j hj => by rw [if_neg hj])
    have e2 : dj_cnt N' = aa_sm (fun v => if (if v = u then true else N v) = true then 1 else 0) 6 := by
      refine aa_sm_eq fun v hv => ?_
      try dsimp only
      rw [hN v hv]
    try dsimp only at e
    rw [hNu, if_neg (by decide), if_pos rfl, if_pos rfl] at e
    rw [e2]
    have e3 : aa_sm (fun v => if N v = true then 1 else 0) 6 = r := i1
    omega
  · have := hle d i0
    omega
  · intro v hv
    have := hle v hv
    have := i3 v hv
    omega
  · intro a v ha hv na nv
    have vu : v ≠ u := fun z => by rw [z, hNu'] at nv; exact absurd nv (by decide)
    rw [hNo v hv vu] at nv
    have h1 := hge v hv (hmin v hv nv)
    by_cases e : a = u
    · rw [e, hDu]; exact h1
    · rw [hNo a ha e] at na
      rw [hdn a ha na]
      have := i4 a u ha hu na hNu
      omega
  · intro a v ha hv na hav hO
    by_cases e : a = u
    · subst e
      rw [hDu]
      by_cases c : D a + pa_W w a v < D v
      · rw [(hD v hv).1 ⟨fun z => hav z.symm, hO, c⟩]; exact Nat.le_refl _
      · have := hle v hv
        omega
    · rw [hNo a ha e] at na
      rw [hdn a ha na]
      have := hle v hv
      have := i5 a v ha hv na hav hO
      omega
  · intro v hv vd hlt
    by_cases c : v ≠ u ∧ O (aa_cd u v) ∧ D u + pa_W w u v < D v
    · rw [(hD v hv).1 c]
      exact ⟨u, hu, hNu', fun z => c.1 z.symm, c.2.1, by rw [hDu]⟩
    · rw [(hD v hv).2 c] at hlt ⊢
      obtain ⟨a, a1, a2, a3, a4, a5⟩ := i6 v hv vd hlt
      have au : a ≠ u := fun z => by rw [z, hNu] at a2; exact absurd a2 (by decide)
      exact ⟨a, a1, by rw [hNo a a1 au]; exact a2, a3, a4, by rw [hdn a a1 a2]; exact a5⟩
  · intro v hv hne
    by_cases c : v ≠ u ∧ O (aa_cd u v) ∧ D u + pa_W w u v < D v
    · rw [(hD v hv).1 c]
      refine ⟨c.1, ?_, rfl⟩
      cases e : N v
      · rfl
      · have := i4 v u hv hu e hNu
        have := c.2.2
        have := W1 u v
        omega
    · exact absurd ((hD v hv).2 c) hne
end DIJ
end
section
section XF
/-! the component: labels, the best path -/
variable {gc gk gb : Int32} {th up co ca cl ex pl fi la bw pr av cn pa fo op ct lk dn gp rs cf qu en lo ab tr : Nat → Int32} {us : Nat → Int64}
variable {w c l : Nat → Nat} {O : Nat → Prop}
theorem xf_near_l {post : Int32 → Prop} (hc : tn_v ct c 6 1000) (hl : tn_v lk l 6 60) (h : ∀ u, u < 6 → dn u = 0 → (∀ v, v < 6 → dn v = 0 → dj_D c l u ≤ dj_D c l v) → post (nI u)) (hex : ∃ v, v < 6 ∧ dn v = 0) : ∀ d i x, i + d = 6 → ((x = -1 ∧ ∀ v, v < i → ¬ dn v = 0) ∨ (∃ u, x = nI u ∧ u < 6 ∧ dn u = 0 ∧ ∀ v, v < i → dn v = 0 → dj_D c l u ≤ dj_D c l v)) → wX_nearest_4 post gc gk gb th up co ca cl ex pl fi la bw pr av cn pa us fo op ct lk dn gp rs cf qu en lo ab tr (d + 1) x (nI i) := by
  intro d
  induction d with
  | zero =>
    intro i x hi hx
    have e : i = 6 := by omega
    subst e
    rcases hx with ⟨_, hx⟩ | ⟨u, rfl, u6, ud, um⟩
    · obtain ⟨v, v6, vd⟩ := hex
      exact absurd vd (hx v v6)
    · exact br_t (nI_le (a := 6) (by omega) (by omega)) (h u u6 ud um)
  | succ d ih =>
    intro i x hi hx
    have i6 : i < 6 := by omega
    have ei : (nI i).toNatClampNeg = i := nI_clamp (by omega)
    have vi : vp_in (nI i) 6 := vp_in_nI i6 (by omega)
    refine br_f (nI_ge (b := 6) (by omega) (by omega)) ⟨vi, br_c (fun hd => ?_) (fun hd => nm_r (nI_1 i) (ih (i + 1) x (by omega) ?_))⟩
    · rw [ei] at hd
      have mine : (∀ v, v < i → dn v = 0 → dj_D c l i ≤ dj_D c l v) → wX_nearest_4 post gc gk gb th up co ca cl ex pl fi la bw pr av cn pa us fo op ct lk dn gp rs cf qu en lo ab tr (d + 1) (nI i) (nI (i + 1)) := by
        intro hm
        refine ih (i + 1) (nI i) (by omega) (Or.inr ⟨i, rfl, i6, hd, fun v hv vd => ?_⟩)
        by_cases e : v = i
        · rw [e]; exact Nat.le_refl _
        · exact hm v (by omega) vd
      rcases hx with ⟨rfl, hx⟩ | ⟨u, rfl, u6, ud, um⟩
      · exact br_t aa_m1 (nm_r (nI_1 i) (mine (fun v hv vd => absurd vd (hx v hv))))
      · have eu : (nI u).toNatClampNeg = u := nI_clamp (by omega)
        have vu : vp_in (nI u) 6 := vp_in_nI u6 (by omega)
        have keep : dj_D c l u ≤ dj_D c l i → wX_nearest_4 post gc gk gb th up co ca cl ex pl fi la bw pr av cn pa us fo op ct lk dn gp rs cf qu en lo ab tr (d + 1) (nI u) (nI (i + 1)) := by
          intro hm
          refine ih (i + 1) (nI u) (by omega) (Or.inr ⟨u, rfl, u6, ud, fun v hv vd => ?_⟩)
          by_cases e : v = i
          · rw [e]; exact hm
          · exact um v (by omega) vd
        have take : dj_D c l i ≤ dj_D c l u → wX_nearest_4 post gc gk gb th up co ca cl ex pl fi la bw pr av cn pa us fo op ct lk dn gp rs cf qu en lo ab tr (d + 1) (nI i) (nI (i + 1)) := fun hm => mine (fun v hv vd => Nat.le_trans hm (um v hv vd))
        have c1 := hc i i6
        have c2 := hc u u6
        have l1 := hl i i6
        have l2 := hl u u6
        refine br_f (nI_pos (by omega)) ⟨vi, vu, br_c (fun a => ?_) (fun a => ⟨vi, vu, br_c (fun b => ⟨vi, vu, br_c (fun g => ?_) (fun g => ?_)⟩) (fun b => ?_)⟩)⟩
        · rw [ei, eu, c1.1, c2.1, nI_ltI (by omega) (by omega)] at a
          exact nm_r (nI_1 i) (take (by unfold dj_D; omega))
        · rw [ei, eu, c1.1, c2.1, nI_eq (by omega) (by omega)] at b
          rw [ei, eu, l1.1, l2.1, nI_leI (by omega) (by omega)] at g
          exact nm_r (nI_1 i) (keep (by unfold dj_D; omega))
        · rw [ei, eu, c1.1, c2.1, nI_eq (by omega) (by omega)] at b
          rw [ei, eu, l1.1, l2.1, nI_leI (by omega) (by omega)] at g
          exact nm_r (nI_1 i) (take (by unfold dj_D; omega))
        · rw [ei, eu, c1.1, c2.1, nI_ltI (by omega) (by omega)] at a
          rw [ei, eu, c1.1, c2.1, nI_eq (by omega) (by omega)] at b
          exact nm_r (nI_1 i) (keep (by unfold dj_D; omega))
    · rw [ei] at hd
      rcases hx with ⟨e, hx⟩ | ⟨u, e, u6, ud, um⟩
      · refine Or.inl ⟨e, fun v hv => ?_⟩
        by_cases z : v = i
        · rw [z]; exact hd
        · exact hx v (by omega)
      · refine Or.inr ⟨u, e, u6, ud, fun v hv vd => ?_⟩
        by_cases z : v = i
        · rw [z] at vd; exact absurd vd hd
        · exact um v (by omega) vd
theorem xf_near {post : Int32 → Prop} (hc : tn_v ct c 6 1000) (hl : tn_v lk l 6 60) (h : ∀ u, u < 6 → dn u = 0 → (∀ v, v < 6 → dn v = 0 → dj_D c l u ≤ dj_D c l v) → post (nI u)) (hex : ∃ v, v < 6 ∧ dn v = 0) : wpX_nearest post (gc, gk, gb, th, up, co, ca, cl, ex, pl, fi, la, bw, pr, av, cn, pa, us, fo, op, ct, lk, dn, gp, rs, cf, qu, en, lo, ab, tr) :=
  Exists.intro 7 (xf_near_l hc hl h hex 6 0 (-1) rfl (Or.inl ⟨rfl, fun v hv => absurd hv (Nat.not_lt_zero v)⟩))
theorem xf_relax {post : SX → Prop} {u v : Nat} (hu : u < 6) (hv : v < 6) (hc : tn_v ct c 6 1000) (hl : tn_v lk l 6 60) (hw : tn_v co w 36 20) (h1 : dj_D c l u + pa_W w u v < dj_D c l v → post (gc, gk, gb, th, up, co, ca, cl, ex, pl, fi, la, bw, pr, av, cn, pa, us, fo, op, upd ct v (nI (c u + w (aa_cd u v))), upd lk v (nI (l u + 1)), dn, gp, rs, cf, qu, en, lo, ab, tr)) (h0 : ¬ dj_D c l u + pa_W w u v < dj_D c l v → post (gc, gk, gb, th, up, co, ca, cl, ex, pl, fi, la, bw, pr, av, cn, pa, us, fo, op, ct, lk, dn, gp, rs, cf, qu, en, lo, ab, tr)) : wpX_relax post (gc, gk, gb, th, up, co, ca, cl, ex, pl, fi, la, bw, pr, av, cn, pa, us, fo, op, ct, lk, dn, gp, rs, cf, qu, en, lo, ab, tr) (nI u) (nI v) := by
  have hl36 := aa_cd_lt hu hv
  have eu : (nI u).toNatClampNeg = u := nI_clamp (by omega)
  have ev : (nI v).toNatClampNeg = v := nI_clamp (by omega)
  have vu : vp_in (nI u) 6 := vp_in_nI hu (by omega)
  have vv : vp_in (nI v) 6 := vp_in_nI hv (by omega)
  have c1 := hc u hu
  have c2 := hc v hv
  have l1 := hl u hu
  have l2 := hl v hv
  have w1 := hw (aa_cd u v) hl36
  have eW : dj_D c l u + pa_W w u v = 64 * (c u + w (aa_cd u v)) + (l u + 1) := by unfold dj_D pa_W; omega
  have eD : dj_D c l v = 64 * c v + l v := rfl
  have r59 : dj_D c l u + pa_W w u v < dj_D c l v → wX_relax_59 post (nI v) (nI (c u + w (aa_cd u v))) (nI (l u + 1)) gc gk gb th up co ca cl ex pl fi la bw pr av cn pa us fo op ct lk dn gp rs cf qu en lo ab tr := by
    intro hlt
    refine And.intro vv (nm_r (e' := upd ct v (nI (c u + w (aa_cd u v)))) (by rw [ev]) (And.intro vv (nm_r (e' := upd lk v (nI (l u + 1))) (by rw [ev]) (h1 hlt))))
  refine And.intro vu (xa_codeOf hu hv (And.intro (vp_in_nI hl36 (by omega)) (nm_r (e' := nI (c u + w (aa_cd u v))) ?_ (And.intro vu (nm_r (e' := nI (l u + 1)) ?_ (And.intro vv (br_c (fun a => ?_) (fun a => And.intro vv (br_c (fun b => And.intro vv (br_c (fun g => ?_) (fun g => ?_))) (fun b => ?_))))))))))
  · rw [eu, nI_clamp (by omega), c1.1, w1.1, nI_add]
  · rw [eu, l1.1, nI_1]
  · rw [ev, c2.1, nI_ltI (by omega) (by omega)] at a
    exact r59 (by omega)
  · rw [ev, c2.1, nI_eq (by omega) (by omega)] at b
    rw [ev, l2.1, nI_leI (by omega) (by omega)] at g
    exact h0 (by omega)
  · rw [ev, c2.1, nI_eq (by omega) (by omega)] at b
    rw [ev, l2.1, nI_leI (by omega) (by omega)] at g
    exact r59 (by omega)
  · rw [ev, c2.1, nI_ltI (by omega) (by omega)] at a
    rw [ev, c2.1, nI_eq (by omega) (by omega)] at b
    exact h0 (by omega)
/-- the links of one node -/
theorem xf_row {post : SX → Prop} {J : Int32 → Int32 → Int32 → Int32 → (Nat → Int32) → (Nat → Int32) → (Nat → Int32) → (Nat → Int32) → (Nat → Int32) → (Nat → Int32) → (Nat → Int32) → (Nat → Int32) → (Nat → Int32) → (Nat → Int32) → (Nat → Int32) → (Nat → Int32) → (Nat → Int32) → (Nat → Int32) → (Nat → Int64) → (Nat → Int32) → (Nat → Int32) → (Nat → Int32) → (Nat → Int32) → (Nat → Int32) → (Nat → Int32) → (Nat → Int32) → (Nat → Int32) → (Nat → Int32) → (Nat → Int32) → (Nat → Int32) → (Nat → Int32) → (Nat → Int32) → Prop} {u r m : Nat} (hu : u < 6) (hm : m < 60) (hc : tn_v ct c 6 1000) (hl : tn_v lk l 6 m) (hw : tn_v co w 36 20) (ho : tn_Op op O)
    (h : ∀ ct' lk' c' l', tn_v ct' c' 6 1000 → tn_v lk' l' 6 (m + 1) → (∀ v, v < 6 → dj_st O w (dj_D c l) (dj_D c' l') u v) → J (nI (r + 1)) gc gk gb th up co ca cl ex pl fi la bw pr av cn pa us fo op ct' lk' dn gp rs cf qu en lo ab tr) :
    ∀ d i ct' lk' c' l', i + d = 6 → tn_v ct' c' 6 1000 → tn_v lk' l' 6 (m + 1) → c' u = c u → l' u = l u → (∀ v, v < 6 → v < i → dj_st O w (dj_D c l) (dj_D c' l') u v) → (∀ v, v < 6 → i ≤ v → c' v = c v ∧ l' v = l v) → wX_label_69 post J (nI r) (nI u) (d + 1) (nI i) gc gk gb th up co ca cl ex pl fi la bw pr av cn pa us fo op ct' lk' dn gp rs cf qu en lo ab tr := by
  intro d
  induction d with
  | zero =>
    intro i ct' lk' c' l' hi hc' hl' eu1 eu2 hlo hhi
    have e : i = 6 := by omega
    subst e
    exact br_t (nI_le (a := 6) (by omega) (by omega)) (nm_r (nI_1 r) (h ct' lk' c' l' hc' hl' (fun v hv => hlo v hv hv)))
  | succ d ih =>
    intro i ct' lk' c' l' hi hc' hl' eu1 eu2 hlo hhi
    have i6 : i < 6 := by omega
    have xi := hhi i i6 (Nat.le_refl _)
    have hl60 : tn_v lk' l' 6 60 := fun v hv => ⟨(hl' v hv).1, by have := (hl' v hv).2; omega⟩
    have eDu : dj_D c' l' u = dj_D c l u := by unfold dj_D; rw [eu1, eu2]
    have eDi : dj_D c' l' i = dj_D c l i := by unfold dj_D; rw [xi.1, xi.2]
    have same : ¬ (i ≠ u ∧ O (aa_cd u i) ∧ dj_D c l u + pa_W w u i < dj_D c l i) → wX_label_69 post J (nI r) (nI u) (d + 1) (nI (i + 1)) gc gk gb th up co ca cl ex pl fi la bw pr av cn pa us fo op ct' lk' dn gp rs cf qu en lo ab tr := by
      intro hn
      refine ih (i + 1) ct' lk' c' l' (by omega) hc' hl' eu1 eu2 (fun v hv hv' => ?_) (fun v hv hv' => hhi v hv (by omega))
      by_cases e : v = i
      · subst e; exact ⟨fun z => absurd z hn, fun _ => eDi⟩
      · exact hlo v hv (by omega)
    refine br_f (nI_ge (b := 6) (by omega) (by omega)) (xa_areJoined hu i6 ho (fun hn hO => ?_) (fun hn => ?_))
    · refine br_f (by decide) (xf_relax hu i6 hc' hl60 hw (fun hlt => nm_r (nI_1 i) ?_) (fun hlt => nm_r (nI_1 i) (same ?_)))
      · have hlt' := hlt
        rw [eDu, eDi] at hlt'
        have lu := (hl u hu).2
        have cb : c' u + w (aa_cd u i) ≤ 1000 := by
          have := (hc' i i6).2
          have := (hl' i i6).2
          unfold dj_D pa_W at hlt
          omega
        refine ih (i + 1) _ _ (df_u c' i (c' u + w (aa_cd u i))) (df_u l' i (l' u + 1)) (by omega) ?_ ?_ ?_ ?_ ?_ ?_
        · intro v hv
          by_cases e : v = i
          · subst e; rw [pk_us, df_us]; exact ⟨rfl, cb⟩
          · rw [pk_un e, df_un e]; exact hc' v hv
        · intro v hv
          by_cases e : v = i
          · subst e; rw [pk_us, df_us]; exact ⟨rfl, by omega⟩
          · rw [pk_un e, df_un e]; exact hl' v hv
        · rw [df_un hn]; exact eu1
        · rw [df_un hn]; exact eu2
        · intro v hv hv'
          by_cases e : v = i
          · subst e
            refine ⟨fun _ => ?_, fun z => absurd ⟨fun z => hn z.symm, hO, hlt'⟩ z⟩
            unfold dj_D pa_W
            rw [df_us, df_us, eu1, eu2]
            omega
          · have e2 : dj_D (df_u c' i (c' u + w (aa_cd u i))) (df_u l' i (l' u + 1)) v = dj_D c' l' v := by
              unfold dj_D
              rw [df_un e, df_un e]
            have := hlo v hv (by omega)
            unfold dj_st at this ⊢
            rw [e2]
            exact this
        · intro v hv hv'
          rw [df_un (by omega), df_un (by omega)]
          exact hhi v hv (by omega)
      · rw [eDu, eDi] at hlt
        exact fun z => hlt z.2.2
    · exact br_t rfl (nm_r (nI_1 i) (same (fun z => hn ⟨fun y => z.1 y.symm, z.2.1⟩)))
end XF
end
section
section XG
/-! the component: all rounds of labels, the path -/
variable {gc gk gb : Int32} {th up co ca cl ex pl fi la bw pr av cn pa fo op ct lk dn gp rs cf qu en lo ab tr : Nat → Int32} {us : Nat → Int64}
variable {w : Nat → Nat} {O : Nat → Prop}
def xf_Lab (O : Nat → Prop) (w : Nat → Nat) (d : Nat) (D : Nat → Nat) : Prop :=
  D d = 0 ∧ (∀ v, v < 6 → D v ≤ 64000) ∧ (∀ a b, a < 6 → b < 6 → a ≠ b → O (aa_cd a b) → D a ≤ D b + pa_W w a b) ∧
  (∀ v, v < 6 → v ≠ d → D v < 64000 → ∃ u, u < 6 ∧ v ≠ u ∧ O (aa_cd v u) ∧ D v = D u + pa_W w v u)
theorem dj_final {D : Nat → Nat} {d : Nat} {N : Nat → Bool} (I : dj_I O w d N D 6) : xf_Lab O w d D := by
  obtain ⟨i0, i1, i2, i3, i4, i5, i6⟩ := I
  refine ⟨i2, i3, fun a b ha hb hab hO => ?_, fun v hv vd hlt => ?_⟩
  · rw [dj_W_sym]
    rw [aa_cd_sym] at hO
    exact i5 b a hb ha (dj_all i1 hb) (fun z => hab z.symm) hO
  · obtain ⟨u, u1, u2, u3, u4, u5⟩ := i6 v hv vd hlt
    exact ⟨u, u1, fun z => u3 z.symm, by rw [aa_cd_sym]; exact u4, by rw [dj_W_sym]; exact u5⟩
theorem xf_rounds {post : SX → Prop} {d0 : Nat} (hw : tn_v co w 36 20) (ho : tn_Op op O) (h : ∀ ct' lk' dn' c' l', tn_v ct' c' 6 1000 → tn_v lk' l' 6 5 → xf_Lab O w d0 (dj_D c' l') → post (gc, gk, gb, th, up, co, ca, cl, ex, pl, fi, la, bw, pr, av, cn, pa, us, fo, op, ct', lk', dn', gp, rs, cf, qu, en, lo, ab, tr)) : ∀ dd r ct' lk' dn' c' l', r + dd = 6 → tn_v ct' c' 6 1000 → tn_v lk' l' 6 (min r 5) → dj_I O w d0 (fun v => decide (¬ dn' v = 0)) (dj_D c' l') r → wX_label_48 post (dd + 1) (nI r) gc gk gb th up co ca cl ex pl fi la bw pr av cn pa us fo op ct' lk' dn' gp rs cf qu en lo ab tr := by
  intro dd
  induction dd with
  | zero =>
    intro r ct' lk' dn' c' l' hr h1 h2 I
    have e : r = 6 := by omega
    subst e
    exact br_t (nI_le (a := 6) (by omega) (by omega)) (h ct' lk' dn' c' l' h1 h2 (dj_final I))
  | succ dd ih =>
    intro r ct' lk' dn' c' l' hr h1 h2 I
    have hl60 : tn_v lk' l' 6 60 := fun v hv => ⟨(h2 v hv).1, by have := (h2 v hv).2; omega⟩
    have hex : ∃ v, v < 6 ∧ dn' v = 0 := by
      obtain ⟨v, v1, v2⟩ := dj_some (N := fun v => decide (¬ dn' v = 0)) (by rw [I.2.1]; omega)
      refine ⟨v, v1, ?_⟩
      have := of_decide_eq_false v2
      exact Classical.not_not.mp this
    refine br_f (nI_ge (b := 6) (by omega) (by omega)) (xf_near h1 hl60 (fun u u6 ud um => ?_) hex)
    refine ⟨vp_in_nI u6 (by omega), nm_r (e' := upd dn' u 1) (by rw [nI_clamp (by omega), aa_b1]) (Exists.intro 7 ?_)⟩
    refine xf_row (m := min r 5) (r := r) (w := w) (O := O) u6 (by omega) h1 h2 hw ho ?_ 6 0 ct' lk' c' l' rfl h1 (fun v hv => ⟨(h2 v hv).1, by have := (h2 v hv).2; omega⟩) rfl rfl (fun v _ hv => absurd hv (Nat.not_lt_zero v)) (fun v _ _ => ⟨rfl, rfl⟩)
    intro ct2 lk2 c2 l2 k1 k2 k3
    obtain ⟨I2, ch⟩ := dj_round (N' := fun v => decide (¬ upd dn' u 1 v = 0)) (D' := dj_D c2 l2) I u6 (decide_eq_false (fun z => z ud)) (fun v hv vd => um v hv (Classical.not_not.mp (of_decide_eq_false vd))) (fun v hv => by
      by_cases e : v = u
      · subst e
        rw [if_pos rfl, pk_us]; decide
      · rw [if_neg e, pk_un e]) k3
    refine ih (r + 1) ct2 lk2 (upd dn' u 1) c2 l2 (by omega) k1 (fun v hv => ⟨(k2 v hv).1, ?_⟩) I2
    have b1 := (k2 v hv).2
    by_cases r5 : r = 5
    · have same : dj_D c2 l2 v = dj_D c' l' v := by
        by_cases z : dj_D c2 l2 v = dj_D c' l' v
        · exact z
        · obtain ⟨z1, z2, _⟩ := ch v hv z
          have := dj_le2 (N := fun v => decide (¬ dn' v = 0)) hv u6 z1 z2 (decide_eq_false (fun y => y ud))
          rw [I.2.1] at this
          omega
      have b2 := (h2 v hv).2
      unfold dj_D at same
      omega
    · omega
theorem xf_label_l {post : SX → Prop} {d0 : Nat} (hd : d0 < 6) (hw : tn_v co w 36 20) (ho : tn_Op op O) (h : ∀ ct' lk' dn' c' l', tn_v ct' c' 6 1000 → tn_v lk' l' 6 5 → xf_Lab O w d0 (dj_D c' l') → post (gc, gk, gb, th, up, co, ca, cl, ex, pl, fi, la, bw, pr, av, cn, pa, us, fo, op, ct', lk', dn', gp, rs, cf, qu, en, lo, ab, tr)) : ∀ dd i ct' lk' dn', i + dd = 6 → (∀ v, v < i → ct' v = nI (if v = d0 then 0 else 1000) ∧ lk' v = nI 0 ∧ dn' v = 0) → wX_label_2 post (nI d0) gc gk gb (dd + 1) (nI i) th up co ca cl ex pl fi la bw pr av cn pa us fo op ct' lk' dn' gp rs cf qu en lo ab tr := by
  intro dd
  induction dd with
  | zero =>
    intro i ct' lk' dn' hi hv
    have e : i = 6 := by omega
    subst e
    refine br_t (nI_le (a := 6) (by omega) (by omega)) (Exists.intro 7 (xf_rounds hw ho h 6 0 ct' lk' dn' (fun v => if v = d0 then 0 else 1000) (fun _ => 0) rfl (fun v hv' => ⟨(hv v hv').1, ?_⟩) (fun v hv' => ⟨(hv v hv').2.1, Nat.zero_le _⟩) (dj_start ?_ hd ?_)))
    · show (if v = d0 then 0 else 1000) ≤ 1000
      split <;> omega
    · intro v _
      show 64 * (if v = d0 then 0 else 1000) + 0 = (if v = d0 then 0 else 64000)
      split <;> rfl
    · intro v hv'
      exact decide_eq_false (fun z => z (hv v hv').2.2)
  | succ dd ih =>
    intro i ct' lk' dn' hi hv
    have i6 : i < 6 := by omega
    have ei : (nI i).toNatClampNeg = i := nI_clamp (by omega)
    have vi : vp_in (nI i) 6 := vp_in_nI i6 (by omega)
    have stp : ∀ z : Int32, z = nI (if i = d0 then 0 else 1000) → wX_label_25 post (wX_label_2 post (nI d0) gc gk gb (dd + 1)) (nI d0) (nI i) z (nI i) gc gk gb th up co ca cl ex pl fi la bw pr av cn pa us fo op ct' lk' dn' gp rs cf qu en lo ab tr := by
      intro z hz
      refine And.intro vi (nm_r (e' := upd ct' i z) (by rw [ei]) (And.intro vi (nm_r (e' := upd lk' i 0) (by rw [ei]) (And.intro vi (nm_r (e' := upd dn' i 0) (by rw [ei, aa_b0]) (nm_r (nI_1 i) (ih (i + 1) _ _ _ (by omega) ?_)))))))
      intro v hv'
      by_cases e : v = i
      · subst e
        rw [pk_us, pk_us, pk_us]
        exact ⟨hz, rfl, rfl⟩
      · rw [pk_un e, pk_un e, pk_un e]
        exact hv v (by omega)
    refine br_f (nI_ge (b := 6) (by omega) (by omega)) (br_c (fun e => stp 0 ?_) (fun e => stp 1000 ?_))
    · rw [nI_eq (by omega) (by omega)] at e
      rw [if_pos e]; rfl
    · rw [nI_eq (by omega) (by omega)] at e
      rw [if_neg e]; rfl
theorem xf_label {post : SX → Prop} {d0 : Nat} (hd : d0 < 6) (hw : tn_v co w 36 20) (ho : tn_Op op O) (h : ∀ ct' lk' dn' c' l', tn_v ct' c' 6 1000 → tn_v lk' l' 6 5 → xf_Lab O w d0 (dj_D c' l') → post (gc, gk, gb, th, up, co, ca, cl, ex, pl, fi, la, bw, pr, av, cn, pa, us, fo, op, ct', lk', dn', gp, rs, cf, qu, en, lo, ab, tr)) : wpX_label post (gc, gk, gb, th, up, co, ca, cl, ex, pl, fi, la, bw, pr, av, cn, pa, us, fo, op, ct, lk, dn, gp, rs, cf, qu, en, lo, ab, tr) (nI d0) :=
  Exists.intro 7 (xf_label_l hd hw ho h 6 0 ct lk dn rfl (fun v hv => absurd hv (Nat.not_lt_zero v)))
variable {c l : Nat → Nat}
def xf_T (O : Nat → Prop) (w D : Nat → Nat) (u v : Nat) : Prop := u ≠ v ∧ O (aa_cd u v) ∧ D u = D v + pa_W w u v
theorem xf_leads {post : Int32 → Prop} {u v : Nat} (hu : u < 6) (hv : v < 6) (hc : tn_v ct c 6 1000) (hl : tn_v lk l 6 5) (hw : tn_v co w 36 20) (ho : tn_Op op O) (h1 : xf_T O w (dj_D c l) u v → post 1) (h0 : ¬ xf_T O w (dj_D c l) u v → post 0) : wpX_leadsOn post (gc, gk, gb, th, up, co, ca, cl, ex, pl, fi, la, bw, pr, av, cn, pa, us, fo, op, ct, lk, dn, gp, rs, cf, qu, en, lo, ab, tr) (nI u) (nI v) := by
  have hl36 := aa_cd_lt hu hv
  have eu : (nI u).toNatClampNeg = u := nI_clamp (by omega)
  have ev : (nI v).toNatClampNeg = v := nI_clamp (by omega)
  have ec : (nI (aa_cd u v)).toNatClampNeg = aa_cd u v := nI_clamp (by omega)
  have vu : vp_in (nI u) 6 := vp_in_nI hu (by omega)
  have vv : vp_in (nI v) 6 := vp_in_nI hv (by omega)
  have c1 := hc u hu
  have c2 := hc v hv
  have l1 := hl u hu
  have l2 := hl v hv
  have w1 := hw (aa_cd u v) hl36
  have eT : xf_T O w (dj_D c l) u v → c u = c v + w (aa_cd u v) ∧ l u = l v + 1 := by
    intro h
    have := h.2.2
    unfold dj_D pa_W at this
    omega
  unfold wpX_leadsOn
  refine xa_areJoined hu hv ho (fun hn hO => ?_) (fun hn => ?_)
  · refine br_f (by decide) (And.intro vu (And.intro vv (xa_codeOf hu hv (And.intro (vp_in_nI hl36 (by omega)) (br_c (fun a => And.intro vu (And.intro vv (br_c (fun b => ?_) (fun b => ?_)))) (fun a => ?_))))))
    · rw [eu, ev, ec, c1.1, c2.1, w1.1, nI_add, nI_eq (by omega) (by omega)] at a
      rw [eu, ev, l1.1, l2.1, nI_1, nI_eq (by omega) (by omega)] at b
      refine h1 ⟨hn, hO, ?_⟩
      unfold dj_D pa_W
      omega
    · rw [eu, ev, l1.1, l2.1, nI_1, nI_eq (by omega) (by omega)] at b
      exact h0 (fun z => b (eT z).2)
    · rw [eu, ev, ec, c1.1, c2.1, w1.1, nI_add, nI_eq (by omega) (by omega)] at a
      exact h0 (fun z => a (eT z).1)
  · exact br_t rfl (h0 (fun z => hn ⟨z.1, z.2.1⟩))
theorem xf_foll_l {post : Int32 → Prop} {u : Nat} (hu : u < 6) (hc : tn_v ct c 6 1000) (hl : tn_v lk l 6 5) (hw : tn_v co w 36 20) (ho : tn_Op op O) (hex : ∃ v, v < 6 ∧ xf_T O w (dj_D c l) u v) (h : ∀ v, v < 6 → xf_T O w (dj_D c l) u v → (∀ v', v' < v → ¬ xf_T O w (dj_D c l) u v') → post (nI v)) : ∀ d i, i + d = 5 → (∀ v, v < i → ¬ xf_T O w (dj_D c l) u v) → wX_following_2 post (nI u) gc gk gb th up co ca cl ex pl fi la bw pr av cn pa us fo op ct lk dn gp rs cf qu en lo ab tr (d + 1) (nI i) := by
  intro d
  induction d with
  | zero =>
    intro i hi hn
    have e : i = 5 := by omega
    subst e
    obtain ⟨v, v6, vt⟩ := hex
    have : v = 5 := by
      rcases Nat.lt_or_ge v 5 with z | z
      · exact absurd vt (hn v z)
      · omega
    subst this
    exact br_t (nI_le (a := 5) (by omega) (by omega)) (h 5 v6 vt hn)
  | succ d ih =>
    intro i hi hn
    refine br_f (nI_ge (b := 5) (by omega) (by omega)) (xf_leads hu (by omega) hc hl hw ho (fun ht => ?_) (fun ht => ?_))
    · exact br_f (by decide) (h i (by omega) ht hn)
    · refine br_t rfl (nm_r (nI_1 i) (ih (i + 1) (by omega) (fun v hv => ?_)))
      by_cases e : v = i
      · rw [e]; exact ht
      · exact hn v (by omega)
theorem xf_foll {post : Int32 → Prop} {u : Nat} (hu : u < 6) (hc : tn_v ct c 6 1000) (hl : tn_v lk l 6 5) (hw : tn_v co w 36 20) (ho : tn_Op op O) (hex : ∃ v, v < 6 ∧ xf_T O w (dj_D c l) u v) (h : ∀ v, v < 6 → xf_T O w (dj_D c l) u v → (∀ v', v' < v → ¬ xf_T O w (dj_D c l) u v') → post (nI v)) : wpX_following post (gc, gk, gb, th, up, co, ca, cl, ex, pl, fi, la, bw, pr, av, cn, pa, us, fo, op, ct, lk, dn, gp, rs, cf, qu, en, lo, ab, tr) (nI u) :=
  Exists.intro 6 (xf_foll_l hu hc hl hw ho hex h 5 0 rfl (fun v hv => absurd hv (Nat.not_lt_zero v)))
end XG
end
section
section XH
/-! the component: the path that is found -/
variable {gc gk gb : Int32} {th up co ca cl ex pl fi la bw pr av cn pa fo op ct lk dn gp rs cf qu en lo ab tr : Nat → Int32} {us : Nat → Int64}
variable {w c l : Nat → Nat} {O : Nat → Prop}
theorem xf_path_l {post : Int32 → SX → Prop} {s d0 : Nat} (hd : d0 < 6) (hc : tn_v ct c 6 1000) (hl : tn_v lk l 6 5) (hw : tn_v co w 36 20) (ho : tn_Op op O) (lab : xf_Lab O w d0 (dj_D c l)) (h : ∀ L q fo', q 0 = s → q L = d0 → pa_Fol O w (dj_D c l) L q → L ≤ 5 → (∀ i, i ≤ L → fo' i = nI (q i)) → post 1 (nI (L + 1), gk, gb, th, up, co, ca, cl, ex, pl, fi, la, bw, pr, av, cn, pa, us, fo', op, ct, lk, dn, gp, rs, cf, qu, en, lo, ab, tr)) : ∀ dd i q fo', q 0 = s → (∀ j, j ≤ i → q j < 6) → pa_Fol O w (dj_D c l) i q → (∀ j, j ≤ i → fo' j = nI (q j)) → dj_D c l (q i) < 64000 → l (q i) = dd → i + dd ≤ 5 → wX_findPath_46 post (nI d0) gk gb (dd + 1) (nI (q i)) (nI i) (nI (i + 1)) th up co ca cl ex pl fi la bw pr av cn pa us fo' op ct lk dn gp rs cf qu en lo ab tr := by
  intro dd
  induction dd with
  | zero =>
    intro i q fo' h0 h6 hf hfo hD hli hi
    have qi := h6 i (Nat.le_refl _)
    have e : q i = d0 := by
      by_cases z : q i = d0
      · exact z
      · obtain ⟨u, u1, u2, u3, u4⟩ := lab.2.2.2 (q i) qi z hD
        have := (hl u u1).2
        unfold dj_D pa_W at u4
        omega
    exact br_f (nI_ge (b := 6) (by omega) (by omega)) (br_t (by rw [e]) (h i q fo' h0 e hf (by omega) hfo))
  | succ dd ih =>
    intro i q fo' h0 h6 hf hfo hD hli hi
    have qi := h6 i (Nat.le_refl _)
    have ne : q i ≠ d0 := by
      intro z
      have := lab.1
      rw [← z] at this
      unfold dj_D at this
      omega
    have hex : ∃ v, v < 6 ∧ xf_T O w (dj_D c l) (q i) v := by
      obtain ⟨u, u1, u2, u3, u4⟩ := lab.2.2.2 (q i) qi ne hD
      exact ⟨u, u1, u2, u3, u4⟩
    refine br_f (nI_ge (b := 6) (by omega) (by omega)) (br_f (fun z => ne ((nI_eq (by omega) (by omega)).mp z)) (xf_foll qi hc hl hw ho hex (fun v v6 vt vm => ?_)))
    refine ⟨vp_in_nI (by omega) (by omega), nm_r (e' := upd fo' (i + 1) (nI v)) (by rw [nI_clamp (by omega)]) (nm_r (nI_1 (i + 1)) (nm_r (nI_1 i) ?_))⟩
    have vl := (hl v v6).2
    have tD := vt.2.2
    have oq : ∀ j, j ≤ i → df_u q (i + 1) v j = q j := fun j hj => df_un (by omega)
    have k := ih (i + 1) (df_u q (i + 1) v) (upd fo' (i + 1) (nI v)) (by rw [oq 0 (by omega)]; exact h0) (fun j hj => by
      by_cases e : j = i + 1
      · rw [e, df_us]; exact v6
      · rw [oq j (by omega)]; exact h6 j (by omega)) (fun j hj => by
      by_cases e : j = i
      · subst e
        rw [oq j (by omega), df_us]
        exact ⟨v6, vt.1, vt.2.1, vt.2.2, fun x hx hn hO hD => vm x hx ⟨hn, hO, hD⟩⟩
      · rw [oq j (by omega), oq (j + 1) (by omega)]
        exact hf j (by omega)) (fun j hj => by
      by_cases e : j = i + 1
      · rw [e, df_us, pk_us]
      · rw [oq j (by omega), pk_un e]; exact hfo j (by omega)) (by
      rw [df_us]; unfold pa_W at tD; omega) (by
      rw [df_us]
      unfold dj_D pa_W at tD
      omega) (by omega)
    rw [df_us] at k
    exact k
theorem pa_pc_bd {q : Nat → Nat} (hw : ∀ c, c < 36 → w c ≤ 20) : ∀ {L : Nat}, (∀ i, i ≤ L → q i < 6) → pa_pc w q L ≤ 20 * L := by
  intro L
  induction L with
  | zero => intro _; exact Nat.le_refl _
  | succ L ih =>
    intro h
    have h1 := ih (fun i hi => h i (by omega))
    have h2 := hw _ (aa_cd_lt (h L (by omega)) (h (L + 1) (by omega)))
    rw [pa_pcs]
    omega
theorem xf_find {post : Int32 → SX → Prop} {s d0 : Nat} (hs : s < 6) (hd : d0 < 6) (hw : tn_v co w 36 20) (ho : tn_Op op O)
    (h1 : ∀ L q fo' ct' lk' dn', pa_Best O w s d0 L q → (∀ i, i ≤ L → fo' i = nI (q i)) → post 1 (nI (L + 1), nI (pa_pc w q L), gb, th, up, co, ca, cl, ex, pl, fi, la, bw, pr, av, cn, pa, us, fo', op, ct', lk', dn', gp, rs, cf, qu, en, lo, ab, tr))
    (h0 : (∀ L q, ¬ pa_Val O s d0 L q) → ∀ ct' lk' dn', post 0 (gc, gk, gb, th, up, co, ca, cl, ex, pl, fi, la, bw, pr, av, cn, pa, us, fo, op, ct', lk', dn', gp, rs, cf, qu, en, lo, ab, tr)) : wpX_findPath post (gc, gk, gb, th, up, co, ca, cl, ex, pl, fi, la, bw, pr, av, cn, pa, us, fo, op, ct, lk, dn, gp, rs, cf, qu, en, lo, ab, tr) (nI s) (nI d0) := by
  unfold wpX_findPath
  refine xf_label hd hw ho (fun ct' lk' dn' c l hc hl lab => ?_)
  have es : (nI s).toNatClampNeg = s := nI_clamp (by omega)
  have cs := hc s hs
  have ls := (hl s hs).2
  refine And.intro (vp_in_nI hs (by omega)) (br_c (fun a => And.intro (vp_in_nI hs (by omega)) ?_) (fun a => ?_))
  · rw [es, cs.1] at a
    have a' := (nI_ltI (b := 1000) (by omega) (by omega)).mp a
    refine nm_r (e' := nI (c s)) (by rw [es]; exact cs.1) (nm_e (Exists.intro (l s + 1) ?_))
    refine xf_path_l (s := s) hd hc hl hw ho lab ?_ (l s) 0 (fun _ => s) (upd fo 0 (nI s)) rfl (fun _ _ => hs) (fun i hi => absurd hi (Nat.not_lt_zero i)) (fun j hj => ?_) ?_ rfl (by omega)
    · intro L q fo' q0 qL hf L5 hfo
      obtain ⟨b1, b2⟩ := pa_dij hs lab.1 lab.2.2.1 q0 qL hf
      have e : c s = pa_pc w q L := by
        unfold dj_D at b2
        omega
      rw [e]
      exact h1 L q fo' ct' lk' dn' b1 hfo
    · have : j = 0 := by omega
      subst this
      rw [pk_us]
    · unfold dj_D; omega
  · rw [es, cs.1] at a
    refine h0 (fun L q v => ?_) ct' lk' dn'
    have a' : ¬ c s < 1000 := fun z => a ((nI_ltI (b := 1000) (by omega) (by omega)).mpr z)
    have L5 := pa_Val5 v
    have t := pa_tel lab.2.2.1 v L 0 (by omega)
    have pb := pa_pc_bd (w := w) (fun c hc => (hw c hc).2) v.2.2.1
    have z0 : pa_pc w q 0 = 0 := rfl
    rw [Nat.zero_add, v.1, v.2.1, lab.1, z0] at t
    unfold dj_D at t
    omega
end XH
end
section
section TUN
/-! links of a path as bits -/
theorem tb_sh : ∀ n, n < 64 → (((nI n).toInt64 &&& 63).toBitVec.smod 64).toNat = n := by decide +kernel
theorem tb_one (y : Int64) : (y &&& 1) = 1 ↔ y.toBitVec.getLsbD 0 = true := by
  have h : uN (y &&& 1) = uN y % 2 := by
    show (y.toUInt64 &&& Int64.toUInt64 1).toNat = _
    rw [UInt64.toNat_and]
    exact Nat.and_two_pow_sub_one_eq_mod _ 1
  have h2 : y.toBitVec.getLsbD 0 = decide (uN y % 2 = 1) := by
    show y.toBitVec.toNat.testBit 0 = decide (y.toBitVec.toNat % 2 = 1)
    exact Nat.testBit_zero _
  rw [h2, decide_eq_true_iff, ← h]
  exact ⟨fun z => by rw [z]; rfl, fun z => uN_inj (z.trans rfl)⟩
theorem tb_bit (x : Int64) {c : Nat} (hc : c < 64) : ((x >>> ((nI c).toInt64 &&& 63)) &&& 1) = 1 ↔ x.toBitVec.getLsbD c = true := by
  rw [tb_one, Int64.toBitVec_shiftRight]
  show (x.toBitVec.sshiftRight (((nI c).toInt64 &&& 63).toBitVec.smod 64).toNat).getLsbD 0 = true ↔ _
  rw [tb_sh c hc, BitVec.getLsbD_sshiftRight]
  simp [hc]
theorem tb_shl {c i : Nat} (hc : c < 64) (hi : i < 64) : ((1 : Int64) <<< ((nI c).toInt64 &&& 63)).toBitVec.getLsbD i = decide (i = c) := by
  rw [Int64.toBitVec_shiftLeft]
  show ((1 : Int64).toBitVec <<< (((nI c).toInt64 &&& 63).toBitVec.smod 64).toNat).getLsbD i = _
  rw [tb_sh c hc, BitVec.getLsbD_shiftLeft]
  have h1 : ∀ j, (1 : Int64).toBitVec.getLsbD j = decide (j = 0) := by
    intro j
    show (1#64).getLsbD j = decide (j = 0)
    rw [BitVec.getLsbD_one]
    simp
  rw [h1]
  by_cases e : i = c
  · subst e; simp [hi]
  · by_cases z : i < c
    · simp [z, e]
    · have : ¬ (i - c = 0) := by omega
      simp [this, e]
def st_m (q : Nat → Nat) : Nat → Int64
  | 0 => 0
  | i + 1 => st_m q i ||| ((1 : Int64) <<< ((nI (aa_cd (q i) (q (i + 1)))).toInt64 &&& 63))
theorem st_ms (q : Nat → Nat) (i : Nat) : st_m q (i + 1) = st_m q i ||| ((1 : Int64) <<< ((nI (aa_cd (q i) (q (i + 1)))).toInt64 &&& 63)) := rfl
theorem st_bit {q : Nat → Nat} {c : Nat} (hc : c < 36) : ∀ {n : Nat}, (∀ i, i ≤ n → q i < 6) → ((((st_m q n) >>> ((nI c).toInt64 &&& 63)) &&& 1) = 1 ↔ ∃ i, i < n ∧ aa_cd (q i) (q (i + 1)) = c) := by
  intro n
  rw [tb_bit _ (by omega)]
  induction n with
  | zero =>
    intro _
    refine ⟨fun h => ?_, fun ⟨i, hi, _⟩ => absurd hi (Nat.not_lt_zero i)⟩
    have : (st_m q 0).toBitVec.getLsbD c = false := BitVec.getLsbD_zero
    rw [this] at h
    exact absurd h (by decide)
  | succ n ih =>
    intro h
    have h1 := aa_cd_lt (h n (by omega)) (h (n + 1) (by omega))
    rw [st_ms, Int64.toBitVec_or, BitVec.getLsbD_or, tb_shl (by omega) (by omega), Bool.or_eq_true, ih (fun i hi => h i (by omega)), decide_eq_true_iff]
    constructor
    · rintro (⟨i, hi, e⟩ | e)
      · exact ⟨i, by omega, e⟩
      · exact ⟨n, by omega, e.symm⟩
    · rintro ⟨i, hi, e⟩
      by_cases z : i = n
      · subst z; exact Or.inr e.symm
      · exact Or.inl ⟨i, by omega, e⟩
theorem st_uu (f : Nat → Int64) (k : Nat) (x y : Int64) : vp_updL (vp_updL f k x) k y = vp_updL f k y := by
  funext j
  by_cases e : j = k
  · subst e; rw [pk_uLs, pk_uLs]
  · rw [pk_uLn e, pk_uLn e, pk_uLn e]
/-- the nodes of a path, written -/
def st_pa (pa : Nat → Int32) (t : Nat) (q : Nat → Nat) : Nat → Nat → Int32
  | 0 => pa
  | n + 1 => upd (st_pa pa t q n) (6 * t + n) (nI (q n))
theorem st_pas (pa : Nat → Int32) (t : Nat) (q : Nat → Nat) (n : Nat) : st_pa pa t q (n + 1) = upd (st_pa pa t q n) (6 * t + n) (nI (q n)) := rfl
theorem st_pa_in {pa : Nat → Int32} {t : Nat} {q : Nat → Nat} : ∀ {n i : Nat}, i < n → st_pa pa t q n (6 * t + i) = nI (q i) := by
  intro n
  induction n with
  | zero => intro i hi; omega
  | succ n ih =>
    intro i hi
    rw [st_pas]
    by_cases e : i = n
    · subst e; exact pk_us
    · rw [pk_un (by omega)]; exact ih (by omega)
theorem st_pa_out {pa : Nat → Int32} {t : Nat} {q : Nat → Nat} {j : Nat} : ∀ {n : Nat}, (∀ i, i < n → j ≠ 6 * t + i) → st_pa pa t q n j = pa j := by
  intro n
  induction n with
  | zero => intro _; rfl
  | succ n ih =>
    intro h
    rw [st_pas, pk_un (h n (by omega))]
    exact ih (fun i hi => h i (by omega))
theorem st_pa_c {pa : Nat → Int32} {t : Nat} {q q' : Nat → Nat} : ∀ {n : Nat}, (∀ i, i < n → q i = q' i) → st_pa pa t q n = st_pa pa t q' n := by
  intro n
  induction n with
  | zero => intro _; rfl
  | succ n ih =>
    intro h
    rw [st_pas, st_pas, ih (fun i hi => h i (by omega)), h n (by omega)]
/-- tunnel t runs over link c -/
noncomputable def tn_ov (le pa : Nat → Int32) (t c : Nat) : Bool := @decide (∃ i, i + 1 < (le t).toNatClampNeg ∧ aa_cd (pa (6 * t + i)).toNatClampNeg (pa (6 * t + (i + 1))).toNatClampNeg = c) (Classical.propDecidable _)
theorem tn_ov_iff {le pa : Nat → Int32} {t c : Nat} : tn_ov le pa t c = true ↔ ∃ i, i + 1 < (le t).toNatClampNeg ∧ aa_cd (pa (6 * t + i)).toNatClampNeg (pa (6 * t + (i + 1))).toNatClampNeg = c := by
  unfold tn_ov
  exact @decide_eq_true_iff _ (Classical.propDecidable _)
/-- of a tunnel that is placed: L links over the nodes q -/
def tn_P (le pa : Nat → Int32) (t L : Nat) (q : Nat → Nat) : Prop := 1 ≤ L ∧ L ≤ 5 ∧ le t = nI (L + 1) ∧ (∀ i, i ≤ L → pa (6 * t + i) = nI (q i)) ∧ (∀ i, i ≤ L → q i < 6) ∧ (∀ i j, i < j → j ≤ L → q i ≠ q j)
theorem tn_ovP {le pa : Nat → Int32} {t L c : Nat} {q : Nat → Nat} (h : tn_P le pa t L q) : tn_ov le pa t c = true ↔ ∃ i, i < L ∧ aa_cd (q i) (q (i + 1)) = c := by
  obtain ⟨h1, h2, h3, h4, h5, h6⟩ := h
  rw [tn_ov_iff, h3, nI_clamp (by omega)]
  constructor
  · rintro ⟨i, hi, e⟩
    have a1 := h5 i (by omega)
    have a2 := h5 (i + 1) (by omega)
    rw [h4 i (by omega), h4 (i + 1) (by omega), nI_clamp (by omega), nI_clamp (by omega)] at e
    exact ⟨i, by omega, e⟩
  · rintro ⟨i, hi, e⟩
    have a1 := h5 i (by omega)
    have a2 := h5 (i + 1) (by omega)
    refine ⟨i, by omega, ?_⟩
    rw [h4 i (by omega), h4 (i + 1) (by omega), nI_clamp (by omega), nI_clamp (by omega)]
    exact e
theorem tn_ov0 {le pa : Nat → Int32} {t c : Nat} (h : le t = 0) : tn_ov le pa t c = false := by
  refine ts_nt fun z => ?_
  rw [tn_ov_iff, h] at z
  obtain ⟨i, hi, _⟩ := z
  rw [show (0 : Int32).toNatClampNeg = 0 from rfl] at hi
  omega
theorem tn_ov_c {le le' pa pa' : Nat → Int32} {t c : Nat} (h : le t = le' t) (h2 : ∀ i, i < 6 → pa (6 * t + i) = pa' (6 * t + i)) (h3 : (le t).toNatClampNeg ≤ 6) : tn_ov le pa t c = tn_ov le' pa' t c := by
  have : tn_ov le pa t c = true ↔ tn_ov le' pa' t c = true := by
    rw [tn_ov_iff, tn_ov_iff, ← h]
    constructor
    · rintro ⟨i, hi, e⟩
      rw [h2 i (by omega), h2 (i + 1) (by omega)] at e
      exact ⟨i, hi, e⟩
    · rintro ⟨i, hi, e⟩
      rw [← h2 i (by omega), ← h2 (i + 1) (by omega)] at e
      exact ⟨i, hi, e⟩
  cases e1 : tn_ov le pa t c <;> cases e2 : tn_ov le' pa' t c
  · rfl
  · rw [e1, e2] at this; exact absurd (this.mpr rfl) (by decide)
  · rw [e1, e2] at this; exact absurd (this.mp rfl) (by decide)
  · rfl
/-- the tunnels of both sides -/
def tn_T (ex pl cn le pa : Nat → Int32) (us : Nat → Int64) (f g : Nat → Nat) : Prop := ∀ t, t < 8 → (pl t = 0 ∧ le t = 0) ∨ (pl t = 1 ∧ ¬ ex t = 0 ∧ cn t = le t ∧ ∃ L q, tn_P le pa t L q ∧ q 0 = f t ∧ q L = g t ∧ us t = st_m q L)
theorem tn_XOof {ex pl cn le pa : Nat → Int32} {us : Nat → Int64} {f g : Nat → Nat} (h : tn_T ex pl cn le pa us f g) : tn_XO pl us (tn_ov le pa) := by
  intro t c ht hc
  rcases h t ht with ⟨h1, h2⟩ | ⟨h1, h2, h3, L, q, h4, h5, h6, h7⟩
  · rw [tn_ov0 h2, h1]
    exact ⟨fun z => absurd z (by decide), fun z => absurd rfl z.1⟩
  · rw [tn_ovP h4, h1, h7, st_bit hc h4.2.2.2.2.1]
    exact ⟨fun z => ⟨by decide, z⟩, fun z => z.2⟩
end TUN
end
section
section XS
/-! the component: steps of settling -/
variable {gc gk gb : Int32} {th up co ca cl ex pl fi la bw pr av cn pa fo op ct lk dn gp rs cf qu en lo ab tr : Nat → Int32} {us : Nat → Int64}
variable {w K B R f g : Nat → Nat} {ov : Nat → Nat → Bool}
theorem xs_findFor {post : Int32 → SX → Prop} {t : Nat} (ht : t < 8) (hO : tn_XO pl us ov) (hB : tn_v bw B 8 100) (hR : tn_v pr R 8 3) (hK : tn_v ca K 36 100) (hw : tn_v co w 36 20) (hf : tn_v fi f 8 5) (hg : tn_v la g 8 5)
    (h1 : ∀ L q fo' op' ct' lk' dn', pa_Best (tn_O th up cl ov B R K (R t) (av t) (B t) t) w (f t) (g t) L q → (∀ i, i ≤ L → fo' i = nI (q i)) → post 1 (nI (L + 1), nI (pa_pc w q L), gb, th, up, co, ca, cl, ex, pl, fi, la, bw, pr, av, cn, pa, us, fo', op', ct', lk', dn', gp, rs, cf, qu, en, lo, ab, tr))
    (h0 : (∀ L q, ¬ pa_Val (tn_O th up cl ov B R K (R t) (av t) (B t) t) (f t) (g t) L q) → ∀ op' ct' lk' dn', post 0 (gc, gk, gb, th, up, co, ca, cl, ex, pl, fi, la, bw, pr, av, cn, pa, us, fo, op', ct', lk', dn', gp, rs, cf, qu, en, lo, ab, tr)) : wpX_findFor post (gc, gk, gb, th, up, co, ca, cl, ex, pl, fi, la, bw, pr, av, cn, pa, us, fo, op, ct, lk, dn, gp, rs, cf, qu, en, lo, ab, tr) (nI t) := by
  have vi : vp_in (nI t) 8 := vp_in_nI ht (by omega)
  have et : (nI t).toNatClampNeg = t := nI_clamp (by omega)
  have r1 := hR t ht
  have b1 := hB t ht
  have f1 := hf t ht
  have g1 := hg t ht
  refine And.intro vi (And.intro vi (And.intro vi ?_))
  rw [et, r1.1, b1.1]
  refine xa_openLinks (by omega) (by omega) (tn_btN ht) hO hB hR hK (fun o ho => And.intro vi (And.intro vi ?_))
  rw [f1.1, g1.1]
  exact xf_find (by omega) (by omega) hw ho (fun L q fo' ct' lk' dn' hb hfo => And.intro narrow_b1 (h1 L q fo' o ct' lk' dn' hb hfo)) (fun hn ct' lk' dn' => And.intro narrow_b0 (h0 hn o ct' lk' dn'))
theorem xs_place_l {post : SX → Prop} {t L : Nat} {q : Nat → Nat} (ht : t < 8) (hL : L ≤ 5) (hq : ∀ i, i ≤ L → q i < 6) (hfo : ∀ i, i ≤ L → fo i = nI (q i)) (h : post (nI (L + 1), gk, gb, th, up, co, ca, cl, ex, pl, fi, la, bw, pr, av, cn, st_pa pa t q (L + 1), vp_updL us t (st_m q L), fo, op, ct, lk, dn, gp, rs, cf, qu, en, lo, ab, tr)) : ∀ d i, i + d = L + 1 → wX_place_26 post (nI t) (nI (L + 1)) gk gb (d + 1) (nI i) th up co ca cl ex pl fi la bw pr av cn (st_pa pa t q i) (vp_updL us t (st_m q (i - 1))) fo op ct lk dn gp rs cf qu en lo ab tr := by
  intro d
  induction d with
  | zero =>
    intro i hi
    have e : i = L + 1 := by omega
    subst e
    exact br_t (nI_le (a := L + 1) (by omega) (by omega)) h
  | succ d ih =>
    intro i hi
    have ei : (nI i).toNatClampNeg = i := nI_clamp (by omega)
    have et : (nI t).toNatClampNeg = t := nI_clamp (by omega)
    have vt : vp_in (nI t) 8 := vp_in_nI ht (by omega)
    have vi : vp_in (nI i) 6 := vp_in_nI (by omega) (by omega)
    have e6 : 6 * nI t + nI i = nI (6 * t + i) := aa_6 t i
    refine br_f (nI_ge (by omega) (by omega)) (And.intro vi (And.intro (by rw [e6]; exact vp_in_nI (by omega) (by omega)) (nm_r (e' := st_pa pa t q (i + 1)) (by rw [e6, nI_clamp (by omega), ei, hfo i (by omega)]; rfl) ?_)))
    refine pk_le i 0 (fun z => ?_) (fun z => ?_)
    · have i0 : i = 0 := by omega
      subst i0
      exact nm_r (nI_1 0) (ih 1 (by omega))
    · obtain ⟨j, rfl⟩ : ∃ j, i = j + 1 := ⟨i - 1, by omega⟩
      have ej : nI (j + 1) - 1 = nI j := nI_pred j
      have ej2 : (nI j).toNatClampNeg = j := nI_clamp (by omega)
      refine And.intro vt (And.intro (by rw [ej]; exact vp_in_nI (by omega) (by omega)) (And.intro vi ?_))
      rw [ej, ej2, ei, hfo j (by omega), hfo (j + 1) (by omega)]
      have hl := aa_cd_lt (hq j (by omega)) (hq (j + 1) (by omega))
      refine xa_codeOf (hq j (by omega)) (hq (j + 1) (by omega)) (And.intro vt (nm_r (e' := vp_updL us t (st_m q (j + 1))) ?_ (nm_r (nI_1 (j + 1)) (ih (j + 1 + 1) (by omega)))))
      rw [et, pk_uLs, st_uu]
      rfl
theorem xs_place {post : SX → Prop} {t L : Nat} {q : Nat → Nat} (ht : t < 8) (hL : L ≤ 5) (hq : ∀ i, i ≤ L → q i < 6) (hfo : ∀ i, i ≤ L → fo i = nI (q i)) (h : post (nI (L + 1), gk, gb, th, up, co, ca, cl, ex, upd pl t 1, fi, la, bw, pr, av, upd cn t (nI (L + 1)), st_pa pa t q (L + 1), vp_updL us t (st_m q L), fo, op, ct, lk, dn, gp, rs, cf, qu, en, lo, ab, tr)) : wpX_place post (nI (L + 1), gk, gb, th, up, co, ca, cl, ex, pl, fi, la, bw, pr, av, cn, pa, us, fo, op, ct, lk, dn, gp, rs, cf, qu, en, lo, ab, tr) (nI t) := by
  have vt : vp_in (nI t) 8 := vp_in_nI ht (by omega)
  have et : (nI t).toNatClampNeg = t := nI_clamp (by omega)
  refine And.intro vt (nm_r (e' := upd pl t 1) (by rw [et, aa_b1]) (And.intro vt (nm_r (e' := upd cn t (nI (L + 1))) (by rw [et]) (And.intro vt (nm_r (e' := vp_updL us t (st_m q 0)) (by rw [et]; rfl) (Exists.intro (L + 2) ?_))))))
  exact xs_place_l ht hL hq hfo h (L + 1) 0 (by omega)
/-! tunnels over links that may not be passed -/
noncomputable def st_k (V : Nat → Prop) (a : Nat → Int32) (n : Nat) : Nat → Int32 := fun t => @ite _ (t < n ∧ V t) (Classical.propDecidable _) 0 (a t)
theorem st_k1 {V : Nat → Prop} {a : Nat → Int32} {n t : Nat} (h : t < n) (hv : V t) : st_k V a n t = 0 := @if_pos _ (Classical.propDecidable _) ⟨h, hv⟩ _ _ _
theorem st_k0 {V : Nat → Prop} {a : Nat → Int32} {n t : Nat} (h : ¬ (t < n ∧ V t)) : st_k V a n t = a t := @if_neg _ (Classical.propDecidable _) h _ _ _
theorem st_kz (V : Nat → Prop) (a : Nat → Int32) : st_k V a 0 = a := by
  funext t
  exact st_k0 (fun z => absurd z.1 (Nat.not_lt_zero t))
theorem st_ks {V : Nat → Prop} {a : Nat → Int32} {n : Nat} (h : V n) : upd (st_k V a n) n 0 = st_k V a (n + 1) := by
  funext t
  by_cases e : t = n
  · subst e; rw [pk_us, st_k1 (by omega) h]
  · rw [pk_un e]
    by_cases z : t < n ∧ V t
    · rw [st_k1 z.1 z.2, st_k1 (by omega) z.2]
    · rw [st_k0 z, st_k0 (fun y => z ⟨by omega, y.2⟩)]
theorem st_kn {V : Nat → Prop} {a : Nat → Int32} {n : Nat} (h : ¬ V n) : st_k V a n = st_k V a (n + 1) := by
  funext t
  by_cases z : t < n ∧ V t
  · rw [st_k1 z.1 z.2, st_k1 (by omega) z.2]
  · rw [st_k0 z, st_k0 (fun y => z ⟨by
      by_cases e : t = n
      · rw [e] at y; exact absurd y.2 h
      · omega, y.2⟩)]
def st_V (th up cl av : Nat → Int32) (ov : Nat → Nat → Bool) (t : Nat) : Prop := ∃ c, c < 36 ∧ ov t c = true ∧ ¬ tn_mp th up cl (av t) c
theorem xa_isOver1 {post : Int32 → Prop} {P : Prop} {t c : Nat} (ht : t < 8) (iff : P ↔ ¬ pl t = 0 ∧ ((us t >>> ((nI c).toInt64 &&& 63)) &&& 1) = 1) (h1 : P → post 1) (h0 : ¬ P → post 0) : wpX_isOver post (gc, gk, gb, th, up, co, ca, cl, ex, pl, fi, la, bw, pr, av, cn, pa, us, fo, op, ct, lk, dn, gp, rs, cf, qu, en, lo, ab, tr) (nI t) (nI c) := by
  unfold wpX_isOver
  dsimp only
  rw [nI_clamp (show t < 2 ^ 31 by omega)]
  exact ⟨vp_in_nI ht (by omega), br_c (fun hp => h0 (fun e => (iff.mp e).1 hp)) (fun hp => ⟨vp_in_nI ht (by omega), br_c (fun hu => h1 (iff.mpr ⟨hp, hu⟩)) (fun hu => h0 (fun e => hu (iff.mp e).2))⟩)⟩
theorem xs_dropB {post : SX → Prop} {J : Int32 → (Nat → Int32) → (Nat → Int32) → (Nat → Int32) → (Nat → Int32) → (Nat → Int32) → (Nat → Int32) → (Nat → Int32) → (Nat → Int32) → (Nat → Int32) → (Nat → Int32) → (Nat → Int32) → (Nat → Int32) → (Nat → Int32) → (Nat → Int32) → (Nat → Int64) → (Nat → Int32) → (Nat → Int32) → (Nat → Int32) → (Nat → Int32) → (Nat → Int32) → (Nat → Int32) → (Nat → Int32) → (Nat → Int32) → (Nat → Int32) → (Nat → Int32) → (Nat → Int32) → (Nat → Int32) → (Nat → Int32) → Prop} {t : Nat} (ht : t < 8) (hp : pl t = 0) (h : J (nI (t + 1)) th up co ca cl ex pl fi la bw pr av cn pa us fo op ct lk dn gp rs cf qu en lo ab tr) : ∀ d j, j + d = 36 → wX_dropBroken_10 post J (nI t) gc gk gb (d + 1) (nI j) th up co ca cl ex pl fi la bw pr av cn pa us fo op ct lk dn gp rs cf qu en lo ab tr := by
  intro d
  induction d with
  | zero =>
    intro j hj
    have e : j = 36 := by omega
    subst e
    exact br_t (nI_le (a := 36) (by omega) (by omega)) (nm_r (nI_1 t) h)
  | succ d ih =>
    intro j hj
    refine br_f (nI_ge (b := 36) (by omega) (by omega)) (xa_isOver1 (P := False) ht ⟨fun z => z.elim, fun z => absurd hp z.1⟩ (fun z => z.elim) (fun _ => br_t rfl (nm_r (nI_1 j) (ih (j + 1) (by omega)))))
theorem xs_dropA {post : SX → Prop} {J : Int32 → (Nat → Int32) → (Nat → Int32) → (Nat → Int32) → (Nat → Int32) → (Nat → Int32) → (Nat → Int32) → (Nat → Int32) → (Nat → Int32) → (Nat → Int32) → (Nat → Int32) → (Nat → Int32) → (Nat → Int32) → (Nat → Int32) → (Nat → Int32) → (Nat → Int64) → (Nat → Int32) → (Nat → Int32) → (Nat → Int32) → (Nat → Int32) → (Nat → Int32) → (Nat → Int32) → (Nat → Int32) → (Nat → Int32) → (Nat → Int32) → (Nat → Int32) → (Nat → Int32) → (Nat → Int32) → (Nat → Int32) → Prop} {t : Nat} (ht : t < 8) (iff : ∀ c, c < 36 → (ov t c = true ↔ ¬ pl t = 0 ∧ ((us t >>> ((nI c).toInt64 &&& 63)) &&& 1) = 1)) (hv : st_V th up cl av ov t → J (nI (t + 1)) th up co ca cl ex (upd pl t 0) fi la bw pr av cn pa us fo op ct lk dn gp rs cf qu en lo ab tr) (hn : ¬ st_V th up cl av ov t → J (nI (t + 1)) th up co ca cl ex pl fi la bw pr av cn pa us fo op ct lk dn gp rs cf qu en lo ab tr) : ∀ d j, j + d = 36 → (∀ c, c < j → ¬ (ov t c = true ∧ ¬ tn_mp th up cl (av t) c)) → wX_dropBroken_10 post J (nI t) gc gk gb (d + 1) (nI j) th up co ca cl ex pl fi la bw pr av cn pa us fo op ct lk dn gp rs cf qu en lo ab tr := by
  intro d
  induction d with
  | zero =>
    intro j hj hno
    have e : j = 36 := by omega
    subst e
    exact br_t (nI_le (a := 36) (by omega) (by omega)) (nm_r (nI_1 t) (hn (fun ⟨c, c1, c2⟩ => hno c c1 c2)))
  | succ d ih =>
    intro j hj hno
    have et : (nI t).toNatClampNeg = t := nI_clamp (by omega)
    have vt : vp_in (nI t) 8 := vp_in_nI ht (by omega)
    have j36 : j < 36 := by omega
    have nx : ¬ (ov t j = true ∧ ¬ tn_mp th up cl (av t) j) → wX_dropBroken_10 post J (nI t) gc gk gb (d + 1) (nI (j + 1)) th up co ca cl ex pl fi la bw pr av cn pa us fo op ct lk dn gp rs cf qu en lo ab tr := by
      intro hz
      refine ih (j + 1) (by omega) (fun c hc => ?_)
      by_cases e : c = j
      · rw [e]; exact hz
      · exact hno c (by omega)
    refine br_f (nI_ge (b := 36) (by omega) (by omega)) (xa_isOver1 ht (iff j j36) (fun ho => br_f (by decide) (And.intro vt ?_)) (fun ho => br_t rfl (nm_r (nI_1 j) (nx (fun z => ho z.1)))))
    rw [et]
    refine xa_mayPass j36 (fun hm => br_f (by decide) (nm_r (nI_1 j) (nx (fun z => z.2 hm)))) (fun hm => br_t rfl (And.intro vt (nm_r (e' := upd pl t 0) (by rw [aa_b0]) (nm_r (nI_1 j) ?_))))
    exact xs_dropB ht pk_us (hv ⟨j, j36, ho, hm⟩) d (j + 1) (by omega)
theorem xs_drop_l {post : SX → Prop} (hO : tn_XO pl us ov) (h : post (gc, gk, gb, th, up, co, ca, cl, ex, st_k (st_V th up cl av ov) pl 8, fi, la, bw, pr, av, cn, pa, us, fo, op, ct, lk, dn, gp, rs, cf, qu, en, lo, ab, tr)) : ∀ d t, t + d = 8 → wX_dropBroken_2 post gc gk gb (d + 1) (nI t) th up co ca cl ex (st_k (st_V th up cl av ov) pl t) fi la bw pr av cn pa us fo op ct lk dn gp rs cf qu en lo ab tr := by
  intro d
  induction d with
  | zero =>
    intro t ht
    have e : t = 8 := by omega
    subst e
    exact br_t (nI_le (a := 8) (by omega) (by omega)) h
  | succ d ih =>
    intro t ht
    have e0 : st_k (st_V th up cl av ov) pl t t = pl t := st_k0 (fun z => absurd z.1 (Nat.lt_irrefl t))
    refine br_f (nI_ge (b := 8) (by omega) (by omega)) (Exists.intro 37 (xs_dropA (ov := ov) (t := t) (by omega) (fun c hc => ?_) (fun hv => ?_) (fun hn => ?_) 36 0 rfl (fun c hc => absurd hc (Nat.not_lt_zero c))))
    · rw [e0]; exact hO t c (by omega) hc
    · rw [st_ks hv]; exact ih (t + 1) (by omega)
    · have := ih (t + 1) (by omega)
      rw [← st_kn hn] at this
      exact this
theorem xs_drop {post : SX → Prop} (hO : tn_XO pl us ov) (h : post (gc, gk, gb, th, up, co, ca, cl, ex, st_k (st_V th up cl av ov) pl 8, fi, la, bw, pr, av, cn, pa, us, fo, op, ct, lk, dn, gp, rs, cf, qu, en, lo, ab, tr)) : wpX_dropBroken post (gc, gk, gb, th, up, co, ca, cl, ex, pl, fi, la, bw, pr, av, cn, pa, us, fo, op, ct, lk, dn, gp, rs, cf, qu, en, lo, ab, tr) := by
  have k := xs_drop_l hO h 8 0 rfl
  rw [st_kz] at k
  exact Exists.intro 9 k
/-! too much load -/
def st_P (th : Nat → Int32) (ov : Nat → Nat → Bool) (B R K : Nat → Nat) (c : Nat) : Prop := ¬ th c = 0 ∧ K c < tn_tk ov B R c 3 8
theorem xs_over_l {post : Int32 → Prop} (hO : tn_XO pl us ov) (hB : tn_v bw B 8 100) (hR : tn_v pr R 8 3) (hK : tn_v ca K 36 100) (h1 : ∀ c, c < 36 → st_P th ov B R K c → (∀ c', c' < c → ¬ st_P th ov B R K c') → post (nI c)) (h0 : (∀ c, c < 36 → ¬ st_P th ov B R K c) → post (-1)) : ∀ d i, i + d = 36 → (∀ c, c < i → ¬ st_P th ov B R K c) → wX_overloaded_2 post gc gk gb th up co ca cl ex pl fi la bw pr av cn pa us fo op ct lk dn gp rs cf qu en lo ab tr (d + 1) (nI i) := by
  intro d
  induction d with
  | zero =>
    intro i hi hn
    have e : i = 36 := by omega
    subst e
    exact br_t (nI_le (a := 36) (by omega) (by omega)) (h0 hn)
  | succ d ih =>
    intro i hi hn
    have i36 : i < 36 := by omega
    have ei : (nI i).toNatClampNeg = i := nI_clamp (by omega)
    have vi : vp_in (nI i) 36 := vp_in_nI i36 (by omega)
    have k1 := hK i i36
    have bd := tn_tk_bd (ov := ov) (R := R) (c := i) (p := 3) (but := 8) hB
    have nx : ¬ st_P th ov B R K i → wX_overloaded_2 post gc gk gb th up co ca cl ex pl fi la bw pr av cn pa us fo op ct lk dn gp rs cf qu en lo ab tr (d + 1) (nI (i + 1)) := by
      intro hz
      refine ih (i + 1) (by omega) (fun c hc => ?_)
      by_cases e : c = i
      · rw [e]; exact hz
      · exact hn c (by omega)
    refine br_f (nI_ge (b := 36) (by omega) (by omega)) (And.intro vi (br_c (fun a => ?_) (fun a => xa_loadOf i36 hO hB hR (And.intro vi (br_c (fun b => ?_) (fun b => ?_))))))
    · rw [ei] at a
      exact nm_r (nI_1 i) (nx (fun z => z.1 a))
    · rw [ei, k1.1, nI_leI (by omega) (by omega)] at b
      exact nm_r (nI_1 i) (nx (fun z => by have := z.2; omega))
    · rw [ei] at a
      rw [ei, k1.1, nI_leI (by omega) (by omega)] at b
      exact h1 i i36 ⟨a, by omega⟩ hn
theorem xs_overloaded {post : Int32 → Prop} (hO : tn_XO pl us ov) (hB : tn_v bw B 8 100) (hR : tn_v pr R 8 3) (hK : tn_v ca K 36 100) (h1 : ∀ c, c < 36 → st_P th ov B R K c → (∀ c', c' < c → ¬ st_P th ov B R K c') → post (nI c)) (h0 : (∀ c, c < 36 → ¬ st_P th ov B R K c) → post (-1)) : wpX_overloaded post (gc, gk, gb, th, up, co, ca, cl, ex, pl, fi, la, bw, pr, av, cn, pa, us, fo, op, ct, lk, dn, gp, rs, cf, qu, en, lo, ab, tr) :=
  Exists.intro 37 (xs_over_l hO hB hR hK h1 h0 36 0 rfl (fun c hc => absurd hc (Nat.not_lt_zero c)))
/-- the least urgent tunnel over c below n -/
def st_W (ov : Nat → Nat → Bool) (R : Nat → Nat) (c n m : Nat) : Prop := m < n ∧ ov m c = true ∧ ∀ t, t < n → ov t c = true → R t < R m ∨ (R t = R m ∧ t ≤ m)
theorem st_Wu {ov : Nat → Nat → Bool} {R : Nat → Nat} {c n m m' : Nat} (h : st_W ov R c n m) (h' : st_W ov R c n m') : m = m' := by
  have a1 := h.2.2 m' h'.1 h'.2.1
  have a2 := h'.2.2 m h.1 h.2.1
  omega
theorem xs_push_l {post : SX → Prop} {c : Nat} (hc : c < 36) (hO : tn_XO pl us ov) (hR : tn_v pr R 8 3) (hex : ∃ t, t < 8 ∧ ov t c = true) (h : ∀ m, st_W ov R c 8 m → post (gc, gk, gb, th, up, co, ca, cl, ex, upd pl m 0, fi, la, bw, pr, av, cn, pa, us, fo, op, ct, lk, dn, gp, rs, cf, qu, en, lo, ab, tr)) : ∀ d i x, i + d = 8 → ((x = -1 ∧ ∀ t, t < i → ov t c = false) ∨ (∃ m, x = nI m ∧ st_W ov R c i m)) → wX_pushOff_4 post (nI c) gc gk gb th up co ca cl ex pl fi la bw pr av cn pa us fo op ct lk dn gp rs cf qu en lo ab tr (d + 1) x (nI i) := by
  intro d
  induction d with
  | zero =>
    intro i x hi hx
    have e : i = 8 := by omega
    subst e
    rcases hx with ⟨_, hx⟩ | ⟨m, rfl, hm⟩
    · obtain ⟨t, t1, t2⟩ := hex
      rw [hx t t1] at t2
      exact absurd t2 (by decide)
    · have m8 := hm.1
      exact br_t (nI_le (a := 8) (by omega) (by omega)) (br_f (nI_pos (by omega)) (And.intro (vp_in_nI m8 (by omega)) (nm_r (e' := upd pl m 0) (by rw [nI_clamp (by omega), aa_b0]) (h m hm))))
  | succ d ih =>
    intro i x hi hx
    have i8 : i < 8 := by omega
    have ei : (nI i).toNatClampNeg = i := nI_clamp (by omega)
    have vi : vp_in (nI i) 8 := vp_in_nI i8 (by omega)
    refine br_f (nI_ge (b := 8) (by omega) (by omega)) (xa_isOver i8 hc hO (fun ho => br_f (by decide) ?_) (fun ho => br_t rfl (nm_r (nI_1 i) (ih (i + 1) x (by omega) ?_))))
    · rcases hx with ⟨rfl, hx⟩ | ⟨m, rfl, hm⟩
      · refine br_t aa_m1 (nm_r (nI_1 i) (ih (i + 1) (nI i) (by omega) (Or.inr ⟨i, rfl, by omega, ho, fun t ht to => ?_⟩)))
        by_cases e : t = i
        · rw [e]; exact Or.inr ⟨rfl, Nat.le_refl _⟩
        · rw [hx t (by omega)] at to; exact absurd to (by decide)
      · have m8 := hm.1
        have em : (nI m).toNatClampNeg = m := nI_clamp (by omega)
        have r1 := hR i i8
        have r2 := hR m (by omega)
        refine br_f (nI_pos (by omega)) (And.intro vi (And.intro (vp_in_nI (by omega) (by omega)) (br_c (fun a => ?_) (fun a => ?_))))
        · rw [ei, em, r1.1, r2.1, nI_ltI (by omega) (by omega)] at a
          refine nm_r (nI_1 i) (ih (i + 1) (nI m) (by omega) (Or.inr ⟨m, rfl, by omega, hm.2.1, fun t ht to => ?_⟩))
          by_cases e : t = i
          · subst e; exact Or.inl a
          · exact hm.2.2 t (by omega) to
        · rw [ei, em, r1.1, r2.1, nI_ltI (by omega) (by omega)] at a
          refine nm_r (nI_1 i) (ih (i + 1) (nI i) (by omega) (Or.inr ⟨i, rfl, by omega, ho, fun t ht to => ?_⟩))
          by_cases e : t = i
          · rw [e]; exact Or.inr ⟨rfl, Nat.le_refl _⟩
          · have := hm.2.2 t (by omega) to
            omega
    · rcases hx with ⟨e, hx⟩ | ⟨m, e, hm⟩
      · refine Or.inl ⟨e, fun t ht => ?_⟩
        by_cases z : t = i
        · rw [z]; exact ho
        · exact hx t (by omega)
      · refine Or.inr ⟨m, e, by have := hm.1; omega, hm.2.1, fun t ht to => ?_⟩
        by_cases z : t = i
        · rw [z, ho] at to; exact absurd to (by decide)
        · exact hm.2.2 t (by omega) to
theorem xs_pushOff {post : SX → Prop} {c : Nat} (hc : c < 36) (hO : tn_XO pl us ov) (hR : tn_v pr R 8 3) (hex : ∃ t, t < 8 ∧ ov t c = true) (h : ∀ m, st_W ov R c 8 m → post (gc, gk, gb, th, up, co, ca, cl, ex, upd pl m 0, fi, la, bw, pr, av, cn, pa, us, fo, op, ct, lk, dn, gp, rs, cf, qu, en, lo, ab, tr)) : wpX_pushOff post (gc, gk, gb, th, up, co, ca, cl, ex, pl, fi, la, bw, pr, av, cn, pa, us, fo, op, ct, lk, dn, gp, rs, cf, qu, en, lo, ab, tr) (nI c) :=
  Exists.intro 9 (xs_push_l hc hO hR hex h 8 0 (-1) rfl (Or.inl ⟨rfl, fun t ht => absurd ht (Nat.not_lt_zero t)⟩))
def st_cnt (pl : Nat → Int32) (n : Nat) : Nat := aa_sm (fun t => if pl t = 0 then 0 else 1) n
theorem xs_placed_l {post : Int32 → Prop} (h : post (nI (st_cnt pl 8))) : ∀ d i, i + d = 8 → wX_placed_4 post gc gk gb th up co ca cl ex pl fi la bw pr av cn pa us fo op ct lk dn gp rs cf qu en lo ab tr (d + 1) (nI (st_cnt pl i)) (nI i) := by
  intro d
  induction d with
  | zero =>
    intro i hi
    have e : i = 8 := by omega
    subst e
    exact br_t (nI_le (a := 8) (by omega) (by omega)) h
  | succ d ih =>
    intro i hi
    have ei : (nI i).toNatClampNeg = i := nI_clamp (by omega)
    refine br_f (nI_ge (b := 8) (by omega) (by omega)) (And.intro (vp_in_nI (by omega) (by omega)) (br_c (fun a => nm_r (e' := nI (st_cnt pl (i + 1))) ?_ (nm_r (nI_1 i) (ih (i + 1) (by omega)))) (fun a => nm_r (e' := nI (st_cnt pl (i + 1))) ?_ (nm_r (nI_1 i) (ih (i + 1) (by omega))))))
    · rw [ei] at a
      unfold st_cnt
      rw [aa_add0, aa_sms, if_pos a, Nat.add_zero]
    · rw [ei] at a
      unfold st_cnt
      rw [nI_1, aa_sms, if_neg a]
theorem xs_placed {post : Int32 → Prop} (h : post (nI (st_cnt pl 8))) : wpX_placed post (gc, gk, gb, th, up, co, ca, cl, ex, pl, fi, la, bw, pr, av, cn, pa, us, fo, op, ct, lk, dn, gp, rs, cf, qu, en, lo, ab, tr) :=
  Exists.intro 9 (xs_placed_l h 8 0 rfl)
end XS
end
section
section XP
/-! the component: the first idle tunnel that can be placed -/
variable {gc gk gb : Int32} {th up co ca cl ex pl fi la bw pr av cn pa fo op ct lk dn gp rs cf qu en lo ab tr : Nat → Int32} {us : Nat → Int64}
variable {w K B R f g : Nat → Nat} {ov : Nat → Nat → Bool}
def st_O (th up cl av : Nat → Int32) (ov : Nat → Nat → Bool) (B R K : Nat → Nat) (t : Nat) : Nat → Prop := tn_O th up cl ov B R K (R t) (av t) (B t) t
def st_Q (ex z : Nat → Int32) (R f g : Nat → Nat) (O : Nat → Nat → Prop) (k : Nat) : Prop := ¬ ex (k % 8) = 0 ∧ z (k % 8) = 0 ∧ R (k % 8) = k / 8 ∧ ∃ L q, pa_Val (O (k % 8)) (f (k % 8)) (g (k % 8)) L q
theorem xs_placeOne_l {post : Int32 → SX → Prop} (hO : tn_XO pl us ov) (hB : tn_v bw B 8 100) (hR : tn_v pr R 8 3) (hK : tn_v ca K 36 100) (hw : tn_v co w 36 20) (hf : tn_v fi f 8 5) (hg : tn_v la g 8 5)
    (h1 : ∀ k, k < 32 → st_Q ex pl R f g (st_O th up cl av ov B R K) k → (∀ k', k' < k → ¬ st_Q ex pl R f g (st_O th up cl av ov B R K) k') → ∀ L q, pa_Best (st_O th up cl av ov B R K (k % 8)) w (f (k % 8)) (g (k % 8)) L q → ∀ gc' gk' fo' op' ct' lk' dn', post 1 (gc', gk', gb, th, up, co, ca, cl, ex, upd pl (k % 8) 1, fi, la, bw, pr, av, upd cn (k % 8) (nI (L + 1)), st_pa pa (k % 8) q (L + 1), vp_updL us (k % 8) (st_m q L), fo', op', ct', lk', dn', gp, rs, cf, qu, en, lo, ab, tr))
    (h0 : (∀ k, k < 32 → ¬ st_Q ex pl R f g (st_O th up cl av ov B R K) k) → ∀ gc' gk' fo' op' ct' lk' dn', post 0 (gc', gk', gb, th, up, co, ca, cl, ex, pl, fi, la, bw, pr, av, cn, pa, us, fo', op', ct', lk', dn', gp, rs, cf, qu, en, lo, ab, tr)) :
    ∀ d i gc' gk' fo' op' ct' lk' dn', i + d = 32 → (∀ k, k < i → ¬ st_Q ex pl R f g (st_O th up cl av ov B R K) k) → wX_placeOne_2 post (d + 1) (nI i) gc' gk' gb th up co ca cl ex pl fi la bw pr av cn pa us fo' op' ct' lk' dn' gp rs cf qu en lo ab tr := by
  intro d
  induction d with
  | zero =>
    intro i gc' gk' fo' op' ct' lk' dn' hi hn
    have e : i = 32 := by omega
    subst e
    exact br_t (nI_le (a := 32) (by omega) (by omega)) (h0 hn gc' gk' fo' op' ct' lk' dn')
  | succ d ih =>
    intro i gc' gk' fo' op' ct' lk' dn' hi hn
    have t8 : i % 8 < 8 := Nat.mod_lt _ (by omega)
    have et : (nI (i % 8)).toNatClampNeg = i % 8 := nI_clamp (by omega)
    have vt : vp_in (nI (i % 8)) 8 := vp_in_nI t8 (by omega)
    have r1 := hR (i % 8) t8
    have nx : ¬ st_Q ex pl R f g (st_O th up cl av ov B R K) i → ∀ gc' gk' fo' op' ct' lk' dn', wX_placeOne_2 post (d + 1) (nI (i + 1)) gc' gk' gb th up co ca cl ex pl fi la bw pr av cn pa us fo' op' ct' lk' dn' gp rs cf qu en lo ab tr := by
      intro hz gc' gk' fo' op' ct' lk' dn'
      refine ih (i + 1) gc' gk' fo' op' ct' lk' dn' (by omega) (fun k hk => ?_)
      by_cases e : k = i
      · rw [e]; exact hz
      · exact hn k (by omega)
    refine br_f (nI_ge (b := 32) (by omega) (by omega)) (And.intro aa_8n (nm_r (e' := nI (i % 8)) (aa_mod8 (by omega)) (And.intro vt (br_c (fun a => ?_) (fun a => And.intro vt (br_c (fun b => And.intro vt (And.intro aa_8n (br_c (fun e => ?_) (fun e => ?_)))) (fun b => ?_)))))))
    · rw [et] at a
      exact nm_r (nI_1 i) (nx (fun z => z.1 a) _ _ _ _ _ _ _)
    · rw [et] at a b
      rw [et, r1.1, aa_div8 (by omega), nI_eq (by omega) (by omega)] at e
      refine xs_findFor t8 hO hB hR hK hw hf hg (fun L q fo2 op2 ct2 lk2 dn2 hb hfo => br_f (by decide) ?_) (fun hno op2 ct2 lk2 dn2 => br_t rfl (nm_r (nI_1 i) (nx (fun z => ?_) _ _ _ _ _ _ _)))
      · exact xs_place t8 hb.2.1 hb.1.2.2.1 hfo (h1 i (by omega) ⟨a, b, e, L, q, hb.1⟩ hn L q hb _ _ _ _ _ _ _)
      · obtain ⟨L, q, v⟩ := z.2.2.2
        exact hno L q v
    · rw [et, r1.1, aa_div8 (by omega), nI_eq (by omega) (by omega)] at e
      exact nm_r (nI_1 i) (nx (fun z => e z.2.2.1) _ _ _ _ _ _ _)
    · rw [et] at b
      exact nm_r (nI_1 i) (nx (fun z => b z.2.1) _ _ _ _ _ _ _)
theorem xs_placeOne {post : Int32 → SX → Prop} (hO : tn_XO pl us ov) (hB : tn_v bw B 8 100) (hR : tn_v pr R 8 3) (hK : tn_v ca K 36 100) (hw : tn_v co w 36 20) (hf : tn_v fi f 8 5) (hg : tn_v la g 8 5)
    (h1 : ∀ k, k < 32 → st_Q ex pl R f g (st_O th up cl av ov B R K) k → (∀ k', k' < k → ¬ st_Q ex pl R f g (st_O th up cl av ov B R K) k') → ∀ L q, pa_Best (st_O th up cl av ov B R K (k % 8)) w (f (k % 8)) (g (k % 8)) L q → ∀ gc' gk' fo' op' ct' lk' dn', post 1 (gc', gk', gb, th, up, co, ca, cl, ex, upd pl (k % 8) 1, fi, la, bw, pr, av, upd cn (k % 8) (nI (L + 1)), st_pa pa (k % 8) q (L + 1), vp_updL us (k % 8) (st_m q L), fo', op', ct', lk', dn', gp, rs, cf, qu, en, lo, ab, tr))
    (h0 : (∀ k, k < 32 → ¬ st_Q ex pl R f g (st_O th up cl av ov B R K) k) → ∀ gc' gk' fo' op' ct' lk' dn', post 0 (gc', gk', gb, th, up, co, ca, cl, ex, pl, fi, la, bw, pr, av, cn, pa, us, fo', op', ct', lk', dn', gp, rs, cf, qu, en, lo, ab, tr)) : wpX_placeOne post (gc, gk, gb, th, up, co, ca, cl, ex, pl, fi, la, bw, pr, av, cn, pa, us, fo, op, ct, lk, dn, gp, rs, cf, qu, en, lo, ab, tr) :=
  Exists.intro 33 (xs_placeOne_l hO hB hR hK hw hf hg h1 h0 32 0 gc gk fo op ct lk dn rfl (fun k hk => absurd hk (Nat.not_lt_zero k)))
end XP
end
section
section YA
/-! the reference: loads, rooms, links that may be used -/
def tn_YO (le pa : Nat → Int32) : Prop := ∀ t, t < 8 → ∃ n, n ≤ 6 ∧ le t = nI n ∧ ∀ i, i < n → ∃ v, v < 6 ∧ pa (6 * t + i) = nI v
theorem tn_YOof {ex pl cn le pa : Nat → Int32} {us : Nat → Int64} {f g : Nat → Nat} (h : tn_T ex pl cn le pa us f g) : tn_YO le pa := by
  intro t ht
  rcases h t ht with ⟨h1, h2⟩ | ⟨h1, h2, h3, L, q, h4, h5, h6, h7⟩
  · exact ⟨0, by omega, h2, fun i hi => absurd hi (Nat.not_lt_zero i)⟩
  · obtain ⟨p1, p2, p3, p4, p5, p6⟩ := h4
    exact ⟨L + 1, by omega, p3, fun i hi => ⟨q i, p5 i (by omega), p4 i (by omega)⟩⟩
variable {yn yl yk : Int32} {th co ca cl up ex ed bw pr av le pa pt bs : Nat → Int32}
variable {w K B R : Nat → Nat}
theorem ya_codeOf {post : Int32 → Prop} {a b : Nat} (ha : a < 6) (hb : b < 6) (h : post (nI (aa_cd a b))) : wpY_codeOf post (yn, yl, yk, th, co, ca, cl, up, ex, ed, bw, pr, av, le, pa, pt, bs) (nI a) (nI b) := by
  unfold wpY_codeOf
  unfold aa_cd at h
  refine pk_le b a (fun hl => ?_) (fun hl => ?_)
  · rw [if_pos hl] at h
    rw [aa_6]; exact h
  · rw [if_neg (by omega)] at h
    rw [aa_6]; exact h
theorem ya_isOver_l {post : Int32 → Prop} {t c n : Nat} {q : Nat → Nat} (ht : t < 8) (hc : c < 36) (hn : n ≤ 6) (e1 : le t = nI n) (e2 : ∀ i, i < n → q i < 6 ∧ pa (6 * t + i) = nI (q i)) (h1 : tn_ov le pa t c = true → post 1) (h0 : tn_ov le pa t c = false → post 0) : ∀ d i, n ≤ i + d + 1 → i ≤ n → (∀ j, j < i → j + 1 < n → aa_cd (q j) (q (j + 1)) ≠ c) → wY_isOver_2 post (nI t) (nI c) yn yl yk th co ca cl up ex ed bw pr av le pa pt bs (d + 1) (nI i) := by
  have et : (nI t).toNatClampNeg = t := nI_clamp (by omega)
  have vt : vp_in (nI t) 8 := vp_in_nI ht (by omega)
  have ovi : tn_ov le pa t c = true ↔ ∃ i, i + 1 < n ∧ aa_cd (q i) (q (i + 1)) = c := by
    rw [tn_ov_iff, e1, nI_clamp (by omega)]
    constructor
    · rintro ⟨i, hi, e⟩
      have a1 := e2 i (by omega)
      have a2 := e2 (i + 1) hi
      rw [a1.2, a2.2, nI_clamp (by omega), nI_clamp (by omega)] at e
      exact ⟨i, hi, e⟩
    · rintro ⟨i, hi, e⟩
      have a1 := e2 i (by omega)
      have a2 := e2 (i + 1) hi
      refine ⟨i, hi, ?_⟩
      rw [a1.2, a2.2, nI_clamp (by omega), nI_clamp (by omega)]
      exact e
  intro d
  induction d with
  | zero =>
    intro i hd hi hno
    refine And.intro vt (br_t ?_ (h0 (ts_nt fun z => ?_)))
    · rw [et, e1]
      exact (aa_rle (b := 1) (by omega) (by omega) (by omega)).mpr (by omega)
    · obtain ⟨j, j1, j2⟩ := ovi.mp z
      exact hno j (by omega) j1 j2
  | succ d ih =>
    intro i hd hi hno
    refine And.intro vt (br_c (fun a => h0 (ts_nt fun z => ?_)) (fun a => ?_))
    · rw [et, e1] at a
      have a' := (aa_rle (b := 1) (by omega) (by omega) (by omega)).mp a
      obtain ⟨j, j1, j2⟩ := ovi.mp z
      exact hno j (by omega) j1 j2
    · rw [et, e1] at a
      have a' : ¬ n ≤ 1 + i := fun z => a ((aa_rle (b := 1) (by omega) (by omega) (by omega)).mpr z)
      have q1 := e2 i (by omega)
      have q2 := e2 (i + 1) (by omega)
      rw [aa_6, nI_1, nI_clamp (by omega), nI_clamp (by omega), q1.2, show 6 * t + i + 1 = 6 * t + (i + 1) from rfl, q2.2]
      refine And.intro (vp_in_nI (by omega) (by omega)) (And.intro (vp_in_nI (by omega) (by omega)) (ya_codeOf q1.1 q2.1 (br_c (fun b => h1 (ovi.mpr ⟨i, by omega, ?_⟩)) (fun b => nm_r (nI_1 i) (ih (i + 1) (by omega) (by omega) (fun j hj hj1 => ?_))))))
      · have := aa_cd_lt q1.1 q2.1
        exact (nI_eq (by omega) (by omega)).mp b
      · by_cases e : j = i
        · subst e; exact fun z => b (by rw [z])
        · exact hno j (by omega) hj1
theorem ya_isOver {post : Int32 → Prop} {t c : Nat} (ht : t < 8) (hc : c < 36) (hY : tn_YO le pa) (h1 : tn_ov le pa t c = true → post 1) (h0 : tn_ov le pa t c = false → post 0) : wpY_isOver post (yn, yl, yk, th, co, ca, cl, up, ex, ed, bw, pr, av, le, pa, pt, bs) (nI t) (nI c) := by
  obtain ⟨n, n6, e1, e2⟩ := hY t ht
  refine Exists.intro 7 (ya_isOver_l (q := fun i => (pa (6 * t + i)).toNatClampNeg) ht hc n6 e1 (fun i hi => ?_) h1 h0 6 0 (by omega) (by omega) (fun j hj => absurd hj (Nat.not_lt_zero j)))
  obtain ⟨v, v6, ev⟩ := e2 i hi
  have : (pa (6 * t + i)).toNatClampNeg = v := by rw [ev, nI_clamp (by omega)]
  exact ⟨by rw [this]; exact v6, by rw [this]; exact ev⟩
theorem ya_taken_l {post : Int32 → Prop} {c p but : Nat} {x : Int32} (hc' : c < 36) (hp : p < 2 ^ 31) (hx : tn_Bt x but) (hY : tn_YO le pa) (hB : tn_v bw B 8 100) (hR : tn_v pr R 8 3) (h : post (nI (tn_tk (tn_ov le pa) B R c p but))) : ∀ d i, i + d = 8 → wY_taken_6 post (nI c) (nI p) x yn yl yk th co ca cl up ex ed bw pr av le pa pt bs (d + 1) (nI (aa_sm (tn_f (tn_ov le pa) B R c p but) i)) (nI i) := by
  intro d
  induction d with
  | zero =>
    intro i hi
    have e : i = 8 := by omega
    subst e
    exact br_t (nI_le (a := 8) (by omega) (by omega)) h
  | succ d ih =>
    intro i hi
    have nx := ih (i + 1) (by omega)
    have zero : ¬ (i ≠ but ∧ R i ≤ p ∧ tn_ov le pa i c = true) → wY_taken_6 post (nI c) (nI p) x yn yl yk th co ca cl up ex ed bw pr av le pa pt bs (d + 1) (nI (aa_sm (tn_f (tn_ov le pa) B R c p but) i)) (nI (i + 1)) := by
      intro hz
      have ef : tn_f (tn_ov le pa) B R c p but i = 0 := if_neg hz
      rw [aa_sms, ef, Nat.add_zero] at nx
      exact nx
    have er : pr (nI i).toNatClampNeg = nI (R i) := by
      rw [nI_clamp (by omega)]; exact (hR i (by omega)).1
    have rb := (hR i (by omega)).2
    refine br_f (nI_ge (b := 8) (by omega) (by omega)) (br_c (fun e => ?_) (fun e => ⟨vp_in_nI (by omega) (by omega), br_c (fun hl => ?_) (fun hl => ya_isOver (by omega) hc' hY (fun ho => ?_) (fun ho => ?_))⟩))
    · exact nm_r (nI_1 i) (zero (fun z => z.1 ((hx i (by omega)).mp e)))
    · rw [er, nI_ltI hp (by omega)] at hl
      exact nm_r (nI_1 i) (zero (fun z => by omega))
    · refine br_f (by decide) ⟨vp_in_nI (by omega) (by omega), nm_r (e' := nI (aa_sm (tn_f (tn_ov le pa) B R c p but) (i + 1))) ?_ (nm_r (nI_1 i) nx)⟩
      rw [er, nI_ltI hp (by omega)] at hl
      have ef : tn_f (tn_ov le pa) B R c p but i = B i := if_pos ⟨fun z => e ((hx i (by omega)).mpr z), by omega, ho⟩
      rw [nI_clamp (by omega), (hB i (by omega)).1, nI_add, aa_sms, ef]
    · exact br_t rfl (nm_r (nI_1 i) (zero (fun z => by rw [ho] at z; exact absurd z.2.2 (by decide))))
theorem ya_taken {post : Int32 → Prop} {c p but : Nat} {x : Int32} (hc' : c < 36) (hp : p < 2 ^ 31) (hx : tn_Bt x but) (hY : tn_YO le pa) (hB : tn_v bw B 8 100) (hR : tn_v pr R 8 3) (h : post (nI (tn_tk (tn_ov le pa) B R c p but))) : wpY_taken post (yn, yl, yk, th, co, ca, cl, up, ex, ed, bw, pr, av, le, pa, pt, bs) (nI c) (nI p) x :=
  Exists.intro 9 (ya_taken_l hc' hp hx hY hB hR h 8 0 rfl)
theorem ya_roomOf {post : Int32 → Prop} {c p but : Nat} {x : Int32} (hc' : c < 36) (hp : p < 2 ^ 31) (hx : tn_Bt x but) (hY : tn_YO le pa) (hB : tn_v bw B 8 100) (hR : tn_v pr R 8 3) (hK : tn_v ca K 36 100) (h : post (nI (K c) - nI (tn_tk (tn_ov le pa) B R c p but))) : wpY_roomOf post (yn, yl, yk, th, co, ca, cl, up, ex, ed, bw, pr, av, le, pa, pt, bs) (nI c) (nI p) x := by
  refine And.intro (vp_in_nI hc' (by omega)) (ya_taken hc' hp hx hY hB hR ?_)
  rw [nI_clamp (by omega), (hK c hc').1]
  exact h
theorem ya_isOpen {post : Int32 → Prop} {c : Nat} {x : Int32} (hc' : c < 36) (h1 : tn_mp th up cl x c → post 1) (h0 : ¬ tn_mp th up cl x c → post 0) : wpY_isOpen post (yn, yl, yk, th, co, ca, cl, up, ex, ed, bw, pr, av, le, pa, pt, bs) (nI c) x := by
  unfold wpY_isOpen
  dsimp only
  rw [nI_clamp (show c < 2 ^ 31 by omega)]
  have hi : vp_in (nI c) 36 := vp_in_nI hc' (by omega)
  exact ⟨hi, br_c (fun a => h0 (fun z => z.1 a)) (fun a => ⟨hi, br_c (fun b => h0 (fun z => z.2.1 b)) (fun b => ⟨hi, br_c (fun d => h1 ⟨a, b, d⟩) (fun d => h0 (fun z => d z.2.2))⟩)⟩)⟩
end YA
end
section
section YB
/-! the reference: paths -/
variable {yn yl yk : Int32} {th co ca cl up ex ed bw pr av le pa pt bs : Nat → Int32}
variable {w K B R : Nat → Nat}
def yb_Df (b : Nat) (q : Nat → Nat) : Prop := ∀ i j, i < j → j ≤ b + 1 → q i ≠ q j
theorem yb_mk80 {post : Int32 → SY → Prop} {J : Int32 → Prop} {b m : Nat} {q : Nat → Nat} (hb : b < 5) (hm : m ≤ b + 1) (hq : ∀ i, i ≤ b + 1 → q i < 6) (hp : ∀ i, i ≤ b + 1 → pt i = nI (q i)) (h0 : ∀ i, i < m → q i = q m → post 0 (yn, yl, yk, th, co, ca, cl, up, ex, ed, bw, pr, av, le, pa, pt, bs)) (h1 : (∀ i, i < m → q i ≠ q m) → J (nI (m + 1))) : ∀ d i, i + d = m → (∀ j, j < i → q j ≠ q m) → wY_makePath_80 post J (nI m) yn yl yk th co ca cl up ex ed bw pr av le pa pt bs (d + 1) (nI i) := by
  intro d
  induction d with
  | zero =>
    intro i hi hn
    have e : i = m := by omega
    subst e
    exact br_t (nI_le (Nat.le_refl _) (by omega)) (nm_r (nI_1 i) (h1 hn))
  | succ d ih =>
    intro i hi hn
    have a1 := hq i (by omega)
    have a2 := hq m hm
    refine br_f (nI_ge (by omega) (by omega)) (And.intro (vp_in_nI (by omega) (by omega)) (And.intro (vp_in_nI (by omega) (by omega)) ?_))
    rw [nI_clamp (by omega), nI_clamp (by omega), hp m hm, hp i (by omega)]
    refine br_c (fun e => h0 i (by omega) ?_) (fun e => nm_r (nI_1 i) (ih (i + 1) (by omega) (fun j hj => ?_)))
    · exact ((nI_eq (by omega) (by omega)).mp e).symm
    · by_cases z : j = i
      · subst z; exact fun y => e (by rw [y])
      · exact hn j (by omega)
theorem yb_mk68 {post : Int32 → SY → Prop} {b : Nat} {q : Nat → Nat} (hb : b < 5) (hq : ∀ i, i ≤ b + 1 → q i < 6) (hp : ∀ i, i ≤ b + 1 → pt i = nI (q i)) (h1 : yb_Df b q → post 1 (nI (b + 2), yl, yk, th, co, ca, cl, up, ex, ed, bw, pr, av, le, pa, pt, bs)) (h0 : ¬ yb_Df b q → post 0 (nI (b + 2), yl, yk, th, co, ca, cl, up, ex, ed, bw, pr, av, le, pa, pt, bs)) : ∀ d m, m + d = b + 2 → (∀ i j, i < j → j < m → q i ≠ q j) → wY_makePath_68 post (nI (b + 2)) yl yk th co ca cl up ex ed bw pr av le pa pt bs (d + 1) (nI m) := by
  intro d
  induction d with
  | zero =>
    intro m hm hn
    have e : m = b + 2 := by omega
    subst e
    exact br_t (nI_le (Nat.le_refl _) (by omega)) (h1 (fun i j hij hj => hn i j hij (by omega)))
  | succ d ih =>
    intro m hm hn
    refine br_f (nI_ge (by omega) (by omega)) (Exists.intro (m + 1) (yb_mk80 hb (by omega) hq hp (fun i hi e => h0 (fun z => z i m hi (by omega) e)) (fun hh => ih (m + 1) (by omega) (fun i j hij hj => ?_)) m 0 (by omega) (fun j hj => absurd hj (Nat.not_lt_zero j))))
    by_cases z : j = m
    · subst z; exact hh i hij
    · exact hn i j hij (by omega)
theorem yb_mk35 {post : Int32 → SY → Prop} {s d b num : Nat} (hs : s < 6) (hd : d < 6) (hb : b < 5) (hn : num < 2 ^ 31) (h1 : ∀ pt', (∀ i, i ≤ b + 1 → pt' i = nI (pa_cand s d b num i)) → yb_Df b (pa_cand s d b num) → post 1 (nI (b + 2), yl, yk, th, co, ca, cl, up, ex, ed, bw, pr, av, le, pa, pt', bs)) (h0 : ∀ pt', (∀ i, i ≤ b + 1 → pt' i = nI (pa_cand s d b num i)) → ¬ yb_Df b (pa_cand s d b num) → post 0 (nI (b + 2), yl, yk, th, co, ca, cl, up, ex, ed, bw, pr, av, le, pa, pt', bs)) : ∀ i pt', i ≤ b → (∀ j, (j = 0 ∨ i < j) → j ≤ b + 1 → pt' j = nI (pa_cand s d b num j)) → wY_makePath_35 post (nI (b + 2)) yl yk (i + 1) (nI (num / 6 ^ (b - i))) (nI i) th co ca cl up ex ed bw pr av le pa pt' bs := by
  intro i
  induction i with
  | zero =>
    intro pt' hi hp
    have hp' : ∀ j, j ≤ b + 1 → pt' j = nI (pa_cand s d b num j) := fun j hj => hp j (by omega) hj
    exact br_t (nI_le (a := 0) (b := 0) (by omega) (by omega)) (Exists.intro (b + 3) (yb_mk68 hb (fun i _ => pa_cand6 hs hd i) hp' (h1 pt' hp') (h0 pt' hp') (b + 2) 0 (by omega) (fun i j _ hj => absurd hj (Nat.not_lt_zero j))))
  | succ i ih =>
    intro pt' hi hp
    have hq : num / 6 ^ (b - (i + 1)) < 2 ^ 31 := Nat.lt_of_le_of_lt (Nat.div_le_self _ _) hn
    refine br_f (nI_nle (by omega) (by omega)) (And.intro aa_6n (And.intro (vp_in_nI (by omega) (by omega)) (nm_r (e' := upd pt' (i + 1) (nI (pa_cand s d b num (i + 1)))) ?_ (And.intro aa_6n (nm_r (e' := nI (num / 6 ^ (b - i))) ?_ (nm_r (pk_m1 i) (ih _ (by omega) ?_)))))))
    · rw [nI_clamp (by omega), aa_mod6 hq, pa_candm (by omega) hi]
    · rw [aa_div6 hq, Nat.div_div_eq_div_mul, ← Nat.pow_succ, show (b - (i + 1)).succ = b - i by omega]
    · intro j hj hj2
      by_cases e : j = i + 1
      · subst e; rw [pk_us]
      · rw [pk_un e]; exact hp j (by omega) hj2
theorem yb_make {post : Int32 → SY → Prop} {s d b num : Nat} (hs : s < 6) (hd : d < 6) (hb : b < 5) (hn : num < 2 ^ 31) (h1 : ∀ pt', (∀ i, i ≤ b + 1 → pt' i = nI (pa_cand s d b num i)) → yb_Df b (pa_cand s d b num) → post 1 (nI (b + 2), yl, yk, th, co, ca, cl, up, ex, ed, bw, pr, av, le, pa, pt', bs)) (h0 : ∀ pt', (∀ i, i ≤ b + 1 → pt' i = nI (pa_cand s d b num i)) → ¬ yb_Df b (pa_cand s d b num) → post 0 (nI (b + 2), yl, yk, th, co, ca, cl, up, ex, ed, bw, pr, av, le, pa, pt', bs)) : wpY_makePath post (yn, yl, yk, th, co, ca, cl, up, ex, ed, bw, pr, av, le, pa, pt, bs) (nI (6 * s + d)) (nI b) (nI num) := by
  have es : nI (6 * s + d) / 6 = nI s := by rw [aa_div6 (by omega), (fl_d hd).1]
  have ed' : nI (6 * s + d) - nI (6 * s + d) / 6 * 6 = nI d := by rw [aa_mod6 (by omega), (fl_d hd).2]
  have k := yb_mk35 (yl := yl) (yk := yk) (th := th) (co := co) (ca := ca) (cl := cl) (up := up) (ex := ex) (ed := ed) (bw := bw) (pr := pr) (av := av) (le := le) (pa := pa) (bs := bs) hs hd hb hn h1 h0 b (upd (upd pt 0 (nI s)) (b + 1) (nI d)) (Nat.le_refl _) (fun j hj hj2 => by
    by_cases e : j = b + 1
    · subst e; rw [pk_us, pa_candL]
    · have : j = 0 := by omega
      subst this
      rw [pk_un (by omega), pk_us, pa_cand0])
  rw [Nat.sub_self, Nat.pow_zero, Nat.div_one] at k
  refine nm_r (e' := nI (b + 2)) (nI_add b 2) (And.intro aa_6n (nm_r (e' := upd pt 0 (nI s)) (by rw [es]) (And.intro aa_6n (And.intro (by rw [nI_1]; exact vp_in_nI (by omega) (by omega)) (nm_r (e' := upd (upd pt 0 (nI s)) (b + 1) (nI d)) (by rw [nI_1, nI_clamp (by omega), ed']) (Exists.intro (b + 1) k))))))
theorem yb_numbers {post : Int32 → Prop} {b : Nat} (hb : b < 5) (h : post (nI (6 ^ b))) : wpY_numbers post (yn, yl, yk, th, co, ca, cl, up, ex, ed, bw, pr, av, le, pa, pt, bs) (nI b) := by
  have hc : b = 0 ∨ b = 1 ∨ b = 2 ∨ b = 3 ∨ b = 4 := by omega
  rcases hc with rfl | rfl | rfl | rfl | rfl
  · exact br_t (by decide) h
  · exact br_f (by decide) (br_t (by decide) h)
  · exact br_f (by decide) (br_f (by decide) (br_t (by decide) h))
  · exact br_f (by decide) (br_f (by decide) (br_f (by decide) (br_t (by decide) h)))
  · exact br_f (by decide) (br_f (by decide) (br_f (by decide) (br_f (by decide) h)))
/-- what a width tells -/
def yb_Wd (O : Nat → Nat → Prop) (q : Nat → Nat) (L : Nat) (x : Int32) : Prop := x ≤ nI 1000 ∧ ∀ m, 1 ≤ m → m ≤ 1000 → (nI m ≤ x ↔ ∀ j, j < L → O m (aa_cd (q j) (q (j + 1))))
theorem yb_width_l {post : Int32 → Prop} {p but b : Nat} {x y : Int32} {q : Nat → Nat} (hb : b < 5) (hp : p < 2 ^ 31) (hy : tn_Bt y but) (hY : tn_YO le pa) (hB : tn_v bw B 8 100) (hR : tn_v pr R 8 3) (hK : tn_v ca K 36 100) (hq : ∀ i, i ≤ b + 1 → q i < 6) (hpt : ∀ i, i ≤ b + 1 → pt i = nI (q i))
    (h : ∀ z, yb_Wd (fun m => tn_O th up cl (tn_ov le pa) B R K p x m but) q (b + 1) z → post z) : ∀ d i z, i + d = b + 1 → yb_Wd (fun m => tn_O th up cl (tn_ov le pa) B R K p x m but) q i z → wY_width_8 post (nI p) x y (nI (b + 2)) yl yk th co ca cl up ex ed bw pr av le pa pt bs (d + 1) z (nI i) := by
  have e1 : nI (b + 2) - 1 = nI (b + 1) := nI_pred (b + 1)
  intro d
  induction d with
  | zero =>
    intro i z hi hz
    have e : i = b + 1 := by omega
    subst e
    exact br_t (by rw [e1]; exact nI_le (Nat.le_refl _) (by omega)) (h z hz)
  | succ d ih =>
    intro i z hi hz
    have a1 := hq i (by omega)
    have a2 := hq (i + 1) (by omega)
    have hl := aa_cd_lt a1 a2
    have bd := tn_tk_bd (ov := tn_ov le pa) (R := R) (c := aa_cd (q i) (q (i + 1))) (p := p) (but := but) hB
    have kb := (hK _ hl).2
    refine br_f (by rw [e1]; exact nI_ge (by omega) (by omega)) (And.intro (vp_in_nI (by omega) (by omega)) (And.intro (by rw [nI_1]; exact vp_in_nI (by omega) (by omega)) ?_))
    rw [nI_1, nI_clamp (by omega), nI_clamp (by omega), hpt i (by omega), hpt (i + 1) (by omega)]
    refine ya_codeOf a1 a2 (ya_isOpen hl (fun hm => br_f (by decide) (ya_roomOf hl hp hy hY hB hR hK (br_c (fun a => nm_e (ih (i + 1) z (by omega) ?_)) (fun a => nm_e (ih (i + 1) _ (by omega) ?_))))) (fun hm => br_t rfl (h _ ?_)))
    · refine ⟨hz.1, fun m m1 m2 => ?_⟩
      rw [hz.2 m m1 m2]
      constructor
      · intro hall j hj
        by_cases e : j = i
        · subst e
          have : nI m ≤ nI (K (aa_cd (q j) (q (j + 1)))) - nI (tn_tk (tn_ov le pa) B R (aa_cd (q j) (q (j + 1))) p but) := Int32.le_trans ((hz.2 m m1 m2).mpr hall) a
          exact ⟨hm, (aa_rge (by omega) (by omega) (by omega)).mp this⟩
        · exact hall j (by omega)
      · exact fun hall j hj => hall j (by omega)
    · have a' : nI (K (aa_cd (q i) (q (i + 1)))) - nI (tn_tk (tn_ov le pa) B R (aa_cd (q i) (q (i + 1))) p but) ≤ z := by
        rw [Int32.le_iff_toInt_le] at a ⊢
        omega
      refine ⟨Int32.le_trans a' hz.1, fun m m1 m2 => ?_⟩
      rw [aa_rge (by omega) (by omega) (by omega)]
      constructor
      · intro hle j hj
        by_cases e : j = i
        · subst e; exact ⟨hm, hle⟩
        · exact (hz.2 m m1 m2).mp (Int32.le_trans ((aa_rge (by omega) (by omega) (by omega)).mpr hle) a') j (by omega)
      · exact fun hall => (hall i (by omega)).2
    · refine ⟨by decide, fun m m1 m2 => ⟨fun z => ?_, fun hall => absurd (hall i (by omega)).1 hm⟩⟩
      rw [Int32.le_iff_toInt_le, nI_toInt (by omega), show (-100000 : Int32).toInt = -100000 by decide] at z
      omega
theorem yb_width {post : Int32 → Prop} {p but b : Nat} {x y : Int32} {q : Nat → Nat} (hb : b < 5) (hp : p < 2 ^ 31) (hy : tn_Bt y but) (hY : tn_YO le pa) (hB : tn_v bw B 8 100) (hR : tn_v pr R 8 3) (hK : tn_v ca K 36 100) (hq : ∀ i, i ≤ b + 1 → q i < 6) (hpt : ∀ i, i ≤ b + 1 → pt i = nI (q i))
    (h : ∀ z, yb_Wd (fun m => tn_O th up cl (tn_ov le pa) B R K p x m but) q (b + 1) z → post z) : wpY_width post (nI (b + 2), yl, yk, th, co, ca, cl, up, ex, ed, bw, pr, av, le, pa, pt, bs) (nI p) x y := by
  refine Exists.intro (b + 2) (yb_width_l hb hp hy hY hB hR hK hq hpt h (b + 1) 0 (nI 1000) (by omega) ⟨Int32.le_refl _, fun m m1 m2 => ⟨fun _ j hj => absurd hj (Nat.not_lt_zero j), fun _ => nI_le m2 (by omega)⟩⟩)
theorem yb_cost_l {post : Int32 → Prop} {b : Nat} {q : Nat → Nat} (hb : b < 5) (hw : tn_v co w 36 20) (hq : ∀ i, i ≤ b + 1 → q i < 6) (hpt : ∀ i, i ≤ b + 1 → pt i = nI (q i)) (h : post (nI (pa_pc w q (b + 1)))) : ∀ d i, i + d = b + 1 → wY_pathCost_4 post (nI (b + 2)) yl yk th co ca cl up ex ed bw pr av le pa pt bs (d + 1) (nI (pa_pc w q i)) (nI i) := by
  have e1 : nI (b + 2) - 1 = nI (b + 1) := nI_pred (b + 1)
  intro d
  induction d with
  | zero =>
    intro i hi
    have e : i = b + 1 := by omega
    subst e
    exact br_t (by rw [e1]; exact nI_le (Nat.le_refl _) (by omega)) h
  | succ d ih =>
    intro i hi
    have a1 := hq i (by omega)
    have a2 := hq (i + 1) (by omega)
    have hl := aa_cd_lt a1 a2
    refine br_f (by rw [e1]; exact nI_ge (by omega) (by omega)) (And.intro (vp_in_nI (by omega) (by omega)) (And.intro (by rw [nI_1]; exact vp_in_nI (by omega) (by omega)) ?_))
    rw [nI_1, nI_clamp (by omega), nI_clamp (by omega), hpt i (by omega), hpt (i + 1) (by omega)]
    refine ya_codeOf a1 a2 (And.intro (vp_in_nI hl (by omega)) (nm_r (e' := nI (pa_pc w q (i + 1))) ?_ (nm_e (ih (i + 1) (by omega)))))
    rw [nI_clamp (by omega), (hw _ hl).1, nI_add, pa_pcs]
theorem yb_cost {post : Int32 → Prop} {b : Nat} {q : Nat → Nat} (hb : b < 5) (hw : tn_v co w 36 20) (hq : ∀ i, i ≤ b + 1 → q i < 6) (hpt : ∀ i, i ≤ b + 1 → pt i = nI (q i)) (h : post (nI (pa_pc w q (b + 1)))) : wpY_pathCost post (nI (b + 2), yl, yk, th, co, ca, cl, up, ex, ed, bw, pr, av, le, pa, pt, bs) :=
  Exists.intro (b + 2) (yb_cost_l hb hw hq hpt h (b + 1) 0 (by omega))
end YB
end
section
section YC
/-! the reference: the best of all paths -/
variable {yn yl yk : Int32} {th co ca cl up ex ed bw pr av le pa pt bs : Nat → Int32}
variable {w K B R : Nat → Nat}
theorem yc_copy {post : Int32 → SY → Prop} {J8 J17 : Int32 → Int32 → Int32 → Int32 → (Nat → Int32) → (Nat → Int32) → (Nat → Int32) → (Nat → Int32) → (Nat → Int32) → (Nat → Int32) → (Nat → Int32) → (Nat → Int32) → (Nat → Int32) → (Nat → Int32) → (Nat → Int32) → (Nat → Int32) → (Nat → Int32) → (Nat → Int32) → Prop} {x1 x2 x3 x4 x5 x6 : Int32} {b num : Nat} {q : Nat → Nat} (hb : b < 5) (hpt : ∀ i, i ≤ b + 1 → pt i = nI (q i)) (h : ∀ bs', (∀ i, i ≤ b + 1 → bs' i = nI (q i)) → J17 (nI (num + 1)) (nI (b + 2)) yl yk th co ca cl up ex ed bw pr av le pa pt bs') : ∀ d i bs', i + d = b + 2 → (∀ j, j < i → bs' j = nI (q j)) → wY_findBest_90 post J8 J17 x1 x2 x3 x4 x5 x6 (nI num) (nI (b + 2)) yl yk (d + 1) (nI i) th co ca cl up ex ed bw pr av le pa pt bs' := by
  intro d
  induction d with
  | zero =>
    intro i bs' hi hbs
    have e : i = b + 2 := by omega
    subst e
    exact br_t (nI_le (Nat.le_refl _) (by omega)) (nm_r (nI_1 num) (h bs' (fun j hj => hbs j (by omega))))
  | succ d ih =>
    intro i bs' hi hbs
    have ei : (nI i).toNatClampNeg = i := nI_clamp (by omega)
    have vi : vp_in (nI i) 6 := vp_in_nI (by omega) (by omega)
    refine br_f (nI_ge (by omega) (by omega)) (And.intro vi (And.intro vi (nm_r (e' := upd bs' i (nI (q i))) (by rw [ei, hpt i (by omega)]) (nm_r (nI_1 i) (ih (i + 1) _ (by omega) (fun j hj => ?_))))))
    by_cases e : j = i
    · subst e; exact pk_us
    · rw [pk_un e]; exact hbs j (by omega)
/-- the best so far, in the fields -/
def yc_S (O : Nat → Prop) (w : Nat → Nat) (s d b num : Nat) (yl yk : Int32) (bs : Nat → Int32) : Prop := ∃ hl hc q, pa_Inv O w s d b num hl hc q ∧ yl = nI hl ∧ (hl ≠ 0 → yk = nI hc ∧ ∀ i, i < hl → bs i = nI (q i))
theorem yc_bd {O : Nat → Prop} {s d b num hl hc : Nat} {q : Nat → Nat} (hw : ∀ c, c < 36 → w c ≤ 20) (I : pa_Inv O w s d b num hl hc q) : hl ≤ 6 ∧ (hl ≠ 0 → hc ≤ 100) := by
  rcases I with ⟨h1, _⟩ | ⟨L, h1, h2, h3, h4, h5⟩
  · omega
  · have L5 := pa_Val5 h2
    have := pa_pc_bd hw h2.2.2.1
    omega
theorem yc_71 {post : Int32 → SY → Prop} {J8 J17 : Int32 → Int32 → Int32 → Int32 → (Nat → Int32) → (Nat → Int32) → (Nat → Int32) → (Nat → Int32) → (Nat → Int32) → (Nat → Int32) → (Nat → Int32) → (Nat → Int32) → (Nat → Int32) → (Nat → Int32) → (Nat → Int32) → (Nat → Int32) → (Nat → Int32) → (Nat → Int32) → Prop} {x1 x2 x3 x4 x5 x6 : Int32} {b num : Nat} {q : Nat → Nat} (hb : b < 5) (hw : tn_v co w 36 20) (hq : ∀ i, i ≤ b + 1 → q i < 6) (hpt : ∀ i, i ≤ b + 1 → pt i = nI (q i)) (h : ∀ bs', (∀ i, i ≤ b + 1 → bs' i = nI (q i)) → J17 (nI (num + 1)) (nI (b + 2)) (nI (b + 2)) (nI (pa_pc w q (b + 1))) th co ca cl up ex ed bw pr av le pa pt bs') : wY_findBest_71 post J8 J17 x1 x2 x3 x4 x5 x6 (nI num) (nI (b + 2)) yl yk th co ca cl up ex ed bw pr av le pa pt bs := by
  unfold wY_findBest_71
  exact yb_cost hb hw hq hpt (Exists.intro (b + 3) (yc_copy hb hpt h (b + 2) 0 bs (by omega) (fun j hj => absurd hj (Nat.not_lt_zero j))))
theorem yc_17 {post : Int32 → SY → Prop} {J8 : Int32 → Int32 → Int32 → Int32 → (Nat → Int32) → (Nat → Int32) → (Nat → Int32) → (Nat → Int32) → (Nat → Int32) → (Nat → Int32) → (Nat → Int32) → (Nat → Int32) → (Nat → Int32) → (Nat → Int32) → (Nat → Int32) → (Nat → Int32) → (Nat → Int32) → (Nat → Int32) → Prop} {s d b p m but : Nat} {x y : Int32} (hs : s < 6) (hd : d < 6) (hb : b < 5) (hp : p < 2 ^ 31) (hm1 : 1 ≤ m) (hm2 : m ≤ 1000) (hy : tn_Bt y but) (hY : tn_YO le pa) (hB : tn_v bw B 8 100) (hR : tn_v pr R 8 3) (hK : tn_v ca K 36 100) (hw : tn_v co w 36 20)
    (h : ∀ yn' yl' yk' pt' bs', yc_S (tn_O th up cl (tn_ov le pa) B R K p x m but) w s d b (6 ^ b) yl' yk' bs' → J8 (nI (b + 1)) yn' yl' yk' th co ca cl up ex ed bw pr av le pa pt' bs') :
    ∀ dd num yn' yl' yk' pt' bs', num + dd = 6 ^ b → yc_S (tn_O th up cl (tn_ov le pa) B R K p x m but) w s d b num yl' yk' bs' → wY_findBest_17 post J8 (nI (6 * s + d)) (nI m) (nI p) x y (nI b) (dd + 1) (nI num) yn' yl' yk' th co ca cl up ex ed bw pr av le pa pt' bs' := by
  have pw : 6 ^ b ≤ 1296 := by
    have hc : b = 0 ∨ b = 1 ∨ b = 2 ∨ b = 3 ∨ b = 4 := by omega
    rcases hc with rfl | rfl | rfl | rfl | rfl <;> decide
  intro dd
  induction dd with
  | zero =>
    intro num yn' yl' yk' pt' bs' hn hS
    have e : num = 6 ^ b := by omega
    subst e
    unfold wY_findBest_17
    exact yb_numbers hb (br_t (nI_le (Nat.le_refl _) (by omega)) (nm_r (nI_1 b) (h yn' yl' yk' pt' bs' hS)))
  | succ dd ih =>
    intro num yn' yl' yk' pt' bs' hn hS
    have hn6 : num < 6 ^ b := by omega
    have c6 : ∀ i, i ≤ b + 1 → pa_cand s d b num i < 6 := fun i _ => pa_cand6 hs hd i
    obtain ⟨hl, hc, q, I, e1, e2⟩ := hS
    have bd := yc_bd (fun c hc => (hw c hc).2) I
    have nx : ∀ yn' pt', pa_Inv (tn_O th up cl (tn_ov le pa) B R K p x m but) w s d b (num + 1) hl hc q → wY_findBest_17 post J8 (nI (6 * s + d)) (nI m) (nI p) x y (nI b) (dd + 1) (nI (num + 1)) yn' yl' yk' th co ca cl up ex ed bw pr av le pa pt' bs' := fun yn' pt' I' => ih (num + 1) yn' yl' yk' pt' bs' (by omega) ⟨hl, hc, q, I', e1, e2⟩
    unfold wY_findBest_17
    refine yb_numbers hb (br_f (nI_ge (by omega) (by omega)) (yb_make hs hd hb (by omega) (fun pt2 hpt hdf => br_f (by decide) ?_) (fun pt2 hpt hdf => br_t rfl (nm_r (nI_1 num) (nx _ _ (pa_step_no hs hd hn6 I (fun v => hdf v.2.2.2.1)))))))
    refine yb_width (p := p) (but := but) (x := x) hb hp hy hY hB hR hK c6 hpt (fun z hz => br_c (fun a => ?_) (fun a => ?_))
    · refine nm_r (nI_1 num) (nx _ _ (pa_step_no hs hd hn6 I (fun v => ?_)))
      have := (hz.2 m hm1 hm2).mpr (fun j hj => v.2.2.2.2 j hj)
      rw [Int32.le_iff_toInt_le] at this
      rw [Int32.lt_iff_toInt_lt] at a
      omega
    · have hle : nI m ≤ z := by
        rw [Int32.le_iff_toInt_le]
        rw [Int32.lt_iff_toInt_lt] at a
        omega
      have hv : pa_Val (tn_O th up cl (tn_ov le pa) B R K p x m but) s d (b + 1) (pa_cand s d b num) := ⟨pa_cand0 _ _ _ _, pa_candL _ _ _ _, c6, hdf, (hz.2 m hm1 hm2).mp hle⟩
      have new : (hl = 0 ∨ pa_pc w (pa_cand s d b num) (b + 1) < hc) → ∀ bs2, (∀ i, i ≤ b + 1 → bs2 i = nI (pa_cand s d b num i)) → wY_findBest_17 post J8 (nI (6 * s + d)) (nI m) (nI p) x y (nI b) (dd + 1) (nI (num + 1)) (nI (b + 2)) (nI (b + 2)) (nI (pa_pc w (pa_cand s d b num) (b + 1))) th co ca cl up ex ed bw pr av le pa pt2 bs2 := fun hcase bs2 hbs2 => ih (num + 1) _ _ _ _ _ (by omega) ⟨b + 2, _, _, pa_step_new hs hd hn6 I hv hcase, rfl, fun _ => ⟨rfl, fun i hi => hbs2 i (by omega)⟩⟩
      have pb := pa_pc_bd (w := w) (fun c hc => (hw c hc).2) c6
      refine br_c (fun e => ?_) (fun e => ?_)
      · have h0 : hl = 0 := by
          rw [e1] at e
          exact (nI_eq (b := 0) (by omega) (by omega)).mp e
        exact yc_71 hb hw c6 hpt (new (Or.inl h0))
      · have h0 : hl ≠ 0 := fun z => e (by rw [e1, z]; rfl)
        obtain ⟨k1, k2⟩ := e2 h0
        refine yb_cost hb hw c6 hpt (br_c (fun g => ?_) (fun g => ?_))
        · rw [k1, nI_leI (by omega) (by omega)] at g
          exact nm_r (nI_1 num) (nx _ _ (pa_step_old hs hd hn6 I h0 g))
        · rw [k1, nI_leI (by omega) (by omega)] at g
          exact yc_71 hb hw c6 hpt (new (Or.inr (by omega)))
theorem yc_8 {post : Int32 → SY → Prop} {s d p m but : Nat} {x y : Int32} (hs : s < 6) (hd : d < 6) (hp : p < 2 ^ 31) (hm1 : 1 ≤ m) (hm2 : m ≤ 1000) (hy : tn_Bt y but) (hY : tn_YO le pa) (hB : tn_v bw B 8 100) (hR : tn_v pr R 8 3) (hK : tn_v ca K 36 100) (hw : tn_v co w 36 20)
    (h1 : ∀ yn' yl' yk' pt' bs', yc_S (tn_O th up cl (tn_ov le pa) B R K p x m but) w s d 5 0 yl' yk' bs' → ¬ yl' ≤ 0 → post 1 (yn', yl', yk', th, co, ca, cl, up, ex, ed, bw, pr, av, le, pa, pt', bs'))
    (h0 : ∀ yn' yl' yk' pt' bs', yc_S (tn_O th up cl (tn_ov le pa) B R K p x m but) w s d 5 0 yl' yk' bs' → yl' ≤ 0 → post 0 (yn', yl', yk', th, co, ca, cl, up, ex, ed, bw, pr, av, le, pa, pt', bs')) :
    ∀ dd b yn' yl' yk' pt' bs', b + dd = 5 → yc_S (tn_O th up cl (tn_ov le pa) B R K p x m but) w s d b 0 yl' yk' bs' → wY_findBest_8 post (nI (6 * s + d)) (nI m) (nI p) x y (dd + 1) (nI b) yn' yl' yk' th co ca cl up ex ed bw pr av le pa pt' bs' := by
  intro dd
  induction dd with
  | zero =>
    intro b yn' yl' yk' pt' bs' hb hS
    have e : b = 5 := by omega
    subst e
    exact br_t (nI_le (a := 5) (by omega) (by omega)) (br_c (fun z => h0 yn' yl' yk' pt' bs' hS z) (fun z => h1 yn' yl' yk' pt' bs' hS z))
  | succ dd ih =>
    intro b yn' yl' yk' pt' bs' hb hS
    refine br_f (nI_ge (b := 5) (by omega) (by omega)) (Exists.intro (6 ^ b + 1) (yc_17 hs hd (by omega) hp hm1 hm2 hy hY hB hR hK hw ?_ (6 ^ b) 0 yn' yl' yk' pt' bs' (by omega) hS))
    intro yn2 yl2 yk2 pt2 bs2 hS2
    refine ih (b + 1) yn2 yl2 yk2 pt2 bs2 (by omega) ?_
    obtain ⟨hl, hc, q, I, e1, e2⟩ := hS2
    exact ⟨hl, hc, q, pa_round I, e1, e2⟩
/-- all paths looked at -/
theorem yc_find {post : Int32 → SY → Prop} {s d p m but : Nat} {x y : Int32} (hs : s < 6) (hd : d < 6) (hsd : s ≠ d) (hp : p < 2 ^ 31) (hm1 : 1 ≤ m) (hm2 : m ≤ 1000) (hy : tn_Bt y but) (hY : tn_YO le pa) (hB : tn_v bw B 8 100) (hR : tn_v pr R 8 3) (hK : tn_v ca K 36 100) (hw : tn_v co w 36 20)
    (h1 : ∀ L q yn' pt' bs', pa_Best (tn_O th up cl (tn_ov le pa) B R K p x m but) w s d L q → (∀ i, i ≤ L → bs' i = nI (q i)) → post 1 (yn', nI (L + 1), nI (pa_pc w q L), th, co, ca, cl, up, ex, ed, bw, pr, av, le, pa, pt', bs'))
    (h0 : (∀ L q, ¬ pa_Val (tn_O th up cl (tn_ov le pa) B R K p x m but) s d L q) → ∀ yn' yk' pt' bs', post 0 (yn', nI 0, yk', th, co, ca, cl, up, ex, ed, bw, pr, av, le, pa, pt', bs')) : wpY_findBest post (yn, yl, yk, th, co, ca, cl, up, ex, ed, bw, pr, av, le, pa, pt, bs) (nI (6 * s + d)) (nI m) (nI p) x y := by
  refine Exists.intro 6 (yc_8 hs hd hp hm1 hm2 hy hY hB hR hK hw ?_ ?_ 5 0 yn (nI 0) yk pt bs rfl ⟨0, 0, fun _ => 0, pa_Inv0 hsd, rfl, fun z => absurd rfl z⟩)
  · intro yn' yl' yk' pt' bs' hS hyl
    obtain ⟨hl, hc, q, I, e1, e2⟩ := hS
    rcases pa_end hsd I with ⟨z1, z2⟩ | ⟨L, z1, z2, z3⟩
    · subst z1
      rw [e1] at hyl
      exact absurd (nI_le (a := 0) (b := 0) (by omega) (by omega)) hyl
    · obtain ⟨k1, k2⟩ := e2 (by omega)
      rw [e1, k1, z3, z1]
      exact h1 L q yn' pt' bs' z2 (fun i hi => k2 i (by omega))
  · intro yn' yl' yk' pt' bs' hS hyl
    obtain ⟨hl, hc, q, I, e1, e2⟩ := hS
    rcases pa_end hsd I with ⟨z1, z2⟩ | ⟨L, z1, z2, z3⟩
    · rw [e1, z1]
      exact h0 z2 yn' yk' pt' bs'
    · have L5 := z2.2.1
      rw [e1, z1] at hyl
      exact absurd hyl (nI_nle (by omega) (by omega))
end YC
end
section
section YD
/-! the reference: steps of settling -/
variable {yn yl yk : Int32} {th co ca cl up ex ed bw pr av le pa pt bs : Nat → Int32}
variable {w K B R f g : Nat → Nat}
theorem yd_place_l {post : SY → Prop} {t L : Nat} {q : Nat → Nat} (ht : t < 8) (hL : L ≤ 5) (hbs : ∀ i, i ≤ L → bs i = nI (q i)) (h : post (yn, nI (L + 1), yk, th, co, ca, cl, up, ex, ed, bw, pr, av, le, st_pa pa t q (L + 1), pt, bs)) : ∀ d i, i + d = L + 1 → wY_place_12 post (nI t) yn (nI (L + 1)) yk (d + 1) (nI i) th co ca cl up ex ed bw pr av le (st_pa pa t q i) pt bs := by
  intro d
  induction d with
  | zero =>
    intro i hi
    have e : i = L + 1 := by omega
    subst e
    exact br_t (nI_le (Nat.le_refl _) (by omega)) h
  | succ d ih =>
    intro i hi
    have e6 : 6 * nI t + nI i = nI (6 * t + i) := aa_6 t i
    refine br_f (nI_ge (by omega) (by omega)) (And.intro (vp_in_nI (by omega) (by omega)) (And.intro (by rw [e6]; exact vp_in_nI (by omega) (by omega)) (nm_r (e' := st_pa pa t q (i + 1)) (by rw [e6, nI_clamp (by omega), nI_clamp (by omega), hbs i (by omega)]; rfl) (nm_r (nI_1 i) (ih (i + 1) (by omega))))))
theorem yd_place {post : SY → Prop} {t L : Nat} {q : Nat → Nat} (ht : t < 8) (hL : L ≤ 5) (hbs : ∀ i, i ≤ L → bs i = nI (q i)) (h : post (yn, nI (L + 1), yk, th, co, ca, cl, up, ex, ed, bw, pr, av, upd le t (nI (L + 1)), st_pa pa t q (L + 1), pt, bs)) : wpY_place post (yn, nI (L + 1), yk, th, co, ca, cl, up, ex, ed, bw, pr, av, le, pa, pt, bs) (nI t) := by
  have vt : vp_in (nI t) 8 := vp_in_nI ht (by omega)
  have et : (nI t).toNatClampNeg = t := nI_clamp (by omega)
  exact And.intro vt (nm_r (e' := upd le t (nI (L + 1))) (by rw [et]) (Exists.intro (L + 2) (yd_place_l ht hL hbs h (L + 1) 0 (by omega))))
theorem tn_ov_le {le le' pa : Nat → Int32} {t c : Nat} (h : le t = le' t) : tn_ov le pa t c = tn_ov le' pa t c := by
  unfold tn_ov
  rw [h]
theorem tn_YOsub {le le' pa : Nat → Int32} (h : tn_YO le pa) (hs : ∀ t, t < 8 → le' t = le t ∨ le' t = 0) : tn_YO le' pa := by
  intro t ht
  rcases hs t ht with e | e
  · rw [e]; exact h t ht
  · exact ⟨0, by omega, e, fun i hi => absurd hi (Nat.not_lt_zero i)⟩
theorem yd_dropB {post : SY → Prop} {J : Int32 → (Nat → Int32) → (Nat → Int32) → (Nat → Int32) → (Nat → Int32) → (Nat → Int32) → (Nat → Int32) → (Nat → Int32) → (Nat → Int32) → (Nat → Int32) → (Nat → Int32) → (Nat → Int32) → (Nat → Int32) → (Nat → Int32) → (Nat → Int32) → Prop} {t : Nat} (ht : t < 8) (hY : tn_YO le pa) (hp : le t = 0) (h : J (nI (t + 1)) th co ca cl up ex ed bw pr av le pa pt bs) : ∀ d j, j + d = 36 → wY_pushFromClosed_10 post J (nI t) yn yl yk (d + 1) (nI j) th co ca cl up ex ed bw pr av le pa pt bs := by
  intro d
  induction d with
  | zero =>
    intro j hj
    have e : j = 36 := by omega
    subst e
    exact br_t (nI_le (a := 36) (by omega) (by omega)) (nm_r (nI_1 t) h)
  | succ d ih =>
    intro j hj
    refine br_f (nI_ge (b := 36) (by omega) (by omega)) (ya_isOver ht (by omega) hY (fun z => ?_) (fun _ => br_t rfl (nm_r (nI_1 j) (ih (j + 1) (by omega)))))
    rw [tn_ov0 hp] at z
    exact absurd z (by decide)
theorem yd_dropA {post : SY → Prop} {J : Int32 → (Nat → Int32) → (Nat → Int32) → (Nat → Int32) → (Nat → Int32) → (Nat → Int32) → (Nat → Int32) → (Nat → Int32) → (Nat → Int32) → (Nat → Int32) → (Nat → Int32) → (Nat → Int32) → (Nat → Int32) → (Nat → Int32) → (Nat → Int32) → Prop} {t : Nat} (ht : t < 8) (hY : tn_YO le pa) (hv : st_V th up cl av (tn_ov le pa) t → J (nI (t + 1)) th co ca cl up ex ed bw pr av (upd le t 0) pa pt bs) (hn : ¬ st_V th up cl av (tn_ov le pa) t → J (nI (t + 1)) th co ca cl up ex ed bw pr av le pa pt bs) : ∀ d j, j + d = 36 → (∀ c, c < j → ¬ (tn_ov le pa t c = true ∧ ¬ tn_mp th up cl (av t) c)) → wY_pushFromClosed_10 post J (nI t) yn yl yk (d + 1) (nI j) th co ca cl up ex ed bw pr av le pa pt bs := by
  intro d
  induction d with
  | zero =>
    intro j hj hno
    have e : j = 36 := by omega
    subst e
    exact br_t (nI_le (a := 36) (by omega) (by omega)) (nm_r (nI_1 t) (hn (fun ⟨c, c1, c2⟩ => hno c c1 c2)))
  | succ d ih =>
    intro j hj hno
    have et : (nI t).toNatClampNeg = t := nI_clamp (by omega)
    have vt : vp_in (nI t) 8 := vp_in_nI ht (by omega)
    have j36 : j < 36 := by omega
    have nx : ¬ (tn_ov le pa t j = true ∧ ¬ tn_mp th up cl (av t) j) → wY_pushFromClosed_10 post J (nI t) yn yl yk (d + 1) (nI (j + 1)) th co ca cl up ex ed bw pr av le pa pt bs := by
      intro hz
      refine ih (j + 1) (by omega) (fun c hc => ?_)
      by_cases e : c = j
      · rw [e]; exact hz
      · exact hno c (by omega)
    refine br_f (nI_ge (b := 36) (by omega) (by omega)) (ya_isOver ht j36 hY (fun ho => br_f (by decide) (And.intro vt ?_)) (fun ho => br_t rfl (nm_r (nI_1 j) (nx (fun z => by rw [ho] at z; exact absurd z.1 (by decide))))))
    rw [et]
    refine ya_isOpen j36 (fun hm => br_f (by decide) (nm_r (nI_1 j) (nx (fun z => z.2 hm)))) (fun hm => br_t rfl (And.intro vt (nm_r (e' := upd le t 0) rfl (nm_r (nI_1 j) ?_))))
    refine yd_dropB ht (tn_YOsub hY (fun s _ => ?_)) pk_us (hv ⟨j, j36, ho, hm⟩) d (j + 1) (by omega)
    by_cases e : s = t
    · rw [e]; exact Or.inr pk_us
    · exact Or.inl (pk_un e)
theorem yd_drop_l {post : SY → Prop} (hY : tn_YO le pa) (h : post (yn, yl, yk, th, co, ca, cl, up, ex, ed, bw, pr, av, st_k (st_V th up cl av (tn_ov le pa)) le 8, pa, pt, bs)) : ∀ d t, t + d = 8 → wY_pushFromClosed_2 post yn yl yk (d + 1) (nI t) th co ca cl up ex ed bw pr av (st_k (st_V th up cl av (tn_ov le pa)) le t) pa pt bs := by
  intro d
  induction d with
  | zero =>
    intro t ht
    have e : t = 8 := by omega
    subst e
    exact br_t (nI_le (a := 8) (by omega) (by omega)) h
  | succ d ih =>
    intro t ht
    have e0 : st_k (st_V th up cl av (tn_ov le pa)) le t t = le t := st_k0 (fun z => absurd z.1 (Nat.lt_irrefl t))
    have eV : st_V th up cl av (tn_ov (st_k (st_V th up cl av (tn_ov le pa)) le t) pa) t ↔ st_V th up cl av (tn_ov le pa) t := by
      constructor
      · rintro ⟨c, c1, c2, c3⟩
        exact ⟨c, c1, (tn_ov_le e0).symm.trans c2, c3⟩
      · rintro ⟨c, c1, c2, c3⟩
        exact ⟨c, c1, (tn_ov_le e0).trans c2, c3⟩
    refine br_f (nI_ge (b := 8) (by omega) (by omega)) (Exists.intro 37 (yd_dropA (t := t) (by omega) (tn_YOsub hY (fun s _ => ?_)) (fun hv => ?_) (fun hn => ?_) 36 0 rfl (fun c hc => absurd hc (Nat.not_lt_zero c))))
    · by_cases z : s < t ∧ st_V th up cl av (tn_ov le pa) s
      · exact Or.inr (st_k1 z.1 z.2)
      · exact Or.inl (st_k0 z)
    · rw [st_ks (eV.mp hv)]; exact ih (t + 1) (by omega)
    · have := ih (t + 1) (by omega)
      rw [← st_kn (fun z => hn (eV.mpr z))] at this
      exact this
theorem yd_drop {post : SY → Prop} (hY : tn_YO le pa) (h : post (yn, yl, yk, th, co, ca, cl, up, ex, ed, bw, pr, av, st_k (st_V th up cl av (tn_ov le pa)) le 8, pa, pt, bs)) : wpY_pushFromClosed post (yn, yl, yk, th, co, ca, cl, up, ex, ed, bw, pr, av, le, pa, pt, bs) := by
  have k := yd_drop_l hY h 8 0 rfl
  rw [st_kz] at k
  exact Exists.intro 9 k
theorem st_Pex {ov : Nat → Nat → Bool} {c : Nat} (h : st_P th ov B R K c) : ∃ t, t < 8 ∧ ov t c = true := by
  obtain ⟨t, t1, t2⟩ := aa_sm_pos (f := tn_f ov B R c 3 8) (n := 8) (by have := h.2; unfold tn_tk at this; omega)
  refine ⟨t, t1, ?_⟩
  cases e : ov t c
  · unfold tn_f at t2
    rw [if_neg (fun z => by rw [e] at z; exact absurd z.2.2 (by decide))] at t2
    omega
  · rfl
theorem yd_push31 {post : Int32 → SY → Prop} {c : Nat} (hc : c < 36) (hY : tn_YO le pa) (hR : tn_v pr R 8 3) (hex : ∃ t, t < 8 ∧ tn_ov le pa t c = true) (h : ∀ m, st_W (tn_ov le pa) R c 8 m → post 1 (yn, yl, yk, th, co, ca, cl, up, ex, ed, bw, pr, av, upd le m 0, pa, pt, bs)) : ∀ d i x, i + d = 8 → ((x = -1 ∧ ∀ t, t < i → tn_ov le pa t c = false) ∨ (∃ m, x = nI m ∧ st_W (tn_ov le pa) R c i m)) → wY_pushFromFull_31 post (nI c) yn yl yk th co ca cl up ex ed bw pr av le pa pt bs (d + 1) x (nI i) := by
  intro d
  induction d with
  | zero =>
    intro i x hi hx
    have e : i = 8 := by omega
    subst e
    rcases hx with ⟨_, hx⟩ | ⟨m, rfl, hm⟩
    · obtain ⟨t, t1, t2⟩ := hex
      rw [hx t t1] at t2
      exact absurd t2 (by decide)
    · have m8 := hm.1
      exact br_t (nI_le (a := 8) (by omega) (by omega)) (And.intro (vp_in_nI m8 (by omega)) (nm_r (e' := upd le m 0) (by rw [nI_clamp (by omega)]) (h m hm)))
  | succ d ih =>
    intro i x hi hx
    have i8 : i < 8 := by omega
    have ei : (nI i).toNatClampNeg = i := nI_clamp (by omega)
    have vi : vp_in (nI i) 8 := vp_in_nI i8 (by omega)
    refine br_f (nI_ge (b := 8) (by omega) (by omega)) (ya_isOver i8 hc hY (fun ho => br_f (by decide) ?_) (fun ho => br_t rfl (nm_r (nI_1 i) (ih (i + 1) x (by omega) ?_))))
    · rcases hx with ⟨rfl, hx⟩ | ⟨m, rfl, hm⟩
      · refine br_t aa_m1 (nm_r (nI_1 i) (ih (i + 1) (nI i) (by omega) (Or.inr ⟨i, rfl, by omega, ho, fun t ht to => ?_⟩)))
        by_cases e : t = i
        · rw [e]; exact Or.inr ⟨rfl, Nat.le_refl _⟩
        · rw [hx t (by omega)] at to; exact absurd to (by decide)
      · have m8 := hm.1
        have em : (nI m).toNatClampNeg = m := nI_clamp (by omega)
        have r1 := hR i i8
        have r2 := hR m (by omega)
        refine br_f (nI_pos (by omega)) (And.intro vi (And.intro (vp_in_nI (by omega) (by omega)) (br_c (fun a => ?_) (fun a => ?_))))
        · rw [ei, em, r1.1, r2.1, nI_ltI (by omega) (by omega)] at a
          refine nm_r (nI_1 i) (ih (i + 1) (nI m) (by omega) (Or.inr ⟨m, rfl, by omega, hm.2.1, fun t ht to => ?_⟩))
          by_cases e : t = i
          · subst e; exact Or.inl a
          · exact hm.2.2 t (by omega) to
        · rw [ei, em, r1.1, r2.1, nI_ltI (by omega) (by omega)] at a
          refine nm_r (nI_1 i) (ih (i + 1) (nI i) (by omega) (Or.inr ⟨i, rfl, by omega, ho, fun t ht to => ?_⟩))
          by_cases e : t = i
          · rw [e]; exact Or.inr ⟨rfl, Nat.le_refl _⟩
          · have := hm.2.2 t (by omega) to
            omega
    · rcases hx with ⟨e, hx⟩ | ⟨m, e, hm⟩
      · refine Or.inl ⟨e, fun t ht => ?_⟩
        by_cases z : t = i
        · rw [z]; exact ho
        · exact hx t (by omega)
      · refine Or.inr ⟨m, e, by have := hm.1; omega, hm.2.1, fun t ht to => ?_⟩
        by_cases z : t = i
        · rw [z, ho] at to; exact absurd to (by decide)
        · exact hm.2.2 t (by omega) to
theorem yd_full_l {post : Int32 → SY → Prop} (hY : tn_YO le pa) (hB : tn_v bw B 8 100) (hR : tn_v pr R 8 3) (hK : tn_v ca K 36 100) (h1 : ∀ c, c < 36 → st_P th (tn_ov le pa) B R K c → (∀ c', c' < c → ¬ st_P th (tn_ov le pa) B R K c') → ∀ m, st_W (tn_ov le pa) R c 8 m → post 1 (yn, yl, yk, th, co, ca, cl, up, ex, ed, bw, pr, av, upd le m 0, pa, pt, bs)) (h0 : (∀ c, c < 36 → ¬ st_P th (tn_ov le pa) B R K c) → post 0 (yn, yl, yk, th, co, ca, cl, up, ex, ed, bw, pr, av, le, pa, pt, bs)) : ∀ d i, i + d = 36 → (∀ c, c < i → ¬ st_P th (tn_ov le pa) B R K c) → wY_pushFromFull_2 post yn yl yk th co ca cl up ex ed bw pr av le pa pt bs (d + 1) (nI i) := by
  intro d
  induction d with
  | zero =>
    intro i hi hn
    have e : i = 36 := by omega
    subst e
    exact br_t (nI_le (a := 36) (by omega) (by omega)) (h0 hn)
  | succ d ih =>
    intro i hi hn
    have i36 : i < 36 := by omega
    have ei : (nI i).toNatClampNeg = i := nI_clamp (by omega)
    have vi : vp_in (nI i) 36 := vp_in_nI i36 (by omega)
    have k1 := hK i i36
    have bd := tn_tk_bd (ov := tn_ov le pa) (R := R) (c := i) (p := 3) (but := 8) hB
    have nx : ¬ st_P th (tn_ov le pa) B R K i → wY_pushFromFull_2 post yn yl yk th co ca cl up ex ed bw pr av le pa pt bs (d + 1) (nI (i + 1)) := by
      intro hz
      refine ih (i + 1) (by omega) (fun c hc => ?_)
      by_cases e : c = i
      · rw [e]; exact hz
      · exact hn c (by omega)
    refine br_f (nI_ge (b := 36) (by omega) (by omega)) (And.intro vi (br_c (fun a => ?_) (fun a => ya_roomOf (p := 3) i36 (by omega) tn_bt8 hY hB hR hK (br_c (fun b => ?_) (fun b => ?_)))))
    · rw [ei] at a
      exact nm_r (nI_1 i) (nx (fun z => z.1 a))
    · have b' := (aa_rge (w := 0) (by omega) (by omega) (by omega)).mp b
      exact nm_r (nI_1 i) (nx (fun z => by have := z.2; omega))
    · rw [ei] at a
      have b' : ¬ tn_tk (tn_ov le pa) B R i 3 8 + 0 ≤ K i := fun z => b ((aa_rge (w := 0) (by omega) (by omega) (by omega)).mpr z)
      have hP : st_P th (tn_ov le pa) B R K i := ⟨a, by omega⟩
      exact Exists.intro 9 (yd_push31 i36 hY hR (st_Pex hP) (h1 i i36 hP hn) 8 0 (-1) rfl (Or.inl ⟨rfl, fun t ht => absurd ht (Nat.not_lt_zero t)⟩))
theorem yd_full {post : Int32 → SY → Prop} (hY : tn_YO le pa) (hB : tn_v bw B 8 100) (hR : tn_v pr R 8 3) (hK : tn_v ca K 36 100) (h1 : ∀ c, c < 36 → st_P th (tn_ov le pa) B R K c → (∀ c', c' < c → ¬ st_P th (tn_ov le pa) B R K c') → ∀ m, st_W (tn_ov le pa) R c 8 m → post 1 (yn, yl, yk, th, co, ca, cl, up, ex, ed, bw, pr, av, upd le m 0, pa, pt, bs)) (h0 : (∀ c, c < 36 → ¬ st_P th (tn_ov le pa) B R K c) → post 0 (yn, yl, yk, th, co, ca, cl, up, ex, ed, bw, pr, av, le, pa, pt, bs)) : wpY_pushFromFull post (yn, yl, yk, th, co, ca, cl, up, ex, ed, bw, pr, av, le, pa, pt, bs) :=
  Exists.intro 37 (yd_full_l hY hB hR hK h1 h0 36 0 rfl (fun c hc => absurd hc (Nat.not_lt_zero c)))
def st_E (ex ed : Nat → Int32) (B f g : Nat → Nat) : Prop := ∀ t, t < 8 → ed t = nI (6 * f t + g t) ∧ (¬ ex t = 0 → f t ≠ g t ∧ 1 ≤ B t)
theorem yd_placeOne_l {post : Int32 → SY → Prop} (hY : tn_YO le pa) (hB : tn_v bw B 8 100) (hR : tn_v pr R 8 3) (hK : tn_v ca K 36 100) (hw : tn_v co w 36 20) (hf : ∀ t, t < 8 → f t < 6) (hg : ∀ t, t < 8 → g t < 6) (hE : st_E ex ed B f g)
    (h1 : ∀ k, k < 32 → st_Q ex le R f g (st_O th up cl av (tn_ov le pa) B R K) k → (∀ k', k' < k → ¬ st_Q ex le R f g (st_O th up cl av (tn_ov le pa) B R K) k') → ∀ L q, pa_Best (st_O th up cl av (tn_ov le pa) B R K (k % 8)) w (f (k % 8)) (g (k % 8)) L q → ∀ yn' yl' yk' pt' bs', post 1 (yn', yl', yk', th, co, ca, cl, up, ex, ed, bw, pr, av, upd le (k % 8) (nI (L + 1)), st_pa pa (k % 8) q (L + 1), pt', bs'))
    (h0 : (∀ k, k < 32 → ¬ st_Q ex le R f g (st_O th up cl av (tn_ov le pa) B R K) k) → ∀ yn' yl' yk' pt' bs', post 0 (yn', yl', yk', th, co, ca, cl, up, ex, ed, bw, pr, av, le, pa, pt', bs')) :
    ∀ d i yn' yl' yk' pt' bs', i + d = 32 → (∀ k, k < i → ¬ st_Q ex le R f g (st_O th up cl av (tn_ov le pa) B R K) k) → wY_placeOne_2 post (d + 1) (nI i) yn' yl' yk' th co ca cl up ex ed bw pr av le pa pt' bs' := by
  intro d
  induction d with
  | zero =>
    intro i yn' yl' yk' pt' bs' hi hn
    have e : i = 32 := by omega
    subst e
    exact br_t (nI_le (a := 32) (by omega) (by omega)) (h0 hn yn' yl' yk' pt' bs')
  | succ d ih =>
    intro i yn' yl' yk' pt' bs' hi hn
    have t8 : i % 8 < 8 := Nat.mod_lt _ (by omega)
    have et : (nI (i % 8)).toNatClampNeg = i % 8 := nI_clamp (by omega)
    have vt : vp_in (nI (i % 8)) 8 := vp_in_nI t8 (by omega)
    have r1 := hR (i % 8) t8
    have b1 := hB (i % 8) t8
    have E1 := hE (i % 8) t8
    have nx : ¬ st_Q ex le R f g (st_O th up cl av (tn_ov le pa) B R K) i → ∀ yn' yl' yk' pt' bs', wY_placeOne_2 post (d + 1) (nI (i + 1)) yn' yl' yk' th co ca cl up ex ed bw pr av le pa pt' bs' := by
      intro hz yn' yl' yk' pt' bs'
      refine ih (i + 1) yn' yl' yk' pt' bs' (by omega) (fun k hk => ?_)
      by_cases e : k = i
      · rw [e]; exact hz
      · exact hn k (by omega)
    refine br_f (nI_ge (b := 32) (by omega) (by omega)) (And.intro aa_8n (nm_r (e' := nI (i % 8)) (aa_mod8 (by omega)) (And.intro vt (br_c (fun a => ?_) (fun a => And.intro vt (br_c (fun b => And.intro vt (And.intro aa_8n (br_c (fun e => ?_) (fun e => ?_)))) (fun b => ?_)))))))
    · rw [et] at a
      exact nm_r (nI_1 i) (nx (fun z => z.1 a) _ _ _ _ _)
    · rw [et] at a b
      rw [et, r1.1, aa_div8 (by omega), nI_eq (by omega) (by omega)] at e
      obtain ⟨E2, E3⟩ := E1.2 a
      refine And.intro vt (And.intro vt (And.intro aa_8n (And.intro vt ?_)))
      rw [et, E1.1, b1.1, aa_div8 (by omega), ← e]
      refine yc_find (hf _ t8) (hg _ t8) E2 (by omega) E3 (by omega) (tn_btN t8) hY hB hR hK hw (fun L q yn2 pt2 bs2 hb hbs => br_f (by decide) ?_) (fun hno yn2 yk2 pt2 bs2 => br_t rfl (nm_r (nI_1 i) (nx (fun z => ?_) _ _ _ _ _)))
      · exact yd_place t8 hb.2.1 hbs (h1 i (by omega) ⟨a, b, e, L, q, hb.1⟩ hn L q hb _ _ _ _ _)
      · obtain ⟨L, q, v⟩ := z.2.2.2
        exact hno L q v
    · rw [et, r1.1, aa_div8 (by omega), nI_eq (by omega) (by omega)] at e
      exact nm_r (nI_1 i) (nx (fun z => e z.2.2.1) _ _ _ _ _)
    · rw [et] at b
      exact nm_r (nI_1 i) (nx (fun z => b z.2.1) _ _ _ _ _)
theorem yd_placeOne {post : Int32 → SY → Prop} (hY : tn_YO le pa) (hB : tn_v bw B 8 100) (hR : tn_v pr R 8 3) (hK : tn_v ca K 36 100) (hw : tn_v co w 36 20) (hf : ∀ t, t < 8 → f t < 6) (hg : ∀ t, t < 8 → g t < 6) (hE : st_E ex ed B f g)
    (h1 : ∀ k, k < 32 → st_Q ex le R f g (st_O th up cl av (tn_ov le pa) B R K) k → (∀ k', k' < k → ¬ st_Q ex le R f g (st_O th up cl av (tn_ov le pa) B R K) k') → ∀ L q, pa_Best (st_O th up cl av (tn_ov le pa) B R K (k % 8)) w (f (k % 8)) (g (k % 8)) L q → ∀ yn' yl' yk' pt' bs', post 1 (yn', yl', yk', th, co, ca, cl, up, ex, ed, bw, pr, av, upd le (k % 8) (nI (L + 1)), st_pa pa (k % 8) q (L + 1), pt', bs'))
    (h0 : (∀ k, k < 32 → ¬ st_Q ex le R f g (st_O th up cl av (tn_ov le pa) B R K) k) → ∀ yn' yl' yk' pt' bs', post 0 (yn', yl', yk', th, co, ca, cl, up, ex, ed, bw, pr, av, le, pa, pt', bs')) : wpY_placeOne post (yn, yl, yk, th, co, ca, cl, up, ex, ed, bw, pr, av, le, pa, pt, bs) :=
  Exists.intro 33 (yd_placeOne_l hY hB hR hK hw hf hg hE h1 h0 32 0 yn yl yk pt bs rfl (fun k hk => absurd hk (Nat.not_lt_zero k)))
theorem yd_count_l {post : Int32 → Prop} {n : Nat → Nat} (hl : ∀ t, t < 8 → le t = nI (n t) ∧ n t ≤ 6) (h : post (nI (st_cnt le 8))) : ∀ d i, i + d = 8 → wY_countPlaced_4 post yn yl yk th co ca cl up ex ed bw pr av le pa pt bs (d + 1) (nI (st_cnt le i)) (nI i) := by
  intro d
  induction d with
  | zero =>
    intro i hi
    have e : i = 8 := by omega
    subst e
    exact br_t (nI_le (a := 8) (by omega) (by omega)) h
  | succ d ih =>
    intro i hi
    have ei : (nI i).toNatClampNeg = i := nI_clamp (by omega)
    have l1 := hl i (by omega)
    have nx := ih (i + 1) (by omega)
    unfold st_cnt at nx
    rw [aa_sms] at nx
    refine br_f (nI_ge (b := 8) (by omega) (by omega)) (And.intro (vp_in_nI (by omega) (by omega)) (br_c (fun a => nm_r (nI_1 i) ?_) (fun a => nm_r (nI_1 _) (nm_r (nI_1 i) ?_))))
    · rw [ei, l1.1] at a
      have a' := (nI_leI (b := 0) (by omega) (by omega)).mp a
      rw [if_pos (show le i = 0 by rw [l1.1, show n i = 0 by omega]; rfl), Nat.add_zero] at nx
      exact nx
    · rw [ei, l1.1] at a
      have a' : ¬ n i ≤ 0 := fun z => a ((nI_leI (b := 0) (by omega) (by omega)).mpr z)
      rw [if_neg (show ¬ le i = 0 by rw [l1.1]; exact nI_ne0 (by omega) (by omega))] at nx
      exact nx
theorem yd_count {post : Int32 → Prop} (hY : tn_YO le pa) (h : post (nI (st_cnt le 8))) : wpY_countPlaced post (yn, yl, yk, th, co, ca, cl, up, ex, ed, bw, pr, av, le, pa, pt, bs) := by
  refine Exists.intro 9 (yd_count_l (n := fun t => (le t).toNatClampNeg) (fun t ht => ?_) h 8 0 rfl)
  obtain ⟨n, n6, e1, _⟩ := hY t ht
  have : (le t).toNatClampNeg = n := by rw [e1, nI_clamp (by omega)]
  show le t = nI (le t).toNatClampNeg ∧ (le t).toNatClampNeg ≤ 6
  rw [this]
  exact ⟨e1, n6⟩
end YD
end
section
section SA
/-! settling: pure facts -/
variable {th up cl ex pl cn le pa av : Nat → Int32} {us : Nat → Int64} {w K B R f g : Nat → Nat} {ov ov' : Nat → Nat → Bool}
theorem sa_Tsub {pl' le' : Nat → Int32} (h : tn_T ex pl cn le pa us f g) (hs : ∀ t, t < 8 → (pl' t = pl t ∧ le' t = le t) ∨ (pl' t = 0 ∧ le' t = 0)) : tn_T ex pl' cn le' pa us f g := by
  intro t ht
  rcases hs t ht with ⟨e1, e2⟩ | ⟨e1, e2⟩
  · rcases h t ht with ⟨h1, h2⟩ | ⟨h1, h2, h3, L, q, h4, h5, h6, h7⟩
    · exact Or.inl ⟨e1.trans h1, e2.trans h2⟩
    · refine Or.inr ⟨e1.trans h1, h2, h3.trans e2.symm, L, q, ?_, h5, h6, h7⟩
      obtain ⟨p1, p2, p3, p4, p5, p6⟩ := h4
      exact ⟨p1, p2, e2.trans p3, p4, p5, p6⟩
  · exact Or.inl ⟨e1, e2⟩
theorem sa_Tkill {m : Nat} (h : tn_T ex pl cn le pa us f g) : tn_T ex (upd pl m 0) cn (upd le m 0) pa us f g := by
  refine sa_Tsub h fun t _ => ?_
  by_cases e : t = m
  · subst e; exact Or.inr ⟨pk_us, pk_us⟩
  · exact Or.inl ⟨pk_un e, pk_un e⟩
theorem sa_z (h : tn_T ex pl cn le pa us f g) {t : Nat} (ht : t < 8) : pl t = 0 ↔ le t = 0 := by
  rcases h t ht with ⟨h1, h2⟩ | ⟨h1, h2, h3, L, q, h4, h5, h6, h7⟩
  · rw [h1, h2]
  · obtain ⟨p1, p2, p3, p4, p5, p6⟩ := h4
    constructor
    · intro z; rw [h1] at z; exact absurd z (by decide)
    · intro z; rw [p3] at z; exact absurd z (nI_ne0 (by omega) (by omega))
theorem sa_01 (h : tn_T ex pl cn le pa us f g) {t : Nat} (ht : t < 8) (hn : ¬ pl t = 0) : pl t = 1 := by
  rcases h t ht with ⟨h1, h2⟩ | ⟨h1, h2, h3, L, q, h4, h5, h6, h7⟩
  · exact absurd h1 hn
  · exact h1
theorem sa_cnt (h : tn_T ex pl cn le pa us f g) : st_cnt pl 8 = st_cnt le 8 := by
  refine aa_sm_eq fun t ht => ?_
  by_cases z : pl t = 0
  · rw [if_pos z, if_pos ((sa_z h ht).mp z)]
  · rw [if_neg z, if_neg (fun y => z ((sa_z h ht).mpr y))]
theorem sa_Tplace {O : Nat → Prop} {t0 L : Nat} {q : Nat → Nat} (h : tn_T ex pl cn le pa us f g) (h0 : t0 < 8) (hex : ¬ ex t0 = 0) (hfg : f t0 ≠ g t0) (v : pa_Val O (f t0) (g t0) L q) : tn_T ex (upd pl t0 1) (upd cn t0 (nI (L + 1))) (upd le t0 (nI (L + 1))) (st_pa pa t0 q (L + 1)) (vp_updL us t0 (st_m q L)) f g := by
  have L1 := pa_Val1 v hfg
  have L5 := pa_Val5 v
  intro t ht
  by_cases e : t = t0
  · subst e
    rw [pk_us, pk_us, pk_us, pk_uLs]
    exact Or.inr ⟨rfl, hex, rfl, L, q, ⟨L1, L5, pk_us, fun i hi => st_pa_in (by omega), v.2.2.1, v.2.2.2.1⟩, v.1, v.2.1, rfl⟩
  · rw [pk_un e, pk_un e, pk_un e, pk_uLn e]
    rcases h t ht with h1 | ⟨h1, h2, h3, L', q', h4, h5, h6, h7⟩
    · exact Or.inl h1
    · obtain ⟨p1, p2, p3, p4, p5, p6⟩ := h4
      refine Or.inr ⟨h1, h2, h3, L', q', ⟨p1, p2, (pk_un e).trans p3, fun i hi => ?_, p5, p6⟩, h5, h6, h7⟩
      rw [st_pa_out (fun j hj => by omega)]
      exact p4 i hi
theorem sa_ovO {t0 L t c : Nat} {q : Nat → Nat} (hY : tn_YO le pa) (ht : t < 8) (hL : L ≤ 5) (hn : t ≠ t0) : tn_ov (upd le t0 (nI (L + 1))) (st_pa pa t0 q (L + 1)) t c = tn_ov le pa t c := by
  obtain ⟨n, n6, e1, e2⟩ := hY t ht
  refine tn_ov_c (pk_un hn) (fun i hi => st_pa_out (fun j hj => by omega)) ?_
  rw [pk_un hn, e1, nI_clamp (by omega)]
  exact n6
theorem sa_tk_mono {c p but : Nat} (h : ∀ t, t < 8 → ov' t c = true → ov t c = true) : tn_tk ov' B R c p but ≤ tn_tk ov B R c p but := by
  refine aa_sm_le fun t ht => ?_
  unfold tn_f
  by_cases z : t ≠ but ∧ R t ≤ p ∧ ov' t c = true
  · rw [if_pos z, if_pos ⟨z.1, z.2.1, h t ht z.2.2⟩]; exact Nat.le_refl _
  · rw [if_neg z]; exact Nat.zero_le _
theorem sa_tk_p {c p but : Nat} (hR : ∀ t, t < 8 → R t ≤ 3) : tn_tk ov B R c p but ≤ tn_tk ov B R c 3 8 := by
  refine aa_sm_le fun t ht => ?_
  unfold tn_f
  by_cases z : t ≠ but ∧ R t ≤ p ∧ ov t c = true
  · rw [if_pos z, if_pos ⟨by omega, hR t ht, z.2.2⟩]; exact Nat.le_refl _
  · rw [if_neg z]; exact Nat.zero_le _
/-- without t0, and t0 itself -/
theorem sa_tk_one {c t0 : Nat} (h0 : t0 < 8) (ho : ∀ t, t < 8 → t ≠ t0 → ov' t c = ov t c) : tn_tk ov' B R c (R t0) 8 = tn_tk ov B R c (R t0) t0 + (if ov' t0 c = true then B t0 else 0) := by
  have u := aa_sm_upd (f := tn_f ov B R c (R t0) t0) (g := fun t => if t = t0 then (if ov' t0 c = true then B t0 else 0) else tn_f ov B R c (R t0) t0 t) (i := t0) (n := 8) h0 (fun j hj => if_neg hj)
  have z : tn_f ov B R c (R t0) t0 t0 = 0 := if_neg (fun y => y.1 rfl)
  rw [if_pos rfl, z, Nat.add_zero] at u
  unfold tn_tk
  rw [← u]
  refine aa_sm_eq fun t ht => ?_
  by_cases e : t = t0
  · subst e
    rw [if_pos rfl]
    unfold tn_f
    by_cases y : ov' t c = true
    · rw [if_pos ⟨by omega, Nat.le_refl _, y⟩, if_pos y]
    · rw [if_neg (fun x => y x.2.2), if_neg y]
  · rw [if_neg e]
    unfold tn_f
    rw [ho t ht e]
    by_cases y : R t ≤ R t0 ∧ ov t c = true
    · rw [if_pos ⟨by omega, y.1, y.2⟩, if_pos ⟨e, y.1, y.2⟩]
    · rw [if_neg (fun x => y x.2), if_neg (fun x => y x.2)]
def sa_NO (th le pa : Nat → Int32) (B R K : Nat → Nat) : Prop := ∀ c, c < 36 → ¬ st_P th (tn_ov le pa) B R K c
def sa_MP (th up cl av le pa : Nat → Int32) : Prop := ∀ t c, t < 8 → c < 36 → tn_ov le pa t c = true → tn_mp th up cl (av t) c
def sa_SF (th le pa : Nat → Int32) (B R K : Nat → Nat) (p : Nat) : Prop := ∀ c, c < 36 → ¬ th c = 0 → tn_tk (tn_ov le pa) B R c p 8 ≤ K c
theorem sa_sub_ov {le' : Nat → Int32} {t c : Nat} (h : le' t = le t ∨ le' t = 0) (ho : tn_ov le' pa t c = true) : tn_ov le pa t c = true := by
  rcases h with h | h
  · rw [tn_ov_le h] at ho; exact ho
  · rw [tn_ov0 h] at ho; exact absurd ho (by decide)
theorem sa_MPsub {le' : Nat → Int32} (h : sa_MP th up cl av le pa) (hs : ∀ t, t < 8 → le' t = le t ∨ le' t = 0) : sa_MP th up cl av le' pa :=
  fun t c ht hc ho => h t c ht hc (sa_sub_ov (hs t ht) ho)
theorem sa_SFsub {le' : Nat → Int32} {p : Nat} (h : sa_SF th le pa B R K p) (hs : ∀ t, t < 8 → le' t = le t ∨ le' t = 0) : sa_SF th le' pa B R K p := by
  intro c hc ht
  exact Nat.le_trans (sa_tk_mono (fun t ht' ho => sa_sub_ov (hs t ht') ho)) (h c hc ht)
theorem sa_SFplace {t0 L : Nat} {q : Nat → Nat} (hY : tn_YO le pa) (hR : ∀ t, t < 8 → R t ≤ 3) (h0 : t0 < 8) (hNO : sa_NO th le pa B R K) (hfg : f t0 ≠ g t0) (v : pa_Val (st_O th up cl av (tn_ov le pa) B R K t0) (f t0) (g t0) L q) : sa_SF th (upd le t0 (nI (L + 1))) (st_pa pa t0 q (L + 1)) B R K (R t0) := by
  have L1 := pa_Val1 v hfg
  have L5 := pa_Val5 v
  intro c hc ht
  have P0 : tn_P (upd le t0 (nI (L + 1))) (st_pa pa t0 q (L + 1)) t0 L q := ⟨L1, L5, pk_us, fun i hi => st_pa_in (by omega), v.2.2.1, v.2.2.2.1⟩
  rw [sa_tk_one (ov := tn_ov le pa) h0 (fun t ht' hn => sa_ovO hY ht' L5 hn)]
  by_cases z : tn_ov (upd le t0 (nI (L + 1))) (st_pa pa t0 q (L + 1)) t0 c = true
  · rw [if_pos z]
    obtain ⟨i, hi, e⟩ := (tn_ovP P0).mp z
    have := (v.2.2.2.2 i hi).2
    rw [e] at this
    exact this
  · rw [if_neg z, Nat.add_zero]
    have h1 := sa_tk_p (ov := tn_ov le pa) (B := B) (R := R) (c := c) (p := R t0) (but := t0) hR
    have h2 : ¬ st_P th (tn_ov le pa) B R K c := hNO c hc
    have h3 : ¬ K c < tn_tk (tn_ov le pa) B R c 3 8 := fun z => h2 ⟨ht, z⟩
    omega
theorem sa_MPplace {t0 L : Nat} {q : Nat → Nat} (hY : tn_YO le pa) (h0 : t0 < 8) (hM : sa_MP th up cl av le pa) (hfg : f t0 ≠ g t0) (v : pa_Val (st_O th up cl av (tn_ov le pa) B R K t0) (f t0) (g t0) L q) : sa_MP th up cl av (upd le t0 (nI (L + 1))) (st_pa pa t0 q (L + 1)) := by
  have L1 := pa_Val1 v hfg
  have L5 := pa_Val5 v
  intro t c ht hc ho
  by_cases e : t = t0
  · subst e
    have P0 : tn_P (upd le t (nI (L + 1))) (st_pa pa t q (L + 1)) t L q := ⟨L1, L5, pk_us, fun i hi => st_pa_in (by omega), v.2.2.1, v.2.2.2.1⟩
    obtain ⟨i, hi, e⟩ := (tn_ovP P0).mp ho
    rw [← e]
    exact (v.2.2.2.2 i hi).1
  · rw [sa_ovO hY ht L5 e] at ho
    exact hM t c ht hc ho
theorem sa_MPdrop (h : tn_T ex pl cn le pa us f g) : sa_MP th up cl av (st_k (st_V th up cl av (tn_ov le pa)) le 8) pa := by
  intro t c ht hc ho
  by_cases z : st_V th up cl av (tn_ov le pa) t
  · rw [tn_ov0 (st_k1 ht z)] at ho
    exact absurd ho (by decide)
  · rw [tn_ov_le (st_k0 (fun y => z y.2))] at ho
    by_cases y : tn_mp th up cl (av t) c
    · exact y
    · exact absurd ⟨c, hc, ho, y⟩ z
theorem sa_Tdrop (h : tn_T ex pl cn le pa us f g) (V : Nat → Prop) : tn_T ex (st_k V pl 8) cn (st_k V le 8) pa us f g := by
  refine sa_Tsub h fun t ht => ?_
  by_cases z : V t
  · exact Or.inr ⟨st_k1 ht z, st_k1 ht z⟩
  · exact Or.inl ⟨st_k0 (fun y => z y.2), st_k0 (fun y => z y.2)⟩
theorem sa_Wex {c : Nat} : ∀ n, (∃ t, t < n ∧ ov t c = true) → ∃ m, st_W ov R c n m := by
  intro n
  induction n with
  | zero => rintro ⟨t, ht, _⟩; exact absurd ht (Nat.not_lt_zero t)
  | succ n ih =>
    rintro ⟨t, ht, ho⟩
    cases hn : ov n c
    · obtain ⟨m, m1, m2, m3⟩ := ih ⟨t, by
        by_cases e : t = n
        · rw [e, hn] at ho; exact absurd ho (by decide)
        · omega, ho⟩
      refine ⟨m, by omega, m2, fun s hs so => ?_⟩
      by_cases e : s = n
      · rw [e, hn] at so; exact absurd so (by decide)
      · exact m3 s (by omega) so
    · by_cases z : ∃ t, t < n ∧ ov t c = true
      · obtain ⟨m, m1, m2, m3⟩ := ih z
        by_cases y : R n < R m
        · refine ⟨m, by omega, m2, fun s hs so => ?_⟩
          by_cases e : s = n
          · rw [e]; exact Or.inl y
          · exact m3 s (by omega) so
        · refine ⟨n, by omega, hn, fun s hs so => ?_⟩
          by_cases e : s = n
          · rw [e]; exact Or.inr ⟨rfl, Nat.le_refl _⟩
          · have := m3 s (by omega) so
            omega
      · refine ⟨n, by omega, hn, fun s hs so => ?_⟩
        by_cases e : s = n
        · rw [e]; exact Or.inr ⟨rfl, Nat.le_refl _⟩
        · exact absurd ⟨s, by omega, so⟩ z
/-- who is pushed off is less urgent than what is safe -/
theorem sa_worst {c m p : Nat} (hc : c < 36) (hP : st_P th (tn_ov le pa) B R K c) (hm : st_W (tn_ov le pa) R c 8 m) (hs : sa_SF th le pa B R K p) : p < R m := by
  rcases Nat.lt_or_ge p (R m) with z | z
  · exact z
  · have h1 := hs c hc hP.1
    have h2 := hP.2
    have h3 : tn_tk (tn_ov le pa) B R c 3 8 ≤ tn_tk (tn_ov le pa) B R c p 8 := by
      refine aa_sm_le fun t ht => ?_
      unfold tn_f
      by_cases y : t ≠ 8 ∧ R t ≤ 3 ∧ tn_ov le pa t c = true
      · have := hm.2.2 t ht y.2.2
        rw [if_pos y, if_pos ⟨y.1, by omega, y.2.2⟩]; exact Nat.le_refl _
      · rw [if_neg y]; exact Nat.zero_le _
    omega
theorem sa_cntk {m : Nat} (hm : m < 8) (hn : ¬ pl m = 0) : st_cnt (upd pl m 0) 8 + 1 = st_cnt pl 8 := by
  have u := aa_sm_upd (f := fun t => if pl t = 0 then 0 else 1) (g := fun t => if upd pl m 0 t = 0 then 0 else 1) (i := m) (n := 8) hm (fun j hj => by rw [pk_un hj])
  rw [pk_us, if_pos rfl, if_neg hn, Nat.add_zero] at u
  exact u
theorem sa_best {O : Nat → Prop} {s d : Nat} (h : ∃ L q, pa_Val O s d L q) : ∃ L q, pa_Best O w s d L q := by
  obtain ⟨k, ⟨L, q, v, e⟩, hk⟩ := pk_least (fun k => ∃ L q, pa_Val O s d L q ∧ 100000 * pa_pc w q L + 10000 * L + pa_nm q L = k) (by
    obtain ⟨L, q, v⟩ := h
    exact ⟨_, L, q, v, rfl⟩)
  have pw : ∀ L, L ≤ 5 → 6 ^ L ≤ 7776 := by
    intro L hL
    have : L = 0 ∨ L = 1 ∨ L = 2 ∨ L = 3 ∨ L = 4 ∨ L = 5 := by omega
    rcases this with rfl | rfl | rfl | rfl | rfl | rfl <;> decide
  refine ⟨L, q, v, pa_Val5 v, fun L' q' v' => ?_⟩
  have n1 := pa_nm_lt v.2.2.1
  have n2 := pa_nm_lt v'.2.2.1
  have m1 := pw L (pa_Val5 v)
  have m2 := pw L' (pa_Val5 v')
  have l1 := pa_Val5 v
  have l2 := pa_Val5 v'
  have key : ¬ 100000 * pa_pc w q' L' + 10000 * L' + pa_nm q' L' < k := fun z => hk _ z ⟨L', q', v', rfl⟩
  unfold pa_Le
  omega
theorem sa_m_c {q q' : Nat → Nat} : ∀ {L : Nat}, (∀ i, i ≤ L → q i = q' i) → st_m q L = st_m q' L := by
  intro L
  induction L with
  | zero => intro _; rfl
  | succ L ih =>
    intro h
    rw [st_ms, st_ms, ih (fun i hi => h i (by omega)), h L (by omega), h (L + 1) (by omega)]
end SA
end
section
section SB
/-! settling: both sides push off in step -/
variable {th up co ca cl ex fi la bw pr av cn pa ed : Nat → Int32} {us : Nat → Int64} {w K B R f g : Nat → Nat}
def sb_Fst (th le pa : Nat → Int32) (B R K : Nat → Nat) (c : Nat) : Prop := c < 36 ∧ st_P th (tn_ov le pa) B R K c ∧ ∀ c', c' < c → ¬ st_P th (tn_ov le pa) B R K c'
theorem sb_FstU {le : Nat → Int32} {c c' : Nat} (h : sb_Fst th le pa B R K c) (h' : sb_Fst th le pa B R K c') : c = c' := by
  rcases Nat.lt_trichotomy c c' with z | z | z
  · exact absurd h.2.1 (h'.2.2 c z)
  · exact z
  · exact absurd h'.2.1 (h.2.2 c' z)
theorem sb_unload (hB : tn_v bw B 8 100) (hR : tn_v pr R 8 3) (hK : tn_v ca K 36 100) : ∀ k pl le, st_cnt pl 8 = k → tn_T ex pl cn le pa us f g →
    ∃ pl' le', tn_T ex pl' cn le' pa us f g ∧ sa_NO th le' pa B R K ∧ (∀ t, t < 8 → (pl' t = pl t ∧ le' t = le t) ∨ (pl' t = 0 ∧ le' t = 0)) ∧ (∀ p, sa_SF th le pa B R K p → ∀ t, t < 8 → R t ≤ p → pl' t = pl t) ∧
    (∀ gc gk gb fo op ct lk dn gp rs cf qu en lo ab tr (post : SX → Prop), post (gc, gk, gb, th, up, co, ca, cl, ex, pl', fi, la, bw, pr, av, cn, pa, us, fo, op, ct, lk, dn, gp, rs, cf, qu, en, lo, ab, tr) → ∀ x2 r, x2 + k ≤ 8 → ((r = -1 ∧ sa_NO th le pa B R K) ∨ (∃ c, r = nI c ∧ sb_Fst th le pa B R K c)) → wX_unload_7 post (k + 1) r (nI x2) gc gk gb th up co ca cl ex pl fi la bw pr av cn pa us fo op ct lk dn gp rs cf qu en lo ab tr) ∧
    (∃ d, ∀ yn yl yk pt bs (post : Int32 → SY → Prop) n, wY_settle_6 post n 1 yn yl yk th co ca cl up ex ed bw pr av le' pa pt bs → wY_settle_6 post (n + d) 1 yn yl yk th co ca cl up ex ed bw pr av le pa pt bs) := by
  have hR3 : ∀ t, t < 8 → R t ≤ 3 := fun t ht => (hR t ht).2
  intro k
  induction k with
  | zero =>
    intro pl le hk hT
    have hno : sa_NO th le pa B R K := by
      intro c hc hP
      obtain ⟨t, t1, t2⟩ := st_Pex hP
      have e : pl t = 0 := by
        by_cases z : pl t = 0
        · exact z
        · have := aa_sm_ge (f := fun t => if pl t = 0 then 0 else 1) (i := t) (n := 8) t1
          rw [if_neg z] at this
          unfold st_cnt at hk
          omega
      rw [tn_ov0 ((sa_z hT t1).mp e)] at t2
      exact absurd t2 (by decide)
    refine ⟨pl, le, hT, hno, fun t _ => Or.inl ⟨rfl, rfl⟩, fun _ _ _ _ _ => rfl, ?_, 0, fun _ _ _ _ _ _ _ h => h⟩
    intro gc gk gb fo op ct lk dn gp rs cf qu en lo ab tr post hp x2 r hx hr
    rcases hr with ⟨rfl, _⟩ | ⟨c, _, hc⟩
    · exact br_c (fun _ => hp) (fun _ => br_t aa_m1 hp)
    · exact absurd hc.2.1 (hno c hc.1)
  | succ k ih =>
    intro pl le hk hT
    by_cases hno : sa_NO th le pa B R K
    · refine ⟨pl, le, hT, hno, fun t _ => Or.inl ⟨rfl, rfl⟩, fun _ _ _ _ _ => rfl, ?_, 0, fun _ _ _ _ _ _ _ h => h⟩
      intro gc gk gb fo op ct lk dn gp rs cf qu en lo ab tr post hp x2 r hx hr
      rcases hr with ⟨rfl, _⟩ | ⟨c, _, hc⟩
      · exact br_c (fun _ => hp) (fun _ => br_t aa_m1 hp)
      · exact absurd hc.2.1 (hno c hc.1)
    · obtain ⟨c, hF⟩ : ∃ c, sb_Fst th le pa B R K c := by
        obtain ⟨c, c1, c2⟩ := pk_least (fun c => c < 36 ∧ st_P th (tn_ov le pa) B R K c) (by
          by_cases z : ∃ c, c < 36 ∧ st_P th (tn_ov le pa) B R K c
          · exact z
          · exact absurd (fun c hc hP => z ⟨c, hc, hP⟩) hno)
        exact ⟨c, c1.1, c1.2, fun c' h hP => c2 c' h ⟨by omega, hP⟩⟩
      obtain ⟨m, hm⟩ := sa_Wex (ov := tn_ov le pa) (R := R) (c := c) 8 (st_Pex hF.2.1)
      have m8 : m < 8 := hm.1
      have pm : ¬ pl m = 0 := by
        intro z
        have := hm.2.1
        rw [tn_ov0 ((sa_z hT m8).mp z)] at this
        exact absurd this (by decide)
      have hT1 : tn_T ex (upd pl m 0) cn (upd le m 0) pa us f g := sa_Tkill hT
      obtain ⟨pl', le', r1, r2, r3, r4, r5, d, r6⟩ := ih (upd pl m 0) (upd le m 0) (by have := sa_cntk m8 pm; omega) hT1
      have sub : ∀ t, t < 8 → upd le m 0 t = le t ∨ upd le m 0 t = 0 := by
        intro t _
        by_cases e : t = m
        · subst e; exact Or.inr pk_us
        · exact Or.inl (pk_un e)
      refine ⟨pl', le', r1, r2, ?_, ?_, ?_, d + 1, ?_⟩
      · intro t ht
        rcases r3 t ht with ⟨e1, e2⟩ | e
        · by_cases e : t = m
          · subst e
            rw [pk_us] at e1 e2
            exact Or.inr ⟨e1, e2⟩
          · rw [pk_un e] at e1 e2
            exact Or.inl ⟨e1, e2⟩
        · exact Or.inr e
      · intro p hs t ht hp
        have hw := sa_worst hF.1 hF.2.1 hm hs
        have tm : t ≠ m := fun z => by rw [z] at hp; omega
        have := r4 p (sa_SFsub hs sub) t ht hp
        rw [pk_un tm] at this
        exact this
      · intro gc gk gb fo op ct lk dn gp rs cf qu en lo ab tr post hp x2 r hx hr
        rcases hr with ⟨_, hr⟩ | ⟨c', rfl, hc'⟩
        · exact absurd hr hno
        · have ec := sb_FstU hF hc'
          subst ec
          have c36 := hF.1
          refine br_f (nI_ge (b := 8) (by omega) (by omega)) (br_f (nI_pos (by omega)) (xs_pushOff c36 (tn_XOof hT) hR (st_Pex hF.2.1) (fun m' hm' => ?_)))
          have em := st_Wu hm hm'
          subst em
          have cont := r5 gc gk gb fo op ct lk dn gp rs cf qu en lo ab tr post hp (x2 + 1)
          exact xs_overloaded (tn_XOof hT1) hB hR hK (fun c2 d1 d2 d3 => nm_r (nI_1 x2) (cont (nI c2) (by omega) (Or.inr ⟨c2, rfl, d1, d2, d3⟩))) (fun d0 => nm_r (nI_1 x2) (cont (-1) (by omega) (Or.inl ⟨rfl, d0⟩)))
      · intro yn yl yk pt bs post n hn
        have k6 := r6 yn yl yk pt bs post n hn
        refine br_f (by decide) (yd_full (tn_YOof hT) hB hR hK (fun c' c1 c2 c3 m' hm' => br_f (by decide) ?_) (fun h0 => absurd h0 hno))
        have ec := sb_FstU hF ⟨c1, c2, c3⟩
        subst ec
        have em := st_Wu hm hm'
        subst em
        exact k6
end SB
end
section
section SC
/-! settling: both sides place in step -/
variable {th up co ca cl ex fi la bw pr av ed : Nat → Int32} {w K B R f g : Nat → Nat}
def sc_Phi (R : Nat → Nat) (pl : Nat → Int32) : Nat := po_Phi R (fun t => decide (¬ pl t = 0))
/-- the component empties a state: from the look-out for a full link on -/
theorem sc_unl {pl le cn pa : Nat → Int32} {us : Nat → Int64} {gc gk gb : Int32} {fo op ct lk dn gp rs cf qu en lo ab tr : Nat → Int32} {post : SX → Prop} (hB : tn_v bw B 8 100) (hR : tn_v pr R 8 3) (hK : tn_v ca K 36 100) (hT : tn_T ex pl cn le pa us f g) (h : ∀ r, ((r = -1 ∧ sa_NO th le pa B R K) ∨ (∃ c, r = nI c ∧ sb_Fst th le pa B R K c)) → wX_unload_7 post (st_cnt pl 8 + 1) r (nI 0) gc gk gb th up co ca cl ex pl fi la bw pr av cn pa us fo op ct lk dn gp rs cf qu en lo ab tr) : wpX_unload post (gc, gk, gb, th, up, co, ca, cl, ex, pl, fi, la, bw, pr, av, cn, pa, us, fo, op, ct, lk, dn, gp, rs, cf, qu, en, lo, ab, tr) := by
  unfold wpX_unload
  exact xs_overloaded (tn_XOof hT) hB hR hK (fun c2 d1 d2 d3 => Exists.intro (st_cnt pl 8 + 1) (h (nI c2) (Or.inr ⟨c2, rfl, d1, d2, d3⟩))) (fun d0 => Exists.intro (st_cnt pl 8 + 1) (h (-1) (Or.inl ⟨rfl, d0⟩)))
theorem sc_cnt8 (pl : Nat → Int32) : st_cnt pl 8 ≤ 8 := by
  refine aa_sm_bd (n := 8) (B := 1) fun t _ => ?_
  split <;> omega
theorem sc_Qz {pl le cn pa : Nat → Int32} {us : Nat → Int64} {O : Nat → Nat → Prop} (hT : tn_T ex pl cn le pa us f g) (k : Nat) : st_Q ex pl R f g O k ↔ st_Q ex le R f g O k := by
  have := sa_z hT (t := k % 8) (Nat.mod_lt _ (by omega))
  unfold st_Q
  rw [this]
theorem sc_loop (hB : tn_v bw B 8 100) (hR : tn_v pr R 8 3) (hK : tn_v ca K 36 100) (hw : tn_v co w 36 20) (hf : tn_v fi f 8 5) (hg : tn_v la g 8 5) (hE : st_E ex ed B f g) : ∀ M pl cn us pa le, 4000 ≤ M + sc_Phi R pl → tn_T ex pl cn le pa us f g → sa_NO th le pa B R K → sa_MP th up cl av le pa →
    ∃ pl' cn' us' pa' le', tn_T ex pl' cn' le' pa' us' f g ∧ sa_NO th le' pa' B R K ∧ sa_MP th up cl av le' pa' ∧
    (∃ NX, ∀ x2 gc gk gb fo op ct lk dn gp rs cf qu en lo ab tr (post : Int32 → SX → Prop), x2 ≤ sc_Phi R pl → (∀ gc' gk' fo' op' ct' lk' dn', post (nI (st_cnt pl' 8)) (gc', gk', gb, th, up, co, ca, cl, ex, pl', fi, la, bw, pr, av, cn', pa', us', fo', op', ct', lk', dn', gp, rs, cf, qu, en, lo, ab, tr)) → wX_settle_12 post NX 1 (nI x2) gc gk gb th up co ca cl ex pl fi la bw pr av cn pa us fo op ct lk dn gp rs cf qu en lo ab tr) ∧
    (∃ NY, ∀ yn yl yk pt bs (post : Int32 → SY → Prop), (∀ yn' yl' yk' pt' bs', post (nI (st_cnt pl' 8)) (yn', yl', yk', th, co, ca, cl, up, ex, ed, bw, pr, av, le', pa', pt', bs')) → wY_settle_6 post NY 1 yn yl yk th co ca cl up ex ed bw pr av le pa pt bs) := by
  have hR3 : ∀ t, t < 8 → R t ≤ 3 := fun t ht => (hR t ht).2
  have hf6 : ∀ t, t < 8 → f t < 6 := fun t ht => by have := (hf t ht).2; omega
  have hg6 : ∀ t, t < 8 → g t < 6 := fun t ht => by have := (hg t ht).2; omega
  intro M
  induction M with
  | zero =>
    intro pl cn us pa le hM
    have := po_bound (R := R) (pl := fun t => decide (¬ pl t = 0)) hR3
    unfold sc_Phi at hM
    omega
  | succ M ih =>
    intro pl cn us pa le hM hT hN hP
    have pb := po_bound (R := R) (pl := fun t => decide (¬ pl t = 0)) hR3
    by_cases hQ : ∃ k, k < 32 ∧ st_Q ex pl R f g (st_O th up cl av (tn_ov le pa) B R K) k
    · obtain ⟨k, ⟨k32, kQ⟩, kmin⟩ := pk_least _ hQ
      have kfirst : ∀ k', k' < k → ¬ st_Q ex pl R f g (st_O th up cl av (tn_ov le pa) B R K) k' := fun k' hk' z => kmin k' hk' ⟨by omega, z⟩
      have kuniq : ∀ k', k' < 32 → st_Q ex pl R f g (st_O th up cl av (tn_ov le pa) B R K) k' → (∀ j, j < k' → ¬ st_Q ex pl R f g (st_O th up cl av (tn_ov le pa) B R K) j) → k' = k := by
        intro k' _ h1 h2
        rcases Nat.lt_trichotomy k' k with z | z | z
        · exact absurd h1 (kfirst k' z)
        · exact z
        · exact absurd kQ (h2 k z)
      have t8 : k % 8 < 8 := Nat.mod_lt _ (by omega)
      obtain ⟨L, q, hb⟩ := sa_best (w := w) kQ.2.2.2
      have hfg := (hE _ t8).2 kQ.1
      have hT1 := sa_Tplace hT t8 kQ.1 hfg.1 hb.1
      have hM1 := sa_MPplace (tn_YOof hT) t8 hP hfg.1 hb.1
      have hS1 := sa_SFplace (tn_YOof hT) hR3 t8 hN hfg.1 hb.1
      obtain ⟨pl2, le2, r1, r2, r3, r4, r5, d, r6⟩ := sb_unload (th := th) hB hR hK (st_cnt (upd pl (k % 8) 1) 8) (upd pl (k % 8) 1) (upd le (k % 8) (nI (L + 1))) rfl hT1
      have grow : sc_Phi R pl + 1 ≤ sc_Phi R pl2 := by
        refine po_grow hR3 t8 (decide_eq_false (fun z => z kQ.2.1)) ?_ ?_
        · have := r4 _ hS1 (k % 8) t8 (Nat.le_refl _)
          rw [pk_us] at this
          refine decide_eq_true ?_
          rw [this]
          decide
        · intro t ht tn hle hpl
          have := r4 _ hS1 t ht hle
          rw [pk_un tn] at this
          refine decide_eq_true ?_
          rw [this]
          exact of_decide_eq_true hpl
      obtain ⟨pl', cn', us', pa', le', o1, o2, o3, ⟨NX, oX⟩, ⟨NY, oY⟩⟩ := ih pl2 _ _ _ le2 (by omega) r1 r2 (sa_MPsub hM1 (fun t ht => by
        rcases r3 t ht with e | e
        · exact Or.inl e.2
        · exact Or.inr e.2))
      refine ⟨pl', cn', us', pa', le', o1, o2, o3, ⟨NX + 1, ?_⟩, ⟨NY + d + 1, ?_⟩⟩
      · intro x2 gc gk gb fo op ct lk dn gp rs cf qu en lo ab tr post hx hpost
        refine br_f (nI_ge (b := 5000) (by unfold sc_Phi at hx; omega) (by omega)) (br_f (by decide) (xs_placeOne (tn_XOof hT) hB hR hK hw hf hg ?_ (fun h0 => absurd kQ (h0 k k32))))
        intro k' k1 k2 k3 L' q' hb' gc' gk' fo' op' ct' lk' dn'
        have ek := kuniq k' k1 k2 k3
        subst ek
        obtain ⟨e1, e2, e3⟩ := pa_uniq hb hb'
        subst e1
        rw [← st_pa_c (q := q) (q' := q') (fun i hi => e3 i (by omega)), ← sa_m_c (q := q) (q' := q') e3]
        refine sc_unl hB hR hK hT1 (fun r hr => r5 _ _ _ _ _ _ _ _ _ _ _ _ _ _ _ _ _ ?_ 0 r (by have := sc_cnt8 (upd pl (k' % 8) 1); omega) hr)
        exact nm_r (nI_1 x2) (oX (x2 + 1) _ _ _ _ _ _ _ _ _ _ _ _ _ _ _ _ post (by omega) hpost)
      · intro yn yl yk pt bs post hpost
        refine br_f (by decide) (yd_full (tn_YOof hT) hB hR hK (fun c c1 c2 _ _ _ => absurd c2 (hN c c1)) (fun _ => br_t rfl (yd_placeOne (tn_YOof hT) hB hR hK hw hf6 hg6 hE ?_ (fun h0 => absurd ((sc_Qz hT k).mp kQ) (h0 k k32)))))
        intro k' k1 k2 k3 L' q' hb' yn' yl' yk' pt' bs'
        have ek := kuniq k' k1 ((sc_Qz hT k').mpr k2) (fun j hj z => k3 j hj ((sc_Qz hT j).mp z))
        subst ek
        obtain ⟨e1, e2, e3⟩ := pa_uniq hb hb'
        subst e1
        rw [← st_pa_c (q := q) (q' := q') (fun i hi => e3 i (by omega))]
        exact r6 _ _ _ _ _ post NY (oY _ _ _ _ _ post hpost)
    · have hnQ : ∀ k, k < 32 → ¬ st_Q ex pl R f g (st_O th up cl av (tn_ov le pa) B R K) k := fun k hk z => hQ ⟨k, hk, z⟩
      refine ⟨pl, cn, us, pa, le, hT, hN, hP, ⟨2, ?_⟩, ⟨2, ?_⟩⟩
      · intro x2 gc gk gb fo op ct lk dn gp rs cf qu en lo ab tr post hx hpost
        refine br_f (nI_ge (b := 5000) (by unfold sc_Phi at hx; omega) (by omega)) (br_f (by decide) (xs_placeOne (tn_XOof hT) hB hR hK hw hf hg (fun k k1 k2 _ _ _ _ => absurd k2 (hnQ k k1)) (fun _ gc' gk' fo' op' ct' lk' dn' => ?_)))
        refine sc_unl hB hR hK hT (fun r hr => ?_)
        rcases hr with ⟨rfl, _⟩ | ⟨c, _, hc⟩
        · have fin := xs_placed (pl := pl) (post := fun r => post r (gc', gk', gb, th, up, co, ca, cl, ex, pl, fi, la, bw, pr, av, cn, pa, us, fo', op', ct', lk', dn', gp, rs, cf, qu, en, lo, ab, tr)) (gc := gc') (gk := gk') (gb := gb) (th := th) (up := up) (co := co) (ca := ca) (cl := cl) (ex := ex) (fi := fi) (la := la) (bw := bw) (pr := pr) (av := av) (cn := cn) (pa := pa) (us := us) (fo := fo') (op := op') (ct := ct') (lk := lk') (dn := dn') (gp := gp) (rs := rs) (cf := cf) (qu := qu) (en := en) (lo := lo) (ab := ab) (tr := tr) (hpost gc' gk' fo' op' ct' lk' dn')
          exact br_c (fun _ => nm_r (nI_1 x2) (br_c (fun _ => fin) (fun _ => br_t rfl fin))) (fun _ => br_t aa_m1 (nm_r (nI_1 x2) (br_c (fun _ => fin) (fun _ => br_t rfl fin))))
        · exact absurd hc.2.1 (hN c hc.1)
      · intro yn yl yk pt bs post hpost
        refine br_f (by decide) (yd_full (tn_YOof hT) hB hR hK (fun c c1 c2 _ _ _ => absurd c2 (hN c c1)) (fun _ => br_t rfl (yd_placeOne (tn_YOof hT) hB hR hK hw hf6 hg6 hE (fun k k1 k2 _ _ _ _ => absurd ((sc_Qz hT k).mpr k2) (hnQ k k1)) (fun _ yn' yl' yk' pt' bs' => br_t rfl (yd_count (tn_YOof hT) ?_)))))
        rw [← sa_cnt hT]
        exact hpost yn' yl' yk' pt' bs'
/-- settling: one outcome for both -/
theorem sc_settle (hB : tn_v bw B 8 100) (hR : tn_v pr R 8 3) (hK : tn_v ca K 36 100) (hw : tn_v co w 36 20) (hf : tn_v fi f 8 5) (hg : tn_v la g 8 5) (hE : st_E ex ed B f g) {pl cn pa le : Nat → Int32} {us : Nat → Int64} (hT : tn_T ex pl cn le pa us f g) :
    ∃ n pl' cn' us' pa' le', tn_T ex pl' cn' le' pa' us' f g ∧ sa_NO th le' pa' B R K ∧ sa_MP th up cl av le' pa' ∧
    (∀ gc gk gb fo op ct lk dn gp rs cf qu en lo ab tr (post : Int32 → SX → Prop), (∀ gc' gk' fo' op' ct' lk' dn', post n (gc', gk', gb, th, up, co, ca, cl, ex, pl', fi, la, bw, pr, av, cn', pa', us', fo', op', ct', lk', dn', gp, rs, cf, qu, en, lo, ab, tr)) → wpX_settle post (gc, gk, gb, th, up, co, ca, cl, ex, pl, fi, la, bw, pr, av, cn, pa, us, fo, op, ct, lk, dn, gp, rs, cf, qu, en, lo, ab, tr)) ∧
    (∀ yn yl yk pt bs (post : Int32 → SY → Prop), (∀ yn' yl' yk' pt' bs', post n (yn', yl', yk', th, co, ca, cl, up, ex, ed, bw, pr, av, le', pa', pt', bs')) → wpY_settle post (yn, yl, yk, th, co, ca, cl, up, ex, ed, bw, pr, av, le, pa, pt, bs)) := by
  have hT1 := sa_Tdrop hT (st_V th up cl av (tn_ov le pa))
  have hM1 : sa_MP th up cl av (st_k (st_V th up cl av (tn_ov le pa)) le 8) pa := sa_MPdrop hT
  obtain ⟨pl2, le2, r1, r2, r3, r4, r5, d, r6⟩ := sb_unload (th := th) hB hR hK _ _ _ rfl hT1
  obtain ⟨pl', cn', us', pa', le', o1, o2, o3, ⟨NX, oX⟩, ⟨NY, oY⟩⟩ := sc_loop (th := th) (up := up) (cl := cl) (av := av) (co := co) hB hR hK hw hf hg hE 4000 pl2 _ _ _ le2 (by omega) r1 r2 (sa_MPsub hM1 (fun t ht => by
    rcases r3 t ht with e | e
    · exact Or.inl e.2
    · exact Or.inr e.2))
  refine ⟨nI (st_cnt pl' 8), pl', cn', us', pa', le', o1, o2, o3, ?_, ?_⟩
  · intro gc gk gb fo op ct lk dn gp rs cf qu en lo ab tr post hpost
    unfold wpX_settle
    refine xs_drop (tn_XOof hT) (sc_unl hB hR hK hT1 (fun r hr => r5 _ _ _ _ _ _ _ _ _ _ _ _ _ _ _ _ _ ?_ 0 r (by have := sc_cnt8 (st_k (st_V th up cl av (tn_ov le pa)) pl 8); omega) hr))
    exact Exists.intro NX (oX 0 _ _ _ _ _ _ _ _ _ _ _ _ _ _ _ _ post (Nat.zero_le _) hpost)
  · intro yn yl yk pt bs post hpost
    unfold wpY_settle
    exact yd_drop (tn_YOof hT) (Exists.intro (NY + d) (r6 _ _ _ _ _ post NY (oY _ _ _ _ _ post hpost)))
end SC
end
section
section REL
/-! codes, ends, terms, tunnels of both sides -/
variable {gc gk gb : Int32} {th up co ca cl ex pl fi la bw pr av cn pa fo op ct lk dn gp rs cf qu en lo ab tr : Nat → Int32} {us : Nat → Int64}
variable {yn yl yk : Int32} {ed le pt bs : Nat → Int32}
def rl_code (x : Int32) : Prop := ∃ c, c < 36 ∧ c / 6 < c % 6 ∧ x = nI c
def rl_ends (x : Int32) : Prop := ∃ s d, s < 6 ∧ d < 6 ∧ s ≠ d ∧ x = nI (6 * s + d)
def rl_lim (n : Nat) (x : Int32) : Prop := ∃ t, t < n ∧ x = nI t
theorem rl_lt {x : Int32} {n : Nat} (hn : n < 2 ^ 31) (h0 : ¬ x < 0) (h : ¬ nI n ≤ x) : ∃ j, j < n ∧ x = nI j := by
  obtain ⟨j, j31, rfl⟩ := nI_of h0
  refine ⟨j, ?_, rfl⟩
  rcases Nat.lt_or_ge j n with z | z
  · exact z
  · exact absurd (nI_le (a := n) z (by omega)) h
theorem rl_le {x : Int32} {n : Nat} (hn : n < 2 ^ 31) (h0 : ¬ x < 0) (h : ¬ nI n < x) : ∃ j, j < n + 1 ∧ x = nI j := by
  obtain ⟨j, j31, rfl⟩ := nI_of h0
  refine ⟨j, ?_, rfl⟩
  rcases Nat.lt_or_ge n j with z | z
  · exact absurd (nI_lt (a := n) z (by omega)) h
  · omega
theorem rl_c1 {post : Int32 → Prop} {c : Nat} (c36 : c < 36) (cc : c / 6 < c % 6) (h : post 1) : wpX_isCode post (nI c) := xa_isCode c36 (fun _ => h) (fun z => absurd cc z)
theorem rl_c0 {post : Int32 → Prop} {x : Int32} (hn : ¬ rl_code x) (h : post 0) : wpX_isCode post x := by
  refine br_c (fun _ => h) (fun h0 => br_c (fun _ => h) (fun h36 => And.intro aa_6n (And.intro aa_6n ?_)))
  obtain ⟨j, j36, rfl⟩ := rl_lt (n := 36) (by omega) h0 h36
  rw [aa_mod6 (by omega), aa_div6 (by omega)]
  exact pk_le (j % 6) (j / 6) (fun _ => h) (fun z => absurd ⟨j, j36, z, rfl⟩ hn)
theorem rl_b0 {post : Int32 → Prop} {c : Nat} (c36 : c < 36) (cc : c / 6 < c % 6) (h : post 0) : wpY_badCode post (yn, yl, yk, th, co, ca, cl, up, ex, ed, bw, pr, av, le, pa, pt, bs) (nI c) := by
  refine br_f (nI_pos (by omega)) (br_f (nI_nlt (a := 35) (b := c) (by omega) (by omega)) (And.intro aa_6n (And.intro aa_6n ?_)))
  rw [aa_mod6 (by omega), aa_div6 (by omega)]
  exact br_t (nI_lt cc (by omega)) h
theorem rl_b1 {post : Int32 → Prop} {x : Int32} (hn : ¬ rl_code x) (h : post 1) : wpY_badCode post (yn, yl, yk, th, co, ca, cl, up, ex, ed, bw, pr, av, le, pa, pt, bs) x := by
  refine br_c (fun _ => h) (fun h0 => br_c (fun _ => h) (fun h36 => And.intro aa_6n (And.intro aa_6n ?_)))
  obtain ⟨j, j36, rfl⟩ := rl_le (n := 35) (by omega) h0 h36
  rw [aa_mod6 (by omega), aa_div6 (by omega)]
  exact pk_lt (j / 6) (j % 6) (fun z => absurd ⟨j, j36, z, rfl⟩ hn) (fun _ => h)
theorem rl_e1 {post : Int32 → Prop} {s d : Nat} (hs : s < 6) (hd : d < 6) (hn : s ≠ d) (h : post 1) : wpX_areEnds post (nI (6 * s + d)) := by
  refine br_f (nI_pos (by omega)) (br_f (nI_ge (b := 36) (by omega) (by omega)) (And.intro aa_6n (And.intro aa_6n ?_)))
  rw [aa_mod6 (by omega), aa_div6 (by omega), (fl_d hd).1, (fl_d hd).2]
  exact br_f (fun z => hn ((nI_eq (by omega) (by omega)).mp z)) h
theorem rl_e0 {post : Int32 → Prop} {x : Int32} (hn : ¬ rl_ends x) (h : post 0) : wpX_areEnds post x := by
  refine br_c (fun _ => h) (fun h0 => br_c (fun _ => h) (fun h36 => And.intro aa_6n (And.intro aa_6n ?_)))
  obtain ⟨j, j36, rfl⟩ := rl_lt (n := 36) (by omega) h0 h36
  rw [aa_mod6 (by omega), aa_div6 (by omega)]
  exact pk_eq (j / 6) (j % 6) (fun _ => h) (fun z => absurd ⟨j / 6, j % 6, by omega, by omega, z, by rw [show 6 * (j / 6) + j % 6 = j by omega]⟩ hn)
theorem rl_f0 {post : Int32 → Prop} {s d : Nat} (hs : s < 6) (hd : d < 6) (hn : s ≠ d) (h : post 0) : wpY_badEnds post (yn, yl, yk, th, co, ca, cl, up, ex, ed, bw, pr, av, le, pa, pt, bs) (nI (6 * s + d)) := by
  refine br_f (nI_pos (by omega)) (br_f (nI_nlt (a := 35) (b := 6 * s + d) (by omega) (by omega)) (And.intro aa_6n (And.intro aa_6n ?_)))
  rw [aa_mod6 (by omega), aa_div6 (by omega), (fl_d hd).1, (fl_d hd).2]
  exact br_f (fun z => hn ((nI_eq (by omega) (by omega)).mp z)) h
theorem rl_f1 {post : Int32 → Prop} {x : Int32} (hn : ¬ rl_ends x) (h : post 1) : wpY_badEnds post (yn, yl, yk, th, co, ca, cl, up, ex, ed, bw, pr, av, le, pa, pt, bs) x := by
  refine br_c (fun _ => h) (fun h0 => br_c (fun _ => h) (fun h36 => And.intro aa_6n (And.intro aa_6n ?_)))
  obtain ⟨j, j36, rfl⟩ := rl_le (n := 35) (by omega) h0 h36
  rw [aa_mod6 (by omega), aa_div6 (by omega)]
  exact pk_eq (j / 6) (j % 6) (fun _ => h) (fun z => absurd ⟨j / 6, j % 6, by omega, by omega, z, by rw [show 6 * (j / 6) + j % 6 = j by omega]⟩ hn)
theorem rl_t1 {post : Int32 → Prop} {m : Nat} (hm : m < 32) (h : post 1) : wpX_areTerms post (nI m) := br_f (nI_pos (by omega)) (br_f (nI_ge (b := 32) (by omega) (by omega)) h)
theorem rl_t0 {post : Int32 → Prop} {x : Int32} (hn : ¬ rl_lim 32 x) (h : post 0) : wpX_areTerms post x := br_c (fun _ => h) (fun h0 => br_c (fun _ => h) (fun h32 => absurd (rl_lt (n := 32) (by omega) h0 h32) hn))
theorem rl_s0 {post : Int32 → Prop} {m : Nat} (hm : m < 32) (h : post 0) : wpY_badTerms post (yn, yl, yk, th, co, ca, cl, up, ex, ed, bw, pr, av, le, pa, pt, bs) (nI m) := br_f (nI_pos (by omega)) (br_t (nI_le (b := 31) (by omega) (by omega)) h)
theorem rl_leN {x : Int32} {n : Nat} (hn : n < 2 ^ 31) (h0 : ¬ x < 0) (h : x ≤ nI n) : rl_lim (n + 1) x := by
  obtain ⟨j, j31, rfl⟩ := nI_of h0
  rw [nI_leI j31 hn] at h
  exact ⟨j, by omega, rfl⟩
theorem rl_s1 {post : Int32 → Prop} {x : Int32} (hn : ¬ rl_lim 32 x) (h : post 1) : wpY_badTerms post (yn, yl, yk, th, co, ca, cl, up, ex, ed, bw, pr, av, le, pa, pt, bs) x := br_c (fun _ => h) (fun h0 => br_c (fun z => absurd (rl_leN (n := 31) (by omega) h0 z) hn) (fun _ => h))
theorem rl_u1 {post : Int32 → Prop} {t : Nat} (ht : t < 8) (h : post 1) : wpX_isTunnel post (nI t) := br_f (nI_pos (by omega)) (br_f (nI_ge (b := 8) (by omega) (by omega)) h)
theorem rl_u0 {post : Int32 → Prop} {x : Int32} (hn : ¬ rl_lim 8 x) (h : post 0) : wpX_isTunnel post x := br_c (fun _ => h) (fun h0 => br_c (fun _ => h) (fun h8 => absurd (rl_lt (n := 8) (by omega) h0 h8) hn))
theorem rl_v0 {post : Int32 → Prop} {t : Nat} (ht : t < 8) (h : post 0) : wpY_badTunnel post (yn, yl, yk, th, co, ca, cl, up, ex, ed, bw, pr, av, le, pa, pt, bs) (nI t) := br_f (nI_pos (by omega)) (br_t (nI_le (b := 7) (by omega) (by omega)) h)
theorem rl_v1 {post : Int32 → Prop} {x : Int32} (hn : ¬ rl_lim 8 x) (h : post 1) : wpY_badTunnel post (yn, yl, yk, th, co, ca, cl, up, ex, ed, bw, pr, av, le, pa, pt, bs) x := br_c (fun _ => h) (fun h0 => br_c (fun z => absurd (rl_leN (n := 7) (by omega) h0 z) hn) (fun _ => h))
/-! the relation -/
def rl_S (th co ca ex pl fi la bw pr cn pa ed le : Nat → Int32) (us : Nat → Int64) (w K B R f g : Nat → Nat) : Prop :=
  (∀ c, c < 36 → ¬ th c = 0 → c / 6 < c % 6) ∧ tn_v co w 36 20 ∧ tn_v ca K 36 100 ∧ tn_v bw B 8 100 ∧ tn_v pr R 8 3 ∧ tn_v fi f 8 5 ∧ tn_v la g 8 5 ∧ st_E ex ed B f g ∧ tn_T ex pl cn le pa us f g
def rl_R (th up co ca cl ex pl fi la bw pr av cn pa ed le : Nat → Int32) (us : Nat → Int64) : Prop :=
  ∃ w K B R f g : Nat → Nat, rl_S th co ca ex pl fi la bw pr cn pa ed le us w K B R f g ∧ sa_NO th le pa B R K ∧ sa_MP th up cl av le pa
def i_Rel (k : Nat) (u : SX) (v : SY) : Prop :=
  match u, v with
  | (gc, gk, gb, th, up, co, ca, cl, ex, pl, fi, la, bw, pr, av, cn, pa, us, fo, op, ct, lk, dn, gp, rs, cf, qu, en, lo, ab, tr), (_, _, _, th', co', ca', cl', up', ex', ed, bw', pr', av', le, pa', _, _) => th' = th ∧ co' = co ∧ ca' = ca ∧ cl' = cl ∧ up' = up ∧ ex' = ex ∧ bw' = bw ∧ pr' = pr ∧ av' = av ∧ pa' = pa ∧ rl_R th up co ca cl ex pl fi la bw pr av cn pa ed le us
theorem i_up {k : Nat} {u : SX} {v : SY} (h : i_Rel k u v) : i_Rel (k + 5) u v := h
theorem rl_in {k : Nat} (h : rl_R th up co ca cl ex pl fi la bw pr av cn pa ed le us) : i_Rel k (gc, gk, gb, th, up, co, ca, cl, ex, pl, fi, la, bw, pr, av, cn, pa, us, fo, op, ct, lk, dn, gp, rs, cf, qu, en, lo, ab, tr) (yn, yl, yk, th, co, ca, cl, up, ex, ed, bw, pr, av, le, pa, pt, bs) := And.intro rfl (And.intro rfl (And.intro rfl (And.intro rfl (And.intro rfl (And.intro rfl (And.intro rfl (And.intro rfl (And.intro rfl (And.intro rfl h)))))))))
theorem rl_el {k : Nat} {P : SX → SY → Prop} (h : ∀ (gc gk gb : Int32) (th up co ca cl ex pl fi la bw pr av cn pa : Nat → Int32) (us : Nat → Int64) (fo op ct lk dn gp rs cf qu en lo ab tr : Nat → Int32) (yn yl yk : Int32) (ed le pt bs : Nat → Int32), rl_R th up co ca cl ex pl fi la bw pr av cn pa ed le us → P (gc, gk, gb, th, up, co, ca, cl, ex, pl, fi, la, bw, pr, av, cn, pa, us, fo, op, ct, lk, dn, gp, rs, cf, qu, en, lo, ab, tr) (yn, yl, yk, th, co, ca, cl, up, ex, ed, bw, pr, av, le, pa, pt, bs)) : ∀ {u : SX} {v : SY}, i_Rel k u v → P u v
  | (gc, gk, gb, th, up, co, ca, cl, ex, pl, fi, la, bw, pr, av, cn, pa, us, fo, op, ct, lk, dn, gp, rs, cf, qu, en, lo, ab, tr), (yn, yl, yk, th', co', ca', cl', up', ex', ed, bw', pr', av', le, pa', pt, bs), I => by
    obtain ⟨e1, e2, e3, e4, e5, e6, e7, e8, e9, e10, hR⟩ := I
    subst e1 e2 e3 e4 e5 e6 e7 e8 e9 e10
    exact h _ _ _ _ _ _ _ _ _ _ _ _ _ _ _ _ _ _ _ _ _ _ _ _ _ _ _ _ _ _ _ _ _ _ _ _ _ _ hR
theorem i_vc0 : wpX_init (fun u => wpY_init (fun v => i_Rel 0 u v)) := by
  refine rl_in (k := 0) (yn := 0) (yl := 0) (yk := 0) (gc := 0) (gk := 0) (gb := 0) (fo := fun _ => 0) (op := fun _ => 0) (ct := fun _ => 0) (lk := fun _ => 0) (dn := fun _ => 0) (gp := fun _ => 0) (rs := fun _ => 0) (cf := fun _ => 0) (qu := fun _ => 0) (en := fun _ => 0) (lo := fun _ => 0) (ab := fun _ => 0) (tr := fun _ => 0) (pt := fun _ => 0) (bs := fun _ => 0) ⟨fun _ => 0, fun _ => 0, fun _ => 0, fun _ => 0, fun _ => 0, fun _ => 0, ⟨fun c _ h => absurd rfl h, fun _ _ => ⟨rfl, Nat.zero_le _⟩, fun _ _ => ⟨rfl, Nat.zero_le _⟩, fun _ _ => ⟨rfl, Nat.zero_le _⟩, fun _ _ => ⟨rfl, Nat.zero_le _⟩, fun _ _ => ⟨rfl, Nat.zero_le _⟩, fun _ _ => ⟨rfl, Nat.zero_le _⟩, fun t _ => ⟨rfl, fun h => absurd rfl h⟩, fun t _ => Or.inl ⟨rfl, rfl⟩⟩, fun c _ h => h.1 rfl, fun t c _ _ ho => ?_⟩
  rw [tn_ov0 rfl] at ho
  exact absurd ho (by decide)
theorem rl_settle {w K B R f g : Nat → Nat} (h : rl_S th co ca ex pl fi la bw pr cn pa ed le us w K B R f g) : ∃ n pl' cn' us' pa' le', rl_R th up co ca cl ex pl' fi la bw pr av cn' pa' ed le' us' ∧ tn_T ex pl' cn' le' pa' us' f g ∧
    (∀ gc gk gb fo op ct lk dn gp rs cf qu en lo ab tr (post : Int32 → SX → Prop), (∀ gc' gk' fo' op' ct' lk' dn', post n (gc', gk', gb, th, up, co, ca, cl, ex, pl', fi, la, bw, pr, av, cn', pa', us', fo', op', ct', lk', dn', gp, rs, cf, qu, en, lo, ab, tr)) → wpX_settle post (gc, gk, gb, th, up, co, ca, cl, ex, pl, fi, la, bw, pr, av, cn, pa, us, fo, op, ct, lk, dn, gp, rs, cf, qu, en, lo, ab, tr)) ∧
    (∀ yn yl yk pt bs (post : Int32 → SY → Prop), (∀ yn' yl' yk' pt' bs', post n (yn', yl', yk', th, co, ca, cl, up, ex, ed, bw, pr, av, le', pa', pt', bs')) → wpY_settle post (yn, yl, yk, th, co, ca, cl, up, ex, ed, bw, pr, av, le, pa, pt, bs)) := by
  obtain ⟨h1, h2, h3, h4, h5, h6, h7, h8, h9⟩ := h
  obtain ⟨n, pl', cn', us', pa', le', o1, o2, o3, oX, oY⟩ := sc_settle (th := th) (up := up) (cl := cl) (av := av) h4 h5 h3 h2 h6 h7 h8 h9
  exact ⟨n, pl', cn', us', pa', le', ⟨w, K, B, R, f, g, ⟨h1, h2, h3, h4, h5, h6, h7, h8, o1⟩, o2, o3⟩, o1, oX, oY⟩
end REL
end
section
section MA
/-! calls that look -/
variable {gc gk gb : Int32} {th up co ca cl ex pl fi la bw pr av cn pa fo op ct lk dn gp rs cf qu en lo ab tr : Nat → Int32} {us : Nat → Int64}
variable {yn yl yk : Int32} {ed le pt bs : Nat → Int32}
theorem ma_look (hR : rl_R th up co ca cl ex pl fi la bw pr av cn pa ed le us) (v1 v2 : Int32) : ∃ r, (∀ post : Int32 → Prop, post r → wpX_look post (gc, gk, gb, th, up, co, ca, cl, ex, pl, fi, la, bw, pr, av, cn, pa, us, fo, op, ct, lk, dn, gp, rs, cf, qu, en, lo, ab, tr) v1 v2) ∧ (∀ post : Int32 → Prop, post r → wpY_look post (yn, yl, yk, th, co, ca, cl, up, ex, ed, bw, pr, av, le, pa, pt, bs) v1 v2) := by
  obtain ⟨w, K, B, R, f, g, ⟨h1, h2, h3, h4, h5, h6, h7, h8, h9⟩, hN, hM⟩ := hR
  by_cases hc : rl_code v1
  · obtain ⟨c, c36, cc, rfl⟩ := hc
    have vi : vp_in (nI c) 36 := vp_in_nI c36 (by omega)
    have ec : (nI c).toNatClampNeg = c := nI_clamp (by omega)
    by_cases a : v2 < 0
    · exact ⟨-1, fun post h => by unfold wpX_look; exact rl_c1 c36 cc (br_f (by decide) (br_t a h)), fun post h => by unfold wpY_look; exact rl_b0 c36 cc (br_t rfl (br_t a h))⟩
    · by_cases b : v2 ≤ 4
      · obtain ⟨j, j5, rfl⟩ := rl_leN (n := 4) (by omega) a b
        by_cases t : th (nI c).toNatClampNeg = 0
        · exact ⟨-2, fun post h => by unfold wpX_look; exact rl_c1 c36 cc (br_f (by decide) (br_f a (br_t b (And.intro vi (br_t t h))))), fun post h => by unfold wpY_look; exact rl_b0 c36 cc (br_t rfl (br_f a (br_t b (And.intro vi (br_t t h)))))⟩
        · have hj : j = 0 ∨ j = 1 ∨ j = 2 ∨ j = 3 ∨ j = 4 := by omega
          rcases hj with rfl | rfl | rfl | rfl | rfl
          · exact ⟨co (nI c).toNatClampNeg, fun post h => by unfold wpX_look; exact rl_c1 c36 cc (br_f (by decide) (br_f a (br_t b (And.intro vi (br_f t (br_f (by decide) (br_t (by decide) (And.intro vi h)))))))), fun post h => by unfold wpY_look; exact rl_b0 c36 cc (br_t rfl (br_f a (br_t b (And.intro vi (br_f t (br_t (by decide) (And.intro vi h)))))))⟩
          · exact ⟨ca (nI c).toNatClampNeg, fun post h => by unfold wpX_look; exact rl_c1 c36 cc (br_f (by decide) (br_f a (br_t b (And.intro vi (br_f t (br_f (by decide) (br_f (by decide) (And.intro vi h)))))))), fun post h => by unfold wpY_look; exact rl_b0 c36 cc (br_t rfl (br_f a (br_t b (And.intro vi (br_f t (br_f (by decide) (br_t (by decide) (And.intro vi h))))))))⟩
          · exact ⟨cl (nI c).toNatClampNeg, fun post h => by unfold wpX_look; exact rl_c1 c36 cc (br_f (by decide) (br_f a (br_t b (And.intro vi (br_f t (br_t (by decide) (br_t (by decide) (And.intro vi h)))))))), fun post h => by unfold wpY_look; exact rl_b0 c36 cc (br_t rfl (br_f a (br_t b (And.intro vi (br_f t (br_f (by decide) (br_f (by decide) (br_t (by decide) (And.intro vi h)))))))))⟩
          · by_cases z : up (nI c).toNatClampNeg = 0
            · exact ⟨0, fun post h => by unfold wpX_look; exact rl_c1 c36 cc (br_f (by decide) (br_f a (br_t b (And.intro vi (br_f t (br_t (by decide) (br_f (by decide) (br_t (by decide) (And.intro vi (br_t z h)))))))))), fun post h => by unfold wpY_look; exact rl_b0 c36 cc (br_t rfl (br_f a (br_t b (And.intro vi (br_f t (br_f (by decide) (br_f (by decide) (br_f (by decide) (br_t (by decide) (And.intro vi (br_t z h)))))))))))⟩
            · exact ⟨1, fun post h => by unfold wpX_look; exact rl_c1 c36 cc (br_f (by decide) (br_f a (br_t b (And.intro vi (br_f t (br_t (by decide) (br_f (by decide) (br_t (by decide) (And.intro vi (br_f z h)))))))))), fun post h => by unfold wpY_look; exact rl_b0 c36 cc (br_t rfl (br_f a (br_t b (And.intro vi (br_f t (br_f (by decide) (br_f (by decide) (br_f (by decide) (br_t (by decide) (And.intro vi (br_f z h)))))))))))⟩
          · exact ⟨nI (tn_tk (tn_ov le pa) B R c 3 8), fun post h => by unfold wpX_look; exact rl_c1 c36 cc (br_f (by decide) (br_f a (br_t b (And.intro vi (br_f t (br_t (by decide) (br_f (by decide) (br_f (by decide) (xa_loadOf c36 (tn_XOof h9) h4 h5 h))))))))), fun post h => by unfold wpY_look; exact rl_b0 c36 cc (br_t rfl (br_f a (br_t b (And.intro vi (br_f t (br_f (by decide) (br_f (by decide) (br_f (by decide) (br_f (by decide) (ya_taken (p := 3) c36 (by omega) tn_bt8 (tn_YOof h9) h4 h5 h))))))))))⟩
      · exact ⟨-1, fun post h => by unfold wpX_look; exact rl_c1 c36 cc (br_f (by decide) (br_f a (br_f b h))), fun post h => by unfold wpY_look; exact rl_b0 c36 cc (br_t rfl (br_f a (br_f b h)))⟩
  · exact ⟨-1, fun post h => by unfold wpX_look; exact rl_c0 hc (br_t rfl h), fun post h => by unfold wpY_look; exact rl_b1 hc (br_f (by decide) h)⟩
theorem ma_room (hR : rl_R th up co ca cl ex pl fi la bw pr av cn pa ed le us) (v1 v2 : Int32) : ∃ r, (∀ post : Int32 → Prop, post r → wpX_room post (gc, gk, gb, th, up, co, ca, cl, ex, pl, fi, la, bw, pr, av, cn, pa, us, fo, op, ct, lk, dn, gp, rs, cf, qu, en, lo, ab, tr) v1 v2) ∧ (∀ post : Int32 → Prop, post r → wpY_room post (yn, yl, yk, th, co, ca, cl, up, ex, ed, bw, pr, av, le, pa, pt, bs) v1 v2) := by
  obtain ⟨w, K, B, R, f, g, ⟨h1, h2, h3, h4, h5, h6, h7, h8, h9⟩, hN, hM⟩ := hR
  by_cases hc : rl_code v1
  · obtain ⟨c, c36, cc, rfl⟩ := hc
    have vi : vp_in (nI c) 36 := vp_in_nI c36 (by omega)
    by_cases a : v2 < 0
    · exact ⟨-1, fun post h => by unfold wpX_room; exact rl_c1 c36 cc (br_f (by decide) (br_t a h)), fun post h => by unfold wpY_room; exact rl_b0 c36 cc (br_t rfl (br_t a h))⟩
    · by_cases b : v2 ≤ 3
      · obtain ⟨j, j5, rfl⟩ := rl_leN (n := 3) (by omega) a b
        by_cases t : th (nI c).toNatClampNeg = 0
        · exact ⟨-2, fun post h => by unfold wpX_room; exact rl_c1 c36 cc (br_f (by decide) (br_f a (br_t b (And.intro vi (br_t t h))))), fun post h => by unfold wpY_room; exact rl_b0 c36 cc (br_t rfl (br_f a (br_t b (And.intro vi (br_t t h)))))⟩
        · refine ⟨1000 + (nI (K c) - nI (tn_tk (tn_ov le pa) B R c j 8)), fun post h => by unfold wpX_room; exact rl_c1 c36 cc (br_f (by decide) (br_f a (br_t b (And.intro vi (br_f t (xa_roomFor c36 (by omega) tn_bt8 (tn_XOof h9) h4 h5 h3 h)))))), fun post h => by unfold wpY_room; exact rl_b0 c36 cc (br_t rfl (br_f a (br_t b (And.intro vi (br_f t (ya_roomOf c36 (by omega) tn_bt8 (tn_YOof h9) h4 h5 h3 (by rw [Int32.add_comm]; exact h)))))))⟩
      · exact ⟨-1, fun post h => by unfold wpX_room; exact rl_c1 c36 cc (br_f (by decide) (br_f a (br_f b h))), fun post h => by unfold wpY_room; exact rl_b0 c36 cc (br_t rfl (br_f a (br_f b h)))⟩
  · exact ⟨-1, fun post h => by unfold wpX_room; exact rl_c0 hc (br_t rfl h), fun post h => by unfold wpY_room; exact rl_b1 hc (br_f (by decide) h)⟩
/-- a tunnel: idle or placed -/
theorem ma_case {f g : Nat → Nat} {t : Nat} (h9 : tn_T ex pl cn le pa us f g) (ht : t < 8) : (pl (nI t).toNatClampNeg = 0 ∧ le (nI t).toNatClampNeg = nI 0) ∨ (¬ pl (nI t).toNatClampNeg = 0 ∧ ∃ L, 1 ≤ L ∧ L ≤ 5 ∧ le (nI t).toNatClampNeg = nI (L + 1) ∧ cn (nI t).toNatClampNeg = nI (L + 1)) := by
  rw [nI_clamp (by omega)]
  rcases h9 t ht with ⟨a, b⟩ | ⟨a, b, c, L, q, d, e⟩
  · exact Or.inl ⟨a, b⟩
  · exact Or.inr ⟨by rw [a]; decide, L, d.1, d.2.1, d.2.2.1, c.trans d.2.2.1⟩
theorem ma_state (hR : rl_R th up co ca cl ex pl fi la bw pr av cn pa ed le us) (v1 : Int32) : ∃ r, (∀ post : Int32 → Prop, post r → wpX_state post (gc, gk, gb, th, up, co, ca, cl, ex, pl, fi, la, bw, pr, av, cn, pa, us, fo, op, ct, lk, dn, gp, rs, cf, qu, en, lo, ab, tr) v1) ∧ (∀ post : Int32 → Prop, post r → wpY_state post (yn, yl, yk, th, co, ca, cl, up, ex, ed, bw, pr, av, le, pa, pt, bs) v1) := by
  obtain ⟨w, K, B, R, f, g, ⟨h1, h2, h3, h4, h5, h6, h7, h8, h9⟩, hN, hM⟩ := hR
  by_cases ht : rl_lim 8 v1
  · obtain ⟨t, t8, rfl⟩ := ht
    have vi : vp_in (nI t) 8 := vp_in_nI t8 (by omega)
    by_cases a : ex (nI t).toNatClampNeg = 0
    · exact ⟨0, fun post h => by unfold wpX_state; exact rl_u1 t8 (br_f (by decide) (And.intro vi (br_t a h))), fun post h => by unfold wpY_state; exact rl_v0 t8 (br_t rfl (And.intro vi (br_t a h)))⟩
    · rcases ma_case h9 t8 with ⟨p, l⟩ | ⟨p, L, L1, L5, l, _⟩
      · exact ⟨1, fun post h => by unfold wpX_state; exact rl_u1 t8 (br_f (by decide) (And.intro vi (br_f a (And.intro vi (br_t p h))))), fun post h => by unfold wpY_state; exact rl_v0 t8 (br_t rfl (And.intro vi (br_f a (And.intro vi (br_t (by rw [l]; decide) h)))))⟩
      · exact ⟨2, fun post h => by unfold wpX_state; exact rl_u1 t8 (br_f (by decide) (And.intro vi (br_f a (And.intro vi (br_f p h))))), fun post h => by unfold wpY_state; exact rl_v0 t8 (br_t rfl (And.intro vi (br_f a (And.intro vi (br_f (by rw [l]; exact nI_nle (by omega) (by omega)) h)))))⟩
  · exact ⟨-1, fun post h => by unfold wpX_state; exact rl_u0 ht (br_t rfl h), fun post h => by unfold wpY_state; exact rl_v1 ht (br_f (by decide) h)⟩
theorem ma_node (hR : rl_R th up co ca cl ex pl fi la bw pr av cn pa ed le us) (v1 v2 : Int32) : ∃ r, (∀ post : Int32 → Prop, post r → wpX_node post (gc, gk, gb, th, up, co, ca, cl, ex, pl, fi, la, bw, pr, av, cn, pa, us, fo, op, ct, lk, dn, gp, rs, cf, qu, en, lo, ab, tr) v1 v2) ∧ (∀ post : Int32 → Prop, post r → wpY_node post (yn, yl, yk, th, co, ca, cl, up, ex, ed, bw, pr, av, le, pa, pt, bs) v1 v2) := by
  obtain ⟨w, K, B, R, f, g, ⟨h1, h2, h3, h4, h5, h6, h7, h8, h9⟩, hN, hM⟩ := hR
  by_cases ht : rl_lim 8 v1
  · obtain ⟨t, t8, rfl⟩ := ht
    have vi : vp_in (nI t) 8 := vp_in_nI t8 (by omega)
    rcases ma_case h9 t8 with ⟨p, l⟩ | ⟨p, L, L1, L5, l, lc⟩
    · by_cases a : v2 < 0
      · exact ⟨-2, fun post h => by unfold wpX_node; exact rl_u1 t8 (br_f (by decide) (And.intro vi (br_t p h))), fun post h => by unfold wpY_node; exact rl_v0 t8 (br_t rfl (br_t a h))⟩
      · exact ⟨-2, fun post h => by unfold wpX_node; exact rl_u1 t8 (br_f (by decide) (And.intro vi (br_t p h))), fun post h => by unfold wpY_node; exact rl_v0 t8 (br_t rfl (br_f a (And.intro vi (br_f (by rw [l]; exact a) h))))⟩
    · by_cases a : v2 < 0
      · exact ⟨-2, fun post h => by unfold wpX_node; exact rl_u1 t8 (br_f (by decide) (And.intro vi (br_f p (br_t a h)))), fun post h => by unfold wpY_node; exact rl_v0 t8 (br_t rfl (br_t a h))⟩
      · by_cases b : v2 < nI (L + 1)
        · obtain ⟨j, j31, rfl⟩ := nI_of a
          rw [nI_ltI j31 (by omega)] at b
          have b' := nI_lt b (by omega)
          have vj : vp_in (6 * nI t + nI j) 48 := by rw [aa_6]; exact vp_in_nI (by omega) (by omega)
          exact ⟨pa (6 * nI t + nI j).toNatClampNeg, fun post h => by unfold wpX_node; exact rl_u1 t8 (br_f (by decide) (And.intro vi (br_f p (br_f a (And.intro vi (br_t (by rw [lc]; exact b') (And.intro vj h))))))), fun post h => by unfold wpY_node; exact rl_v0 t8 (br_t rfl (br_f a (And.intro vi (br_t (by rw [l]; exact b') (And.intro vj h)))))⟩
        · exact ⟨-2, fun post h => by unfold wpX_node; exact rl_u1 t8 (br_f (by decide) (And.intro vi (br_f p (br_f a (And.intro vi (br_f (by rw [lc]; exact b) h)))))), fun post h => by unfold wpY_node; exact rl_v0 t8 (br_t rfl (br_f a (And.intro vi (br_f (by rw [l]; exact b) h))))⟩
  · exact ⟨-1, fun post h => by unfold wpX_node; exact rl_u0 ht (br_t rfl h), fun post h => by unfold wpY_node; exact rl_v1 ht (br_f (by decide) h)⟩
end MA
end
section
section MB
/-! costs, counts; calls on links -/
variable {gc gk gb : Int32} {th up co ca cl ex pl fi la bw pr av cn pa fo op ct lk dn gp rs cf qu en lo ab tr : Nat → Int32} {us : Nat → Int64}
variable {yn yl yk : Int32} {ed le pt bs : Nat → Int32}
variable {w : Nat → Nat} {ov : Nat → Nat → Bool}
def mb_cs (ov : Nat → Nat → Bool) (w : Nat → Nat) (t : Nat) : Nat → Nat := aa_sm (fun c => if ov t c = true then w c else 0)
theorem mb_costX {post : Int32 → Prop} {t : Nat} (ht : t < 8) (hO : tn_XO pl us ov) (hw : tn_v co w 36 20) (h : post (nI (mb_cs ov w t 36))) : ∀ d i, i + d = 36 → wX_costOf_4 post (nI t) gc gk gb th up co ca cl ex pl fi la bw pr av cn pa us fo op ct lk dn gp rs cf qu en lo ab tr (d + 1) (nI (mb_cs ov w t i)) (nI i) := by
  intro d
  induction d with
  | zero =>
    intro i hi
    have e : i = 36 := by omega
    subst e
    exact br_t (nI_le (a := 36) (by omega) (by omega)) h
  | succ d ih =>
    intro i hi
    have nx := ih (i + 1) (by omega)
    refine br_f (nI_ge (b := 36) (by omega) (by omega)) (xa_isOver ht (by omega) hO (fun ho => br_f (by decide) (And.intro (vp_in_nI (by omega) (by omega)) (nm_r (e' := nI (mb_cs ov w t (i + 1))) ?_ (nm_r (nI_1 i) nx)))) (fun ho => br_t rfl (nm_r (e' := nI (mb_cs ov w t (i + 1))) ?_ (nm_r (nI_1 i) nx))))
    · unfold mb_cs
      rw [nI_clamp (by omega), (hw i (by omega)).1, nI_add, aa_sms, if_pos ho]
    · unfold mb_cs
      rw [aa_add0, aa_sms, if_neg (by rw [ho]; decide), Nat.add_zero]
theorem mb_costOf {post : Int32 → Prop} {t : Nat} (ht : t < 8) (hO : tn_XO pl us ov) (hw : tn_v co w 36 20) (h : post (nI (mb_cs ov w t 36))) : wpX_costOf post (gc, gk, gb, th, up, co, ca, cl, ex, pl, fi, la, bw, pr, av, cn, pa, us, fo, op, ct, lk, dn, gp, rs, cf, qu, en, lo, ab, tr) (nI t) :=
  Exists.intro 37 (mb_costX ht hO hw h 36 0 rfl)
theorem mb_costY {post : Int32 → Prop} {t : Nat} (ht : t < 8) (hY : tn_YO le pa) (hw : tn_v co w 36 20) (h : post (nI (mb_cs (tn_ov le pa) w t 36))) : ∀ d i, i + d = 36 → wY_cost_26 post (nI t) yn yl yk th co ca cl up ex ed bw pr av le pa pt bs (d + 1) (nI (mb_cs (tn_ov le pa) w t i)) (nI i) := by
  intro d
  induction d with
  | zero =>
    intro i hi
    have e : i = 36 := by omega
    subst e
    exact br_t (nI_le (a := 36) (by omega) (by omega)) h
  | succ d ih =>
    intro i hi
    have nx := ih (i + 1) (by omega)
    refine br_f (nI_ge (b := 36) (by omega) (by omega)) (ya_isOver ht (by omega) hY (fun ho => br_f (by decide) (And.intro (vp_in_nI (by omega) (by omega)) (nm_r (e' := nI (mb_cs (tn_ov le pa) w t (i + 1))) ?_ (nm_r (nI_1 i) nx)))) (fun ho => br_t rfl (nm_r (nI_1 i) ?_)))
    · unfold mb_cs
      rw [nI_clamp (by omega), (hw i (by omega)).1, nI_add, aa_sms, if_pos ho]
    · unfold mb_cs at nx ⊢
      rw [aa_sms, if_neg (by rw [ho]; decide), Nat.add_zero] at nx
      exact nx
theorem ma_cost (hR : rl_R th up co ca cl ex pl fi la bw pr av cn pa ed le us) (v1 : Int32) : ∃ r, (∀ post : Int32 → Prop, post r → wpX_cost post (gc, gk, gb, th, up, co, ca, cl, ex, pl, fi, la, bw, pr, av, cn, pa, us, fo, op, ct, lk, dn, gp, rs, cf, qu, en, lo, ab, tr) v1) ∧ (∀ post : Int32 → Prop, post r → wpY_cost post (yn, yl, yk, th, co, ca, cl, up, ex, ed, bw, pr, av, le, pa, pt, bs) v1) := by
  obtain ⟨w, K, B, R, f, g, ⟨h1, h2, h3, h4, h5, h6, h7, h8, h9⟩, hN, hM⟩ := hR
  by_cases ht : rl_lim 8 v1
  · obtain ⟨t, t8, rfl⟩ := ht
    have vi : vp_in (nI t) 8 := vp_in_nI t8 (by omega)
    rcases ma_case h9 t8 with ⟨p, l⟩ | ⟨p, L, L1, L5, l, lc⟩
    · exact ⟨-2, fun post h => by unfold wpX_cost; exact rl_u1 t8 (br_f (by decide) (And.intro vi (br_t p h))), fun post h => by unfold wpY_cost; exact rl_v0 t8 (br_t rfl (And.intro vi (br_t l h)))⟩
    · exact ⟨nI (mb_cs (tn_ov le pa) w t 36), fun post h => by unfold wpX_cost; exact rl_u1 t8 (br_f (by decide) (And.intro vi (br_f p (mb_costOf t8 (tn_XOof h9) h2 h)))), fun post h => by unfold wpY_cost; exact rl_v0 t8 (br_t rfl (And.intro vi (br_f (by rw [l]; exact nI_ne0 (by omega) (by omega)) (Exists.intro 37 (mb_costY t8 (tn_YOof h9) h2 h 36 0 rfl)))))⟩
  · exact ⟨-1, fun post h => by unfold wpX_cost; exact rl_u0 ht (br_t rfl h), fun post h => by unfold wpY_cost; exact rl_v1 ht (br_f (by decide) h)⟩
def mb_n (ov : Nat → Nat → Bool) (c : Nat) : Nat → Nat := aa_sm (fun t => if ov t c = true then 1 else 0)
theorem mb_overX {post : Int32 → Prop} {c : Nat} (hc : c < 36) (hO : tn_XO pl us ov) (h : post (nI (mb_n ov c 8))) : ∀ d i, i + d = 8 → wX_over_17 post (nI c) gc gk gb th up co ca cl ex pl fi la bw pr av cn pa us fo op ct lk dn gp rs cf qu en lo ab tr (d + 1) (nI (mb_n ov c i)) (nI i) := by
  intro d
  induction d with
  | zero =>
    intro i hi
    have e : i = 8 := by omega
    subst e
    exact br_t (nI_le (a := 8) (by omega) (by omega)) h
  | succ d ih =>
    intro i hi
    have nx := ih (i + 1) (by omega)
    refine br_f (nI_ge (b := 8) (by omega) (by omega)) (xa_isOver (by omega) hc hO (fun ho => br_f (by decide) (nm_r (e' := nI (mb_n ov c (i + 1))) ?_ (nm_r (nI_1 i) nx))) (fun ho => br_t rfl (nm_r (e' := nI (mb_n ov c (i + 1))) ?_ (nm_r (nI_1 i) nx))))
    · unfold mb_n
      rw [nI_1, aa_sms, if_pos ho]
    · unfold mb_n
      rw [aa_add0, aa_sms, if_neg (by rw [ho]; decide), Nat.add_zero]
theorem mb_overY {post : Int32 → Prop} {c : Nat} (hc : c < 36) (hY : tn_YO le pa) (h : post (nI (mb_n (tn_ov le pa) c 8))) : ∀ d i, i + d = 8 → wY_over_26 post (nI c) yn yl yk th co ca cl up ex ed bw pr av le pa pt bs (d + 1) (nI (mb_n (tn_ov le pa) c i)) (nI i) := by
  intro d
  induction d with
  | zero =>
    intro i hi
    have e : i = 8 := by omega
    subst e
    exact br_t (nI_le (a := 8) (by omega) (by omega)) h
  | succ d ih =>
    intro i hi
    have nx := ih (i + 1) (by omega)
    refine br_f (nI_ge (b := 8) (by omega) (by omega)) (ya_isOver (by omega) hc hY (fun ho => br_f (by decide) (nm_r (e' := nI (mb_n (tn_ov le pa) c (i + 1))) ?_ (nm_r (nI_1 i) nx))) (fun ho => br_t rfl (nm_r (nI_1 i) ?_)))
    · unfold mb_n
      rw [nI_1, aa_sms, if_pos ho]
    · unfold mb_n at nx ⊢
      rw [aa_sms, if_neg (by rw [ho]; decide), Nat.add_zero] at nx
      exact nx
theorem mb_tr1 {post : Int32 → Prop} {x : Int32} (hn : ¬ rl_code x) (h : post (-1)) : wpX_trouble post (gc, gk, gb, th, up, co, ca, cl, ex, pl, fi, la, bw, pr, av, cn, pa, us, fo, op, ct, lk, dn, gp, rs, cf, qu, en, lo, ab, tr) x := by
  unfold wpX_trouble; exact rl_c0 hn (br_t rfl h)
theorem mb_tr2 {post : Int32 → Prop} {c : Nat} (c36 : c < 36) (cc : c / 6 < c % 6) (t : th (nI c).toNatClampNeg = 0) (h : post (-2)) : wpX_trouble post (gc, gk, gb, th, up, co, ca, cl, ex, pl, fi, la, bw, pr, av, cn, pa, us, fo, op, ct, lk, dn, gp, rs, cf, qu, en, lo, ab, tr) (nI c) := by
  unfold wpX_trouble; exact rl_c1 c36 cc (br_f (by decide) (And.intro (vp_in_nI c36 (by omega)) (br_t t h)))
theorem mb_tr0 {post : Int32 → Prop} {c : Nat} (c36 : c < 36) (cc : c / 6 < c % 6) (t : ¬ th (nI c).toNatClampNeg = 0) (h : post 0) : wpX_trouble post (gc, gk, gb, th, up, co, ca, cl, ex, pl, fi, la, bw, pr, av, cn, pa, us, fo, op, ct, lk, dn, gp, rs, cf, qu, en, lo, ab, tr) (nI c) := by
  unfold wpX_trouble; exact rl_c1 c36 cc (br_f (by decide) (And.intro (vp_in_nI c36 (by omega)) (br_f t h)))
theorem ma_over (hR : rl_R th up co ca cl ex pl fi la bw pr av cn pa ed le us) (v1 : Int32) : ∃ r, (∀ post : Int32 → Prop, post r → wpX_over post (gc, gk, gb, th, up, co, ca, cl, ex, pl, fi, la, bw, pr, av, cn, pa, us, fo, op, ct, lk, dn, gp, rs, cf, qu, en, lo, ab, tr) v1) ∧ (∀ post : Int32 → Prop, post r → wpY_over post (yn, yl, yk, th, co, ca, cl, up, ex, ed, bw, pr, av, le, pa, pt, bs) v1) := by
  obtain ⟨w, K, B, R, f, g, ⟨h1, h2, h3, h4, h5, h6, h7, h8, h9⟩, hN, hM⟩ := hR
  by_cases hc : rl_code v1
  · obtain ⟨c, c36, cc, rfl⟩ := hc
    have vi : vp_in (nI c) 36 := vp_in_nI c36 (by omega)
    by_cases t : th (nI c).toNatClampNeg = 0
    · exact ⟨-2, fun post h => by unfold wpX_over; exact mb_tr2 c36 cc t (br_f (by decide) h), fun post h => by unfold wpY_over; exact rl_b0 c36 cc (br_t rfl (And.intro vi (br_t t h)))⟩
    · exact ⟨nI (mb_n (tn_ov le pa) c 8), fun post h => by unfold wpX_over; exact mb_tr0 c36 cc t (br_t (by decide) (Exists.intro 9 (mb_overX c36 (tn_XOof h9) h 8 0 rfl))), fun post h => by unfold wpY_over; exact rl_b0 c36 cc (br_t rfl (And.intro vi (br_f t (Exists.intro 9 (mb_overY c36 (tn_YOof h9) h 8 0 rfl)))))⟩
  · exact ⟨-1, fun post h => by unfold wpX_over; exact mb_tr1 hc (br_f (by decide) h), fun post h => by unfold wpY_over; exact rl_b1 hc (br_f (by decide) h)⟩
/-! ranges, stores -/
theorem mb_vu {a : Nat → Int32} {b : Nat → Nat} {n m i v : Nat} (h : tn_v a b n m) (hv : v ≤ m) : tn_v (upd a i (nI v)) (df_u b i v) n m := by
  intro t ht
  by_cases e : t = i
  · subst e; rw [pk_us, df_us]; exact ⟨rfl, hv⟩
  · rw [pk_un e, df_un e]; exact h t ht
theorem mb_rg {x : Int32} {a b : Nat} (ha : a < 2 ^ 31) (hb : b < 2 ^ 31) (h1 : ¬ x < nI a) (h2 : ¬ nI b < x) : ∃ j, a ≤ j ∧ j ≤ b ∧ x = nI j := by
  have h0 : ¬ x < 0 := by
    intro z
    rw [Int32.lt_iff_toInt_lt] at z h1
    rw [nI_toInt ha] at h1
    rw [show (0 : Int32).toInt = 0 from rfl] at z
    omega
  obtain ⟨j, j31, rfl⟩ := nI_of h0
  rw [nI_ltI j31 ha] at h1
  rw [nI_ltI hb j31] at h2
  exact ⟨j, by omega, by omega, rfl⟩
theorem mb_code {c : Nat} {v : Int32} (cc : c / 6 < c % 6) (h : ∀ c, c < 36 → ¬ th c = 0 → c / 6 < c % 6) : ∀ c', c' < 36 → ¬ upd th c v c' = 0 → c' / 6 < c' % 6 := by
  intro c' h' hn
  by_cases e : c' = c
  · rw [e]; exact cc
  · rw [pk_un e] at hn; exact h c' h' hn
theorem mb_link (hR : rl_R th up co ca cl ex pl fi la bw pr av cn pa ed le us) (v1 v2 v3 : Int32) : ∃ r th' up' co' ca' cl' pl' cn' pa' us' le', rl_R th' up' co' ca' cl' ex pl' fi la bw pr av cn' pa' ed le' us' ∧
    (∀ post : Int32 → SX → Prop, (∀ gc' gk' fo' op' ct' lk' dn', post r (gc', gk', gb, th', up', co', ca', cl', ex, pl', fi, la, bw, pr, av, cn', pa', us', fo', op', ct', lk', dn', gp, rs, cf, qu, en, lo, ab, tr)) → wpX_link post (gc, gk, gb, th, up, co, ca, cl, ex, pl, fi, la, bw, pr, av, cn, pa, us, fo, op, ct, lk, dn, gp, rs, cf, qu, en, lo, ab, tr) v1 v2 v3) ∧
    (∀ post : Int32 → SY → Prop, (∀ yn' yl' yk' pt' bs', post r (yn', yl', yk', th', co', ca', cl', up', ex, ed, bw, pr, av, le', pa', pt', bs')) → wpY_link post (yn, yl, yk, th, co, ca, cl, up, ex, ed, bw, pr, av, le, pa, pt, bs) v1 v2 v3) := by
  by_cases hc : rl_code v1
  · obtain ⟨c, c36, cc, rfl⟩ := hc
    have vi : vp_in (nI c) 36 := vp_in_nI c36 (by omega)
    have ec : (nI c).toNatClampNeg = c := nI_clamp (by omega)
    by_cases a1 : v2 < 1
    · exact ⟨-1, _, _, _, _, _, _, _, _, _, _, hR, fun post h => by unfold wpX_link; exact rl_c1 c36 cc (br_f (by decide) (br_t a1 (h _ _ _ _ _ _ _))), fun post h => by unfold wpY_link; exact rl_b0 c36 cc (br_t rfl (br_t a1 (h _ _ _ _ _)))⟩
    by_cases a2 : 20 < v2
    · exact ⟨-1, _, _, _, _, _, _, _, _, _, _, hR, fun post h => by unfold wpX_link; exact rl_c1 c36 cc (br_f (by decide) (br_f a1 (br_t a2 (h _ _ _ _ _ _ _)))), fun post h => by unfold wpY_link; exact rl_b0 c36 cc (br_t rfl (br_f a1 (br_t a2 (h _ _ _ _ _))))⟩
    by_cases a3 : v3 < 0
    · exact ⟨-1, _, _, _, _, _, _, _, _, _, _, hR, fun post h => by unfold wpX_link; exact rl_c1 c36 cc (br_f (by decide) (br_f a1 (br_f a2 (br_t a3 (h _ _ _ _ _ _ _))))), fun post h => by unfold wpY_link; exact rl_b0 c36 cc (br_t rfl (br_f a1 (br_f a2 (br_t a3 (h _ _ _ _ _)))))⟩
    by_cases a4 : v3 ≤ 100
    · by_cases t : th (nI c).toNatClampNeg = 0
      · obtain ⟨j, j1, j2, e2⟩ := mb_rg (a := 1) (b := 20) (by omega) (by omega) a1 a2
        obtain ⟨m, m1, e3⟩ := rl_leN (n := 100) (by omega) a3 a4
        obtain ⟨w, K, B, R, f, g, ⟨h1, h2, h3, h4, h5, h6, h7, h8, h9⟩, hN, hM⟩ := hR
        obtain ⟨n, pl', cn', us', pa', le', o1, _, oX, oY⟩ := rl_settle (up := upd up c 1) (cl := upd cl c 0) (av := av) (th := upd th c 1) (co := upd co c (nI j)) (ca := upd ca c (nI m)) ⟨mb_code cc h1, mb_vu h2 j2, mb_vu h3 (show m ≤ 100 by omega), h4, h5, h6, h7, h8, h9⟩
        refine ⟨n, _, _, _, _, _, pl', cn', pa', us', le', o1, fun post h => ?_, fun post h => ?_⟩
        · unfold wpX_link
          exact rl_c1 c36 cc (br_f (by decide) (br_f a1 (br_f a2 (br_f a3 (br_t a4 (And.intro vi (br_t t (And.intro vi (nm_r (e' := upd th c 1) (by rw [ec, aa_b1]) (And.intro vi (nm_r (e' := upd up c 1) (by rw [ec, aa_b1]) (And.intro vi (nm_r (e' := upd co c (nI j)) (by rw [ec, e2]) (And.intro vi (nm_r (e' := upd ca c (nI m)) (by rw [ec, e3]) (And.intro vi (nm_r (e' := upd cl c 0) (by rw [ec]) (oX _ _ _ _ _ _ _ _ _ _ _ _ _ _ _ _ _ h))))))))))))))))))
        · unfold wpY_link
          exact rl_b0 c36 cc (br_t rfl (br_f a1 (br_f a2 (br_f a3 (br_t a4 (And.intro vi (br_t t (And.intro vi (nm_r (e' := upd th c 1) (by rw [ec, aa_b1]) (And.intro vi (nm_r (e' := upd co c (nI j)) (by rw [ec, e2]) (And.intro vi (nm_r (e' := upd ca c (nI m)) (by rw [ec, e3]) (And.intro vi (nm_r (e' := upd cl c 0) (by rw [ec]) (And.intro vi (nm_r (e' := upd up c 1) (by rw [ec, aa_b1]) (oY _ _ _ _ _ _ h))))))))))))))))))
      · exact ⟨-3, _, _, _, _, _, _, _, _, _, _, hR, fun post h => by unfold wpX_link; exact rl_c1 c36 cc (br_f (by decide) (br_f a1 (br_f a2 (br_f a3 (br_t a4 (And.intro vi (br_f t (h _ _ _ _ _ _ _)))))))), fun post h => by unfold wpY_link; exact rl_b0 c36 cc (br_t rfl (br_f a1 (br_f a2 (br_f a3 (br_t a4 (And.intro vi (br_f t (h _ _ _ _ _))))))))⟩
    · exact ⟨-1, _, _, _, _, _, _, _, _, _, _, hR, fun post h => by unfold wpX_link; exact rl_c1 c36 cc (br_f (by decide) (br_f a1 (br_f a2 (br_f a3 (br_f a4 (h _ _ _ _ _ _ _)))))), fun post h => by unfold wpY_link; exact rl_b0 c36 cc (br_t rfl (br_f a1 (br_f a2 (br_f a3 (br_f a4 (h _ _ _ _ _))))))⟩
  · exact ⟨-1, _, _, _, _, _, _, _, _, _, _, hR, fun post h => by unfold wpX_link; exact rl_c0 hc (br_t rfl (h _ _ _ _ _ _ _)), fun post h => by unfold wpY_link; exact rl_b1 hc (br_f (by decide) (h _ _ _ _ _))⟩
theorem mb_unlink (hR : rl_R th up co ca cl ex pl fi la bw pr av cn pa ed le us) (v1 : Int32) : ∃ r th' pl' cn' pa' us' le', rl_R th' up co ca cl ex pl' fi la bw pr av cn' pa' ed le' us' ∧
    (∀ post : Int32 → SX → Prop, (∀ gc' gk' fo' op' ct' lk' dn', post r (gc', gk', gb, th', up, co, ca, cl, ex, pl', fi, la, bw, pr, av, cn', pa', us', fo', op', ct', lk', dn', gp, rs, cf, qu, en, lo, ab, tr)) → wpX_unlink post (gc, gk, gb, th, up, co, ca, cl, ex, pl, fi, la, bw, pr, av, cn, pa, us, fo, op, ct, lk, dn, gp, rs, cf, qu, en, lo, ab, tr) v1) ∧
    (∀ post : Int32 → SY → Prop, (∀ yn' yl' yk' pt' bs', post r (yn', yl', yk', th', co, ca, cl, up, ex, ed, bw, pr, av, le', pa', pt', bs')) → wpY_unlink post (yn, yl, yk, th, co, ca, cl, up, ex, ed, bw, pr, av, le, pa, pt, bs) v1) := by
  by_cases hc : rl_code v1
  · obtain ⟨c, c36, cc, rfl⟩ := hc
    have vi : vp_in (nI c) 36 := vp_in_nI c36 (by omega)
    have ec : (nI c).toNatClampNeg = c := nI_clamp (by omega)
    by_cases t : th (nI c).toNatClampNeg = 0
    · exact ⟨-2, _, _, _, _, _, _, hR, fun post h => by unfold wpX_unlink; exact mb_tr2 c36 cc t (br_f (by decide) (h _ _ _ _ _ _ _)), fun post h => by unfold wpY_unlink; exact rl_b0 c36 cc (br_t rfl (And.intro vi (br_t t (h _ _ _ _ _))))⟩
    · obtain ⟨w, K, B, R, f, g, ⟨h1, h2, h3, h4, h5, h6, h7, h8, h9⟩, hN, hM⟩ := hR
      obtain ⟨n, pl', cn', us', pa', le', o1, _, oX, oY⟩ := rl_settle (up := up) (cl := cl) (av := av) (th := upd th c 0) ⟨mb_code cc h1, h2, h3, h4, h5, h6, h7, h8, h9⟩
      refine ⟨n, _, pl', cn', pa', us', le', o1, fun post h => ?_, fun post h => ?_⟩
      · unfold wpX_unlink
        exact mb_tr0 c36 cc t (br_t (by decide) (And.intro vi (nm_r (e' := upd th c 0) (by rw [ec, aa_b0]) (oX _ _ _ _ _ _ _ _ _ _ _ _ _ _ _ _ _ h))))
      · unfold wpY_unlink
        exact rl_b0 c36 cc (br_t rfl (And.intro vi (br_f t (And.intro vi (nm_r (e' := upd th c 0) (by rw [ec, aa_b0]) (oY _ _ _ _ _ _ h))))))
  · exact ⟨-1, _, _, _, _, _, _, hR, fun post h => by unfold wpX_unlink; exact mb_tr1 hc (br_f (by decide) (h _ _ _ _ _ _ _)), fun post h => by unfold wpY_unlink; exact rl_b1 hc (br_f (by decide) (h _ _ _ _ _))⟩
end MB
end
section
section MC
/-! change, want, release -/
variable {gc gk gb : Int32} {th up co ca cl ex pl fi la bw pr av cn pa fo op ct lk dn gp rs cf qu en lo ab tr : Nat → Int32} {us : Nat → Int64}
variable {yn yl yk : Int32} {ed le pt bs : Nat → Int32}
def mc_lo (j : Nat) : Nat := if j = 0 then 1 else 0
def mc_hi (j : Nat) : Nat := if j = 0 then 20 else if j = 1 then 100 else if j = 2 then 7 else 1
def mc_ok (j : Nat) (x : Int32) : Prop := ¬ x < nI (mc_lo j) ∧ ¬ nI (mc_hi j) < x
theorem mc_x {post : Int32 → Prop} {j : Nat} {x : Int32} (hj : j < 4) (h1 : mc_ok j x → post 1) (h0 : ¬ mc_ok j x → post 0) : wpX_isValue post (nI j) x := by
  have hc : j = 0 ∨ j = 1 ∨ j = 2 ∨ j = 3 := by omega
  rcases hc with rfl | rfl | rfl | rfl
  · exact br_t (by decide) (br_c (fun a => h0 (fun z => z.1 a)) (fun a => br_c (fun b => h0 (fun z => z.2 b)) (fun b => h1 ⟨a, b⟩)))
  · exact br_f (by decide) (br_c (fun a => h0 (fun z => z.1 a)) (fun a => br_t (by decide) (br_c (fun b => h0 (fun z => z.2 b)) (fun b => h1 ⟨a, b⟩))))
  · exact br_f (by decide) (br_c (fun a => h0 (fun z => z.1 a)) (fun a => br_f (by decide) (br_t (by decide) (br_c (fun b => h0 (fun z => z.2 b)) (fun b => h1 ⟨a, b⟩)))))
  · exact br_f (by decide) (br_c (fun a => h0 (fun z => z.1 a)) (fun a => br_f (by decide) (br_f (by decide) (br_c (fun b => h0 (fun z => z.2 b)) (fun b => h1 ⟨a, b⟩)))))
theorem mc_y {post : Int32 → Prop} {j : Nat} {x : Int32} (hj : j < 4) (h1 : mc_ok j x → post 0) (h0 : ¬ mc_ok j x → post 1) : wpY_badValue post (yn, yl, yk, th, co, ca, cl, up, ex, ed, bw, pr, av, le, pa, pt, bs) (nI j) x := by
  have hc : j = 0 ∨ j = 1 ∨ j = 2 ∨ j = 3 := by omega
  rcases hc with rfl | rfl | rfl | rfl
  · exact br_t (by decide) (br_c (fun a => h0 (fun z => z.1 a)) (fun a => br_c (fun b => h1 ⟨a, Int32.not_lt.mpr b⟩) (fun b => h0 (fun z => b (Int32.not_lt.mp z.2)))))
  · exact br_f (by decide) (br_c (fun a => h0 (fun z => z.1 a)) (fun a => br_t (by decide) (br_c (fun b => h1 ⟨a, Int32.not_lt.mpr b⟩) (fun b => h0 (fun z => b (Int32.not_lt.mp z.2))))))
  · exact br_f (by decide) (br_c (fun a => h0 (fun z => z.1 a)) (fun a => br_f (by decide) (br_t (by decide) (br_c (fun b => h1 ⟨a, Int32.not_lt.mpr b⟩) (fun b => h0 (fun z => b (Int32.not_lt.mp z.2)))))))
  · exact br_f (by decide) (br_c (fun a => h0 (fun z => z.1 a)) (fun a => br_f (by decide) (br_f (by decide) (br_c (fun b => h1 ⟨a, Int32.not_lt.mpr b⟩) (fun b => h0 (fun z => b (Int32.not_lt.mp z.2)))))))
theorem mc_change (hR : rl_R th up co ca cl ex pl fi la bw pr av cn pa ed le us) (v1 v2 v3 : Int32) : ∃ r up' co' ca' cl' pl' cn' pa' us' le', rl_R th up' co' ca' cl' ex pl' fi la bw pr av cn' pa' ed le' us' ∧
    (∀ post : Int32 → SX → Prop, (∀ gc' gk' fo' op' ct' lk' dn', post r (gc', gk', gb, th, up', co', ca', cl', ex, pl', fi, la, bw, pr, av, cn', pa', us', fo', op', ct', lk', dn', gp, rs, cf, qu, en, lo, ab, tr)) → wpX_change post (gc, gk, gb, th, up, co, ca, cl, ex, pl, fi, la, bw, pr, av, cn, pa, us, fo, op, ct, lk, dn, gp, rs, cf, qu, en, lo, ab, tr) v1 v2 v3) ∧
    (∀ post : Int32 → SY → Prop, (∀ yn' yl' yk' pt' bs', post r (yn', yl', yk', th, co', ca', cl', up', ex, ed, bw, pr, av, le', pa', pt', bs')) → wpY_change post (yn, yl, yk, th, co, ca, cl, up, ex, ed, bw, pr, av, le, pa, pt, bs) v1 v2 v3) := by
  by_cases hc : rl_code v1
  · obtain ⟨c, c36, cc, rfl⟩ := hc
    have vi : vp_in (nI c) 36 := vp_in_nI c36 (by omega)
    have ec : (nI c).toNatClampNeg = c := nI_clamp (by omega)
    by_cases a1 : v2 < 0
    · exact ⟨-1, _, _, _, _, _, _, _, _, _, hR, fun post h => by unfold wpX_change; exact rl_c1 c36 cc (br_f (by decide) (br_t a1 (h _ _ _ _ _ _ _))), fun post h => by unfold wpY_change; exact rl_b0 c36 cc (br_t rfl (br_t a1 (h _ _ _ _ _)))⟩
    by_cases a2 : 3 < v2
    · exact ⟨-1, _, _, _, _, _, _, _, _, _, hR, fun post h => by unfold wpX_change; exact rl_c1 c36 cc (br_f (by decide) (br_f a1 (br_t a2 (h _ _ _ _ _ _ _)))), fun post h => by unfold wpY_change; exact rl_b0 c36 cc (br_t rfl (br_f a1 (br_t a2 (h _ _ _ _ _))))⟩
    obtain ⟨j, j4, rfl⟩ := rl_le (n := 3) (by omega) a1 a2
    have j4' : j < 4 := by omega
    by_cases ok : mc_ok j v3
    · have xk : ∀ {post : Int32 → Prop}, post 1 → wpX_isValue post (nI j) v3 := fun h => mc_x j4' (fun _ => h) (fun z => absurd ok z)
      have yk' : ∀ {post : Int32 → Prop}, post 0 → wpY_badValue post (yn, yl, yk, th, co, ca, cl, up, ex, ed, bw, pr, av, le, pa, pt, bs) (nI j) v3 := fun h => mc_y j4' (fun _ => h) (fun z => absurd ok z)
      by_cases t : th (nI c).toNatClampNeg = 0
      · exact ⟨-2, _, _, _, _, _, _, _, _, _, hR, fun post h => by unfold wpX_change; exact rl_c1 c36 cc (br_f (by decide) (br_f a1 (br_f a2 (xk (br_f (by decide) (And.intro vi (br_t t (h _ _ _ _ _ _ _)))))))), fun post h => by unfold wpY_change; exact rl_b0 c36 cc (br_t rfl (br_f a1 (br_f a2 (yk' (br_t rfl (And.intro vi (br_t t (h _ _ _ _ _))))))))⟩
      · obtain ⟨w, K, B, R, f, g, ⟨h1, h2, h3, h4, h5, h6, h7, h8, h9⟩, hN, hM⟩ := hR
        obtain ⟨m, m1, m2, rfl⟩ := mb_rg (by unfold mc_lo; split <;> omega) (by unfold mc_hi; split <;> (try split) <;> (try split) <;> omega) ok.1 ok.2
        have hc : j = 0 ∨ j = 1 ∨ j = 2 ∨ j = 3 := by omega
        rcases hc with rfl | rfl | rfl | rfl
        · obtain ⟨n, pl', cn', us', pa', le', o1, _, oX, oY⟩ := rl_settle (up := up) (cl := cl) (av := av) (th := th) (co := upd co c (nI m)) (ca := ca) ⟨h1, mb_vu h2 m2, h3, h4, h5, h6, h7, h8, h9⟩
          refine ⟨n, _, _, _, _, pl', cn', pa', us', le', o1, fun post h => ?_, fun post h => ?_⟩
          · unfold wpX_change
            refine rl_c1 c36 cc (br_f (by decide) (br_f a1 (br_f a2 (xk (br_f (by decide) (And.intro vi (br_f t (br_t (by decide) (And.intro vi (nm_r (e' := upd co c (nI m)) (by rw [ec]) ?_))))))))))
            unfold wX_change_98
            exact oX _ _ _ _ _ _ _ _ _ _ _ _ _ _ _ _ _ h
          · unfold wpY_change
            refine rl_b0 c36 cc (br_t rfl (br_f a1 (br_f a2 (yk' (br_t rfl (And.intro vi (br_f t (br_t (by decide) (And.intro vi (nm_r (e' := upd co c (nI m)) (by rw [ec]) (br_f (by decide) (br_f (by decide) (br_f (by decide) ?_)))))))))))))
            unfold wY_change_96
            exact oY _ _ _ _ _ _ h
        · obtain ⟨n, pl', cn', us', pa', le', o1, _, oX, oY⟩ := rl_settle (up := up) (cl := cl) (av := av) (th := th) (co := co) (ca := upd ca c (nI m)) ⟨h1, h2, mb_vu h3 m2, h4, h5, h6, h7, h8, h9⟩
          refine ⟨n, _, _, _, _, pl', cn', pa', us', le', o1, fun post h => ?_, fun post h => ?_⟩
          · unfold wpX_change
            refine rl_c1 c36 cc (br_f (by decide) (br_f a1 (br_f a2 (xk (br_f (by decide) (And.intro vi (br_f t (br_f (by decide) (br_t (by decide) (And.intro vi (nm_r (e' := upd ca c (nI m)) (by rw [ec]) ?_)))))))))))
            unfold wX_change_98
            exact oX _ _ _ _ _ _ _ _ _ _ _ _ _ _ _ _ _ h
          · unfold wpY_change
            refine rl_b0 c36 cc (br_t rfl (br_f a1 (br_f a2 (yk' (br_t rfl (And.intro vi (br_f t (br_f (by decide) (br_t (by decide) (And.intro vi (nm_r (e' := upd ca c (nI m)) (by rw [ec]) (br_f (by decide) (br_f (by decide) ?_)))))))))))))
            unfold wY_change_96
            exact oY _ _ _ _ _ _ h
        · obtain ⟨n, pl', cn', us', pa', le', o1, _, oX, oY⟩ := rl_settle (up := up) (cl := upd cl c (nI m)) (av := av) (th := th) (co := co) (ca := ca) ⟨h1, h2, h3, h4, h5, h6, h7, h8, h9⟩
          refine ⟨n, _, _, _, _, pl', cn', pa', us', le', o1, fun post h => ?_, fun post h => ?_⟩
          · unfold wpX_change
            refine rl_c1 c36 cc (br_f (by decide) (br_f a1 (br_f a2 (xk (br_f (by decide) (And.intro vi (br_f t (br_f (by decide) (br_f (by decide) (br_t (by decide) (And.intro vi (nm_r (e' := upd cl c (nI m)) (by rw [ec]) ?_))))))))))))
            unfold wX_change_98
            exact oX _ _ _ _ _ _ _ _ _ _ _ _ _ _ _ _ _ h
          · unfold wpY_change
            refine rl_b0 c36 cc (br_t rfl (br_f a1 (br_f a2 (yk' (br_t rfl (And.intro vi (br_f t (br_f (by decide) (br_f (by decide) (br_t (by decide) (And.intro vi (nm_r (e' := upd cl c (nI m)) (by rw [ec]) (br_f (by decide) ?_)))))))))))))
            unfold wY_change_96
            exact oY _ _ _ _ _ _ h
        · have hm : m = 0 ∨ m = 1 := by
            have : mc_hi 3 = 1 := rfl
            omega
          rcases hm with rfl | rfl
          · obtain ⟨n, pl', cn', us', pa', le', o1, _, oX, oY⟩ := rl_settle (up := upd up c 0) (cl := cl) (av := av) (th := th) (co := co) (ca := ca) ⟨h1, h2, h3, h4, h5, h6, h7, h8, h9⟩
            refine ⟨n, _, _, _, _, pl', cn', pa', us', le', o1, fun post h => ?_, fun post h => ?_⟩
            · unfold wpX_change
              refine rl_c1 c36 cc (br_f (by decide) (br_f a1 (br_f a2 (xk (br_f (by decide) (And.intro vi (br_f t (br_f (by decide) (br_f (by decide) (br_f (by decide) (br_f (by decide) (And.intro vi (nm_r (e' := upd up c 0) (by rw [ec, aa_b0]) ?_)))))))))))))
              unfold wX_change_98
              exact oX _ _ _ _ _ _ _ _ _ _ _ _ _ _ _ _ _ h
            · unfold wpY_change
              refine rl_b0 c36 cc (br_t rfl (br_f a1 (br_f a2 (yk' (br_t rfl (And.intro vi (br_f t (br_f (by decide) (br_f (by decide) (br_f (by decide) (br_t (by decide) (br_f (by decide) (And.intro vi (nm_r (e' := upd up c 0) (by rw [ec, aa_b0]) ?_))))))))))))))
              unfold wY_change_96
              exact oY _ _ _ _ _ _ h
          · obtain ⟨n, pl', cn', us', pa', le', o1, _, oX, oY⟩ := rl_settle (up := upd up c 1) (cl := cl) (av := av) (th := th) (co := co) (ca := ca) ⟨h1, h2, h3, h4, h5, h6, h7, h8, h9⟩
            refine ⟨n, _, _, _, _, pl', cn', pa', us', le', o1, fun post h => ?_, fun post h => ?_⟩
            · unfold wpX_change
              refine rl_c1 c36 cc (br_f (by decide) (br_f a1 (br_f a2 (xk (br_f (by decide) (And.intro vi (br_f t (br_f (by decide) (br_f (by decide) (br_f (by decide) (br_t (by decide) (And.intro vi (nm_r (e' := upd up c 1) (by rw [ec, aa_b1]) ?_)))))))))))))
              unfold wX_change_98
              exact oX _ _ _ _ _ _ _ _ _ _ _ _ _ _ _ _ _ h
            · unfold wpY_change
              refine rl_b0 c36 cc (br_t rfl (br_f a1 (br_f a2 (yk' (br_t rfl (And.intro vi (br_f t (br_f (by decide) (br_f (by decide) (br_f (by decide) (br_t (by decide) (br_t (by decide) (And.intro vi (nm_r (e' := upd up c 1) (by rw [ec, aa_b1]) ?_))))))))))))))
              unfold wY_change_96
              exact oY _ _ _ _ _ _ h
    · exact ⟨-1, _, _, _, _, _, _, _, _, _, hR, fun post h => by unfold wpX_change; exact rl_c1 c36 cc (br_f (by decide) (br_f a1 (br_f a2 (mc_x j4' (fun z => absurd z ok) (fun _ => br_t rfl (h _ _ _ _ _ _ _)))))), fun post h => by unfold wpY_change; exact rl_b0 c36 cc (br_t rfl (br_f a1 (br_f a2 (mc_y j4' (fun z => absurd z ok) (fun _ => br_f (by decide) (h _ _ _ _ _))))))⟩
  · exact ⟨-1, _, _, _, _, _, _, _, _, _, hR, fun post h => by unfold wpX_change; exact rl_c0 hc (br_t rfl (h _ _ _ _ _ _ _)), fun post h => by unfold wpY_change; exact rl_b1 hc (br_f (by decide) (h _ _ _ _ _))⟩
theorem mc_E {f g B : Nat → Nat} {t s d b : Nat} (hn : s ≠ d) (hb : 1 ≤ b) (h : st_E ex ed B f g) : st_E (upd ex t 1) (upd ed t (nI (6 * s + d))) (df_u B t b) (df_u f t s) (df_u g t d) := by
  intro t' ht'
  by_cases e : t' = t
  · subst e
    rw [pk_us, pk_us, df_us, df_us, df_us]
    exact ⟨rfl, fun _ => ⟨hn, hb⟩⟩
  · rw [pk_un e, pk_un e, df_un e, df_un e, df_un e]
    exact h t' ht'
theorem mc_T {f g : Nat → Nat} {t s d : Nat} {x : Int32} (h : tn_T ex pl cn le pa us f g) : tn_T (upd ex t x) (upd pl t 0) cn (upd le t 0) pa us (df_u f t s) (df_u g t d) := by
  intro t' ht'
  by_cases e : t' = t
  · subst e
    exact Or.inl ⟨pk_us, pk_us⟩
  · rw [pk_un e, pk_un e, df_un e, df_un e, pk_un e]
    rcases h t' ht' with h1 | ⟨h1, h2, h3, L, q, ⟨p1, p2, p3, p4, p5, p6⟩, h5, h6, h7⟩
    · exact Or.inl h1
    · exact Or.inr ⟨h1, h2, h3, L, q, ⟨p1, p2, (pk_un e).trans p3, p4, p5, p6⟩, h5, h6, h7⟩
theorem mc_want (hR : rl_R th up co ca cl ex pl fi la bw pr av cn pa ed le us) (v1 v2 v3 v4 : Int32) : ∃ r ex' fi' la' bw' pr' av' pl' cn' pa' us' ed' le', rl_R th up co ca cl ex' pl' fi' la' bw' pr' av' cn' pa' ed' le' us' ∧
    (∀ post : Int32 → SX → Prop, (∀ gc' gk' fo' op' ct' lk' dn', post r (gc', gk', gb, th, up, co, ca, cl, ex', pl', fi', la', bw', pr', av', cn', pa', us', fo', op', ct', lk', dn', gp, rs, cf, qu, en, lo, ab, tr)) → wpX_want post (gc, gk, gb, th, up, co, ca, cl, ex, pl, fi, la, bw, pr, av, cn, pa, us, fo, op, ct, lk, dn, gp, rs, cf, qu, en, lo, ab, tr) v1 v2 v3 v4) ∧
    (∀ post : Int32 → SY → Prop, (∀ yn' yl' yk' pt' bs', post r (yn', yl', yk', th, co, ca, cl, up, ex', ed', bw', pr', av', le', pa', pt', bs')) → wpY_want post (yn, yl, yk, th, co, ca, cl, up, ex, ed, bw, pr, av, le, pa, pt, bs) v1 v2 v3 v4) := by
  by_cases ht : rl_lim 8 v1
  · obtain ⟨t, t8, rfl⟩ := ht
    have vi : vp_in (nI t) 8 := vp_in_nI t8 (by omega)
    have et : (nI t).toNatClampNeg = t := nI_clamp (by omega)
    by_cases he : rl_ends v2
    · obtain ⟨s, d, s6, d6, sd, rfl⟩ := he
      by_cases a1 : v3 < 1
      · exact ⟨-1, _, _, _, _, _, _, _, _, _, _, _, _, hR, fun post h => by unfold wpX_want; exact rl_u1 t8 (br_f (by decide) (rl_e1 s6 d6 sd (br_f (by decide) (br_t a1 (h _ _ _ _ _ _ _))))), fun post h => by unfold wpY_want; exact rl_v0 t8 (br_t rfl (rl_f0 s6 d6 sd (br_t rfl (br_t a1 (h _ _ _ _ _)))))⟩
      by_cases a2 : 100 < v3
      · exact ⟨-1, _, _, _, _, _, _, _, _, _, _, _, _, hR, fun post h => by unfold wpX_want; exact rl_u1 t8 (br_f (by decide) (rl_e1 s6 d6 sd (br_f (by decide) (br_f a1 (br_t a2 (h _ _ _ _ _ _ _)))))), fun post h => by unfold wpY_want; exact rl_v0 t8 (br_t rfl (rl_f0 s6 d6 sd (br_t rfl (br_f a1 (br_t a2 (h _ _ _ _ _))))))⟩
      by_cases hm : rl_lim 32 v4
      · obtain ⟨m, m32, rfl⟩ := hm
        by_cases x : ex (nI t).toNatClampNeg = 0
        · obtain ⟨b, b1, b2, rfl⟩ := mb_rg (a := 1) (b := 100) (by omega) (by omega) a1 a2
          obtain ⟨w, K, B, R, f, g, ⟨h1, h2, h3, h4, h5, h6, h7, h8, h9⟩, hN, hM⟩ := hR
          have eq8 : nI m >>> ((3 : Int32) &&& 31) = nI (m / 8) := pk_shrN (by omega) _ 3 (by decide)
          have er8 : nI m &&& 7 = nI (m % 8) := pk_andN (by omega) 3 (by decide)
          have es : nI (6 * s + d) / 6 = nI s := by rw [aa_div6 (by omega), (fl_d d6).1]
          have ed' : nI (6 * s + d) - nI (6 * s + d) / 6 * 6 = nI d := by rw [aa_mod6 (by omega), (fl_d d6).2]
          obtain ⟨n, pl', cn', us', pa', le', o1, o2, oX, oY⟩ := rl_settle (up := up) (cl := cl) (av := upd av t (nI (m % 8))) (th := th) (co := co) (ca := ca) (ex := upd ex t 1) (pl := upd pl t 0) (fi := upd fi t (nI s)) (la := upd la t (nI d)) (bw := upd bw t (nI b)) (pr := upd pr t (nI (m / 8))) (ed := upd ed t (nI (6 * s + d))) (le := upd le t 0) ⟨h1, h2, h3, mb_vu h4 b2, mb_vu h5 (show m / 8 ≤ 3 by omega), mb_vu h6 (show s ≤ 5 by omega), mb_vu h7 (show d ≤ 5 by omega), mc_E sd b1 h8, mc_T h9⟩
          have xw : ∀ {post : Int32 → SX → Prop}, wpX_settle (fun r u => match u with | (gc, gk, gb, th, up, co, ca, cl, ex, pl, fi, la, bw, pr, av, cn, pa, us, fo, op, ct, lk, dn, gp, rs, cf, qu, en, lo, ab, tr) => (vp_in (nI t) 8 ∧ ((((pl (nI t).toNatClampNeg) = 0 → (post 0 (gc, gk, gb, th, up, co, ca, cl, ex, pl, fi, la, bw, pr, av, cn, pa, us, fo, op, ct, lk, dn, gp, rs, cf, qu, en, lo, ab, tr))) ∧ (¬ (pl (nI t).toNatClampNeg) = 0 → (post 1 (gc, gk, gb, th, up, co, ca, cl, ex, pl, fi, la, bw, pr, av, cn, pa, us, fo, op, ct, lk, dn, gp, rs, cf, qu, en, lo, ab, tr))))))) (gc, gk, gb, th, up, co, ca, cl, upd ex t 1, upd pl t 0, upd fi t (nI s), upd la t (nI d), upd bw t (nI b), upd pr t (nI (m / 8)), upd av t (nI (m % 8)), cn, pa, us, fo, op, ct, lk, dn, gp, rs, cf, qu, en, lo, ab, tr) → wpX_want post (gc, gk, gb, th, up, co, ca, cl, ex, pl, fi, la, bw, pr, av, cn, pa, us, fo, op, ct, lk, dn, gp, rs, cf, qu, en, lo, ab, tr) (nI t) (nI (6 * s + d)) (nI b) (nI m) := by
            intro post h
            unfold wpX_want
            exact rl_u1 t8 (br_f (by decide) (rl_e1 s6 d6 sd (br_f (by decide) (br_f a1 (br_f a2 (rl_t1 m32 (br_f (by decide) (And.intro vi (br_t x (And.intro vi (nm_r (e' := upd ex t 1) (by rw [et, aa_b1]) (And.intro vi (nm_r (e' := upd pl t 0) (by rw [et, aa_b0]) (And.intro aa_6n (And.intro vi (nm_r (e' := upd fi t (nI s)) (by rw [et, es]) (And.intro aa_6n (And.intro vi (nm_r (e' := upd la t (nI d)) (by rw [et, ed']) (And.intro vi (nm_r (e' := upd bw t (nI b)) (by rw [et]) (And.intro vi (nm_r (e' := upd pr t (nI (m / 8))) (by rw [et, eq8]) (And.intro vi (nm_r (e' := upd av t (nI (m % 8))) (by rw [et, er8]) h)))))))))))))))))))))))))
          have yw : ∀ {post : Int32 → SY → Prop}, wpY_settle (fun r u => match u with | (yn, yl, yk, th, co, ca, cl, up, ex, ed, bw, pr, av, le, pa, pt, bs) => (vp_in (nI t) 8 ∧ ((((le (nI t).toNatClampNeg) ≤ 0 → (post 0 (yn, yl, yk, th, co, ca, cl, up, ex, ed, bw, pr, av, le, pa, pt, bs))) ∧ (¬ (le (nI t).toNatClampNeg) ≤ 0 → (post 1 (yn, yl, yk, th, co, ca, cl, up, ex, ed, bw, pr, av, le, pa, pt, bs))))))) (yn, yl, yk, th, co, ca, cl, up, upd ex t 1, upd ed t (nI (6 * s + d)), upd bw t (nI b), upd pr t (nI (m / 8)), upd av t (nI (m % 8)), upd le t 0, pa, pt, bs) → wpY_want post (yn, yl, yk, th, co, ca, cl, up, ex, ed, bw, pr, av, le, pa, pt, bs) (nI t) (nI (6 * s + d)) (nI b) (nI m) := by
            intro post h
            unfold wpY_want
            exact rl_v0 t8 (br_t rfl (rl_f0 s6 d6 sd (br_t rfl (br_f a1 (br_f a2 (rl_s0 m32 (br_t rfl (And.intro vi (br_t x (And.intro vi (nm_r (e' := upd ex t 1) (by rw [et, aa_b1]) (And.intro vi (nm_r (e' := upd ed t (nI (6 * s + d))) (by rw [et]) (And.intro vi (nm_r (e' := upd bw t (nI b)) (by rw [et]) (And.intro aa_8n (And.intro vi (nm_r (e' := upd pr t (nI (m / 8))) (by rw [et, aa_div8 (by omega)]) (And.intro aa_8n (And.intro vi (nm_r (e' := upd av t (nI (m % 8))) (by rw [et, aa_mod8 (by omega)]) (And.intro vi (nm_r (e' := upd le t 0) (by rw [et]) h)))))))))))))))))))))))
          rcases ma_case o2 t8 with ⟨p, l⟩ | ⟨p, L, L1, L5, l, lc⟩
          · refine ⟨0, _, _, _, _, _, _, pl', cn', pa', us', _, le', o1, fun post h => xw (oX _ _ _ _ _ _ _ _ _ _ _ _ _ _ _ _ _ (fun _ _ _ _ _ _ _ => And.intro vi (br_t p (h _ _ _ _ _ _ _)))), fun post h => yw (oY _ _ _ _ _ _ (fun _ _ _ _ _ => And.intro vi (br_t (by rw [l]; decide) (h _ _ _ _ _))))⟩
          · refine ⟨1, _, _, _, _, _, _, pl', cn', pa', us', _, le', o1, fun post h => xw (oX _ _ _ _ _ _ _ _ _ _ _ _ _ _ _ _ _ (fun _ _ _ _ _ _ _ => And.intro vi (br_f p (h _ _ _ _ _ _ _)))), fun post h => yw (oY _ _ _ _ _ _ (fun _ _ _ _ _ => And.intro vi (br_f (by rw [l]; exact nI_nle (by omega) (by omega)) (h _ _ _ _ _))))⟩
        · exact ⟨-3, _, _, _, _, _, _, _, _, _, _, _, _, hR, fun post h => by unfold wpX_want; exact rl_u1 t8 (br_f (by decide) (rl_e1 s6 d6 sd (br_f (by decide) (br_f a1 (br_f a2 (rl_t1 m32 (br_f (by decide) (And.intro vi (br_f x (h _ _ _ _ _ _ _)))))))))), fun post h => by unfold wpY_want; exact rl_v0 t8 (br_t rfl (rl_f0 s6 d6 sd (br_t rfl (br_f a1 (br_f a2 (rl_s0 m32 (br_t rfl (And.intro vi (br_f x (h _ _ _ _ _))))))))))⟩
      · exact ⟨-1, _, _, _, _, _, _, _, _, _, _, _, _, hR, fun post h => by unfold wpX_want; exact rl_u1 t8 (br_f (by decide) (rl_e1 s6 d6 sd (br_f (by decide) (br_f a1 (br_f a2 (rl_t0 hm (br_t rfl (h _ _ _ _ _ _ _)))))))), fun post h => by unfold wpY_want; exact rl_v0 t8 (br_t rfl (rl_f0 s6 d6 sd (br_t rfl (br_f a1 (br_f a2 (rl_s1 hm (br_f (by decide) (h _ _ _ _ _))))))))⟩
    · exact ⟨-1, _, _, _, _, _, _, _, _, _, _, _, _, hR, fun post h => by unfold wpX_want; exact rl_u1 t8 (br_f (by decide) (rl_e0 he (br_t rfl (h _ _ _ _ _ _ _)))), fun post h => by unfold wpY_want; exact rl_v0 t8 (br_t rfl (rl_f1 he (br_f (by decide) (h _ _ _ _ _))))⟩
  · exact ⟨-1, _, _, _, _, _, _, _, _, _, _, _, _, hR, fun post h => by unfold wpX_want; exact rl_u0 ht (br_t rfl (h _ _ _ _ _ _ _)), fun post h => by unfold wpY_want; exact rl_v1 ht (br_f (by decide) (h _ _ _ _ _))⟩
theorem mc_release (hR : rl_R th up co ca cl ex pl fi la bw pr av cn pa ed le us) (v1 : Int32) : ∃ r ex' pl' cn' pa' us' le', rl_R th up co ca cl ex' pl' fi la bw pr av cn' pa' ed le' us' ∧
    (∀ post : Int32 → SX → Prop, (∀ gc' gk' fo' op' ct' lk' dn', post r (gc', gk', gb, th, up, co, ca, cl, ex', pl', fi, la, bw, pr, av, cn', pa', us', fo', op', ct', lk', dn', gp, rs, cf, qu, en, lo, ab, tr)) → wpX_release post (gc, gk, gb, th, up, co, ca, cl, ex, pl, fi, la, bw, pr, av, cn, pa, us, fo, op, ct, lk, dn, gp, rs, cf, qu, en, lo, ab, tr) v1) ∧
    (∀ post : Int32 → SY → Prop, (∀ yn' yl' yk' pt' bs', post r (yn', yl', yk', th, co, ca, cl, up, ex', ed, bw, pr, av, le', pa', pt', bs')) → wpY_release post (yn, yl, yk, th, co, ca, cl, up, ex, ed, bw, pr, av, le, pa, pt, bs) v1) := by
  by_cases ht : rl_lim 8 v1
  · obtain ⟨t, t8, rfl⟩ := ht
    have vi : vp_in (nI t) 8 := vp_in_nI t8 (by omega)
    have et : (nI t).toNatClampNeg = t := nI_clamp (by omega)
    by_cases x : ex (nI t).toNatClampNeg = 0
    · exact ⟨-2, _, _, _, _, _, _, hR, fun post h => by unfold wpX_release; exact rl_u1 t8 (br_f (by decide) (And.intro vi (br_t x (h _ _ _ _ _ _ _)))), fun post h => by unfold wpY_release; exact rl_v0 t8 (br_t rfl (And.intro vi (br_t x (h _ _ _ _ _))))⟩
    · obtain ⟨w, K, B, R, f, g, ⟨h1, h2, h3, h4, h5, h6, h7, h8, h9⟩, hN, hM⟩ := hR
      have E' : st_E (upd ex t 0) ed B f g := by
        intro t' ht'
        refine ⟨(h8 t' ht').1, fun z => ?_⟩
        by_cases e : t' = t
        · rw [e, pk_us] at z; exact absurd rfl z
        · rw [pk_un e] at z; exact (h8 t' ht').2 z
      have T' : tn_T (upd ex t 0) (upd pl t 0) cn (upd le t 0) pa us f g := by
        have := mc_T (t := t) (s := f t) (d := g t) (x := 0) h9
        have e1 : ∀ a : Nat → Nat, df_u a t (a t) = a := by
          intro a
          funext j
          by_cases e : j = t
          · subst e; exact df_us
          · exact df_un e
        rw [e1, e1] at this
        exact this
      obtain ⟨n, pl', cn', us', pa', le', o1, o2, oX, oY⟩ := rl_settle (up := up) (cl := cl) (av := av) (th := th) (co := co) (ca := ca) (ex := upd ex t 0) (pl := upd pl t 0) (le := upd le t 0) ⟨h1, h2, h3, h4, h5, h6, h7, E', T'⟩
      refine ⟨n, _, pl', cn', pa', us', le', o1, fun post h => ?_, fun post h => ?_⟩
      · unfold wpX_release
        exact rl_u1 t8 (br_f (by decide) (And.intro vi (br_f x (And.intro vi (nm_r (e' := upd ex t 0) (by rw [et, aa_b0]) (And.intro vi (nm_r (e' := upd pl t 0) (by rw [et, aa_b0]) (oX _ _ _ _ _ _ _ _ _ _ _ _ _ _ _ _ _ h))))))))
      · unfold wpY_release
        exact rl_v0 t8 (br_t rfl (And.intro vi (br_f x (And.intro vi (nm_r (e' := upd ex t 0) (by rw [et, aa_b0]) (And.intro vi (nm_r (e' := upd le t 0) (by rw [et]) (oY _ _ _ _ _ _ h))))))))
  · exact ⟨-1, _, _, _, _, _, _, hR, fun post h => by unfold wpX_release; exact rl_u0 ht (br_t rfl (h _ _ _ _ _ _ _)), fun post h => by unfold wpY_release; exact rl_v1 ht (br_f (by decide) (h _ _ _ _ _))⟩
end MC
end
section
section MD
/-! quote, improve -/
variable {gc gk gb : Int32} {th up co ca cl ex pl fi la bw pr av cn pa fo op ct lk dn gp rs cf qu en lo ab tr : Nat → Int32} {us : Nat → Int64}
variable {yn yl yk : Int32} {ed le pt bs : Nat → Int32}
theorem md_quote (hR : rl_R th up co ca cl ex pl fi la bw pr av cn pa ed le us) (v1 v2 v3 : Int32) : ∃ r,
    (∀ post : Int32 → SX → Prop, (∀ gc' gk' fo' op' ct' lk' dn', post r (gc', gk', gb, th, up, co, ca, cl, ex, pl, fi, la, bw, pr, av, cn, pa, us, fo', op', ct', lk', dn', gp, rs, cf, qu, en, lo, ab, tr)) → wpX_quote post (gc, gk, gb, th, up, co, ca, cl, ex, pl, fi, la, bw, pr, av, cn, pa, us, fo, op, ct, lk, dn, gp, rs, cf, qu, en, lo, ab, tr) v1 v2 v3) ∧
    (∀ post : Int32 → SY → Prop, (∀ yn' yl' yk' pt' bs', post r (yn', yl', yk', th, co, ca, cl, up, ex, ed, bw, pr, av, le, pa, pt', bs')) → wpY_quote post (yn, yl, yk, th, co, ca, cl, up, ex, ed, bw, pr, av, le, pa, pt, bs) v1 v2 v3) := by
  by_cases he : rl_ends v1
  · obtain ⟨s, d, s6, d6, sd, rfl⟩ := he
    by_cases a1 : v2 < 1
    · exact ⟨-1, fun post h => by unfold wpX_quote; exact rl_e1 s6 d6 sd (br_f (by decide) (br_t a1 (h _ _ _ _ _ _ _))), fun post h => by unfold wpY_quote; exact rl_f0 s6 d6 sd (br_t rfl (br_t a1 (h _ _ _ _ _)))⟩
    by_cases a2 : 100 < v2
    · exact ⟨-1, fun post h => by unfold wpX_quote; exact rl_e1 s6 d6 sd (br_f (by decide) (br_f a1 (br_t a2 (h _ _ _ _ _ _ _)))), fun post h => by unfold wpY_quote; exact rl_f0 s6 d6 sd (br_t rfl (br_f a1 (br_t a2 (h _ _ _ _ _))))⟩
    by_cases hm : rl_lim 32 v3
    · obtain ⟨m, m32, rfl⟩ := hm
      obtain ⟨b, b1, b2, rfl⟩ := mb_rg (a := 1) (b := 100) (by omega) (by omega) a1 a2
      obtain ⟨w, K, B, R, f, g, ⟨h1, h2, h3, h4, h5, h6, h7, h8, h9⟩, hN, hM⟩ := hR
      have eq8 : nI m >>> ((3 : Int32) &&& 31) = nI (m / 8) := pk_shrN (by omega) _ 3 (by decide)
      have er8 : nI m &&& 7 = nI (m % 8) := pk_andN (by omega) 3 (by decide)
      have es : nI (6 * s + d) / 6 = nI s := by rw [aa_div6 (by omega), (fl_d d6).1]
      have ed' : nI (6 * s + d) - nI (6 * s + d) / 6 * 6 = nI d := by rw [aa_mod6 (by omega), (fl_d d6).2]
      have xq : ∀ (post : Int32 → SX → Prop), (∀ L q fo' op' ct' lk' dn', pa_Best (tn_O th up cl (tn_ov le pa) B R K (m / 8) (nI (m % 8)) b 8) w s d L q → post (nI (pa_pc w q L)) (nI (L + 1), nI (pa_pc w q L), gb, th, up, co, ca, cl, ex, pl, fi, la, bw, pr, av, cn, pa, us, fo', op', ct', lk', dn', gp, rs, cf, qu, en, lo, ab, tr)) → ((∀ L q, ¬ pa_Val (tn_O th up cl (tn_ov le pa) B R K (m / 8) (nI (m % 8)) b 8) s d L q) → ∀ op' ct' lk' dn', post (-2) (gc, gk, gb, th, up, co, ca, cl, ex, pl, fi, la, bw, pr, av, cn, pa, us, fo, op', ct', lk', dn', gp, rs, cf, qu, en, lo, ab, tr)) → wpX_quote post (gc, gk, gb, th, up, co, ca, cl, ex, pl, fi, la, bw, pr, av, cn, pa, us, fo, op, ct, lk, dn, gp, rs, cf, qu, en, lo, ab, tr) (nI (6 * s + d)) (nI b) (nI m) := by
        intro post k1 k0
        unfold wpX_quote
        refine rl_e1 s6 d6 sd (br_f (by decide) (br_f a1 (br_f a2 (rl_t1 m32 (br_f (by decide) ?_)))))
        rw [eq8, er8]
        refine xa_openLinks (by omega) (by omega) tn_bt8 (tn_XOof h9) h4 h5 h3 (fun o ho => And.intro aa_6n (And.intro aa_6n ?_))
        rw [ed', es]
        exact xf_find s6 d6 h2 ho (fun L q fo' ct' lk' dn' hb hfo => br_f (by decide) (k1 L q fo' o ct' lk' dn' hb)) (fun hn ct' lk' dn' => br_t rfl (k0 hn o ct' lk' dn'))
      have yq : ∀ (post : Int32 → SY → Prop), (∀ L q yn' pt' bs', pa_Best (tn_O th up cl (tn_ov le pa) B R K (m / 8) (nI (m % 8)) b 8) w s d L q → post (nI (pa_pc w q L)) (yn', nI (L + 1), nI (pa_pc w q L), th, co, ca, cl, up, ex, ed, bw, pr, av, le, pa, pt', bs')) → ((∀ L q, ¬ pa_Val (tn_O th up cl (tn_ov le pa) B R K (m / 8) (nI (m % 8)) b 8) s d L q) → ∀ yn' yl' yk' pt' bs', post (-2) (yn', yl', yk', th, co, ca, cl, up, ex, ed, bw, pr, av, le, pa, pt', bs')) → wpY_quote post (yn, yl, yk, th, co, ca, cl, up, ex, ed, bw, pr, av, le, pa, pt, bs) (nI (6 * s + d)) (nI b) (nI m) := by
        intro post k1 k0
        unfold wpY_quote
        refine rl_f0 s6 d6 sd (br_t rfl (br_f a1 (br_f a2 (rl_s0 m32 (br_t rfl (And.intro aa_8n (And.intro aa_8n ?_)))))))
        rw [aa_mod8 (by omega), aa_div8 (by omega)]
        exact yc_find s6 d6 sd (by omega) b1 (by omega) tn_bt8 (tn_YOof h9) h4 h5 h3 h2 (fun L q yn' pt' bs' hb hbs => br_f (by decide) (k1 L q yn' pt' bs' hb)) (fun hn yn' yk' pt' bs' => br_t rfl (k0 hn yn' _ yk' pt' bs'))
      by_cases z : ∃ L q, pa_Val (tn_O th up cl (tn_ov le pa) B R K (m / 8) (nI (m % 8)) b 8) s d L q
      · obtain ⟨L, q, hb⟩ := sa_best (w := w) z
        refine ⟨nI (pa_pc w q L), fun post h => xq post (fun L' q' fo' op' ct' lk' dn' hb' => ?_) (fun hn => absurd hb.1 (hn L q)), fun post h => yq post (fun L' q' yn' pt' bs' hb' => ?_) (fun hn => absurd hb.1 (hn L q))⟩
        · rw [(pa_uniq hb hb').2.1] at h
          exact h _ _ _ _ _ _ _
        · rw [(pa_uniq hb hb').2.1] at h
          exact h _ _ _ _ _
      · exact ⟨-2, fun post h => xq post (fun L' q' fo' op' ct' lk' dn' hb' => absurd ⟨L', q', hb'.1⟩ z) (fun hn _ _ _ _ => h _ _ _ _ _ _ _), fun post h => yq post (fun L' q' yn' pt' bs' hb' => absurd ⟨L', q', hb'.1⟩ z) (fun hn _ _ _ _ _ => h _ _ _ _ _)⟩
    · exact ⟨-1, fun post h => by unfold wpX_quote; exact rl_e1 s6 d6 sd (br_f (by decide) (br_f a1 (br_f a2 (rl_t0 hm (br_t rfl (h _ _ _ _ _ _ _)))))), fun post h => by unfold wpY_quote; exact rl_f0 s6 d6 sd (br_t rfl (br_f a1 (br_f a2 (rl_s1 hm (br_f (by decide) (h _ _ _ _ _))))))⟩
  · exact ⟨-1, fun post h => by unfold wpX_quote; exact rl_e0 he (br_t rfl (h _ _ _ _ _ _ _)), fun post h => by unfold wpY_quote; exact rl_f1 he (br_f (by decide) (h _ _ _ _ _))⟩
/-- a path's cost by its links -/
theorem md_sum {w q : Nat → Nat} : ∀ {L : Nat}, (∀ i, i ≤ L → q i < 6) → (∀ i j, i < j → j ≤ L → q i ≠ q j) → aa_sm (fun c => @ite _ (∃ i, i < L ∧ aa_cd (q i) (q (i + 1)) = c) (Classical.propDecidable _) (w c) 0) 36 = pa_pc w q L := by
  intro L
  induction L with
  | zero =>
    intro _ _
    refine aa_sm_z fun c _ => ?_
    exact @if_neg _ (Classical.propDecidable _) (fun ⟨i, hi, _⟩ => absurd hi (Nat.not_lt_zero i)) _ _ _
  | succ L ih =>
    intro h6 hd
    have h1 := ih (fun i hi => h6 i (by omega)) (fun i j hij hj => hd i j hij (by omega))
    have hl := aa_cd_lt (h6 L (by omega)) (h6 (L + 1) (by omega))
    have no : ¬ ∃ i, i < L ∧ aa_cd (q i) (q (i + 1)) = aa_cd (q L) (q (L + 1)) := by
      rintro ⟨i, hi, e⟩
      rcases aa_cd_inj (h6 i (by omega)) (h6 (i + 1) (by omega)) (h6 L (by omega)) (h6 (L + 1) (by omega)) e with ⟨e1, _⟩ | ⟨e1, _⟩
      · exact hd i L hi (by omega) e1
      · exact hd i (L + 1) (by omega) (by omega) e1
    have u := aa_sm_upd (f := fun c => @ite _ (∃ i, i < L ∧ aa_cd (q i) (q (i + 1)) = c) (Classical.propDecidable _) (w c) 0) (g := fun c => @ite _ (∃ i, i < L + 1 ∧ aa_cd (q i) (q (i + 1)) = c) (Classical.propDecidable _) (w c) 0) (i := aa_cd (q L) (q (L + 1))) (n := 36) hl (by
      intro c hc
      have iff : (∃ i, i < L + 1 ∧ aa_cd (q i) (q (i + 1)) = c) ↔ (∃ i, i < L ∧ aa_cd (q i) (q (i + 1)) = c) := by
        constructor
        · rintro ⟨i, hi, e⟩
          by_cases z : i = L
          · rw [z] at e; exact absurd e.symm hc
          · exact ⟨i, by omega, e⟩
        · rintro ⟨i, hi, e⟩
          exact ⟨i, by omega, e⟩
      by_cases z : ∃ i, i < L ∧ aa_cd (q i) (q (i + 1)) = c
      · rw [if_pos z, if_pos (iff.mpr z)]
      · rw [if_neg z, if_neg (fun y => z (iff.mp y))])
    rw [if_neg no, if_pos ⟨L, by omega, rfl⟩, Nat.add_zero] at u
    rw [u, h1, pa_pcs]
theorem md_cs {w : Nat → Nat} {t L : Nat} {q : Nat → Nat} (h : tn_P le pa t L q) : mb_cs (tn_ov le pa) w t 36 = pa_pc w q L := by
  rw [← md_sum h.2.2.2.2.1 h.2.2.2.2.2]
  refine aa_sm_eq fun c _ => ?_
  have iff := tn_ovP (c := c) h
  by_cases z : tn_ov le pa t c = true
  · rw [if_pos z, if_pos (iff.mp z)]
  · rw [if_neg z, if_neg (fun y => z (iff.mpr y))]
theorem md_nm {q q' : Nat → Nat} {i : Nat} (he : ∀ j, j < i → q j = q' j) (hi : 1 ≤ i) (hl : q' i < q i) : ∀ n, i ≤ n → (∀ j, j ≤ n → q' j < 6) → pa_nm q' n < pa_nm q n := by
  intro n
  induction n with
  | zero => intro h; omega
  | succ n ih =>
    intro h h6
    rw [pa_nms, pa_nms]
    have := h6 (n + 1) (by omega)
    by_cases z : i = n + 1
    · have e : pa_nm q n = pa_nm q' n := pa_nm_c (fun j _ hj => he j (by omega))
      rw [← z, e]
      omega
    · have := ih (by omega) (fun j hj => h6 j (by omega))
      omega
def md_Same (L L0 : Nat) (q q0 : Nat → Nat) : Prop := L = L0 ∧ ∀ i, i ≤ L → q i = q0 i
theorem md_bet_l {post : Int32 → Prop} {t L : Nat} {q q0 : Nat → Nat} (ht : t < 8) (hP : tn_P le pa t L q0) (hfo : ∀ i, i ≤ L → fo i = nI (q i)) (h6 : ∀ i, i ≤ L → q i < 6) (h00 : q 0 = q0 0) (hnm : pa_nm q L ≤ pa_nm q0 L) (h1 : ¬ (∀ i, i ≤ L → q i = q0 i) → post 1) (h0 : (∀ i, i ≤ L → q i = q0 i) → post 0) : ∀ d i, i + d = L + 1 → (∀ j, j < i → q j = q0 j) → wX_isBetter_62 post (nI t) (nI (L + 1)) gk gb th up co ca cl ex pl fi la bw pr av cn pa us fo op ct lk dn gp rs cf qu en lo ab tr (d + 1) (nI i) := by
  obtain ⟨p1, p2, p3, p4, p5, p6⟩ := hP
  intro d
  induction d with
  | zero =>
    intro i hi he
    have e : i = L + 1 := by omega
    subst e
    exact br_t (nI_le (Nat.le_refl _) (by omega)) (h0 (fun j hj => he j (by omega)))
  | succ d ih =>
    intro i hi he
    have vi : vp_in (nI i) 6 := vp_in_nI (by omega) (by omega)
    have vj : vp_in (nI (6 * t + i)) 48 := vp_in_nI (by omega) (by omega)
    have a1 := h6 i (by omega)
    have a2 := p5 i (by omega)
    refine br_f (nI_ge (by omega) (by omega)) ?_
    rw [aa_6, nI_clamp (by omega), nI_clamp (by omega), hfo i (by omega), p4 i (by omega)]
    refine And.intro vi (And.intro vj (br_c (fun e => nm_r (nI_1 i) (ih (i + 1) (by omega) (fun j hj => ?_))) (fun e => And.intro vi (And.intro vj (br_c (fun z => ?_) (fun z => h1 (fun y => e (by rw [y i (by omega)]))))))))
    · rw [nI_eq (by omega) (by omega)] at e
      by_cases z : j = i
      · rw [z]; exact e
      · exact he j (by omega)
    · rw [nI_leI (by omega) (by omega)] at z
      have ne : q i ≠ q0 i := fun y => e (by rw [y])
      have i1 : 1 ≤ i := by
        rcases Nat.eq_zero_or_pos i with y | y
        · rw [y] at ne; exact absurd h00 ne
        · exact y
      have := md_nm he i1 (by omega) L (by omega) p5
      omega
theorem md_better {post : Int32 → Prop} {w f g : Nat → Nat} {t L L0 : Nat} {q q0 : Nat → Nat} (ht : t < 8) (hw : tn_v co w 36 20) (hT : tn_T ex pl cn le pa us f g) (hP : tn_P le pa t L0 q0) (hcn : cn t = nI (L0 + 1)) (hL : L ≤ 5) (hfo : ∀ i, i ≤ L → fo i = nI (q i)) (h6 : ∀ i, i ≤ L → q i < 6) (h00 : q 0 = q0 0) (hle : pa_Le (pa_pc w q L) L (pa_nm q L) (pa_pc w q0 L0) L0 (pa_nm q0 L0)) (h1 : ¬ md_Same L L0 q q0 → post 1) (h0 : md_Same L L0 q q0 → post 0) : wpX_isBetter post (nI (L + 1), nI (pa_pc w q L), gb, th, up, co, ca, cl, ex, pl, fi, la, bw, pr, av, cn, pa, us, fo, op, ct, lk, dn, gp, rs, cf, qu, en, lo, ab, tr) (nI t) := by
  have L05 := hP.2.1
  have vt : vp_in (nI t) 8 := vp_in_nI ht (by omega)
  have et : (nI t).toNatClampNeg = t := nI_clamp (by omega)
  have c1 := pa_pc_bd (w := w) (fun c hc => (hw c hc).2) h6
  have c2 := pa_pc_bd (w := w) (fun c hc => (hw c hc).2) hP.2.2.2.2.1
  unfold wpX_isBetter
  refine mb_costOf ht (tn_XOof hT) hw ?_
  rw [md_cs hP]
  refine br_c (fun e => And.intro vt ?_) (fun e => ?_)
  · rw [nI_eq (by omega) (by omega)] at e
    rw [et, hcn]
    refine br_c (fun k => ?_) (fun k => And.intro vt (br_c (fun z => ?_) (fun z => ?_)))
    · rw [nI_eq (by omega) (by omega)] at k
      have eL : L = L0 := by omega
      subst eL
      have hn : pa_nm q L ≤ pa_nm q0 L := by unfold pa_Le at hle; omega
      exact Exists.intro (L + 2) (md_bet_l ht hP hfo h6 h00 hn (fun z => h1 (fun y => z y.2)) (fun z => h0 ⟨rfl, z⟩) (L + 1) 0 (by omega) (fun j hj => absurd hj (Nat.not_lt_zero j)))
    · rw [nI_eq (by omega) (by omega)] at k
      rw [nI_leI (by omega) (by omega)] at z
      unfold pa_Le at hle
      omega
    · rw [nI_eq (by omega) (by omega)] at k
      exact h1 (fun y => k (by have := y.1; omega))
  · rw [nI_eq (by omega) (by omega)] at e
    refine br_c (fun z => ?_) (fun z => h1 (fun y => ?_))
    · rw [nI_leI (by omega) (by omega)] at z
      unfold pa_Le at hle
      omega
    · obtain ⟨y1, y2⟩ := y
      subst y1
      exact e (pa_pc_c y2)
theorem md_on_l {post : Int32 → Prop} {t L : Nat} {q q0 : Nat → Nat} (ht : t < 8) (hP : tn_P le pa t L q0) (hbs : ∀ i, i ≤ L → bs i = nI (q i)) (h6 : ∀ i, i ≤ L → q i < 6) (h1 : (∀ i, i ≤ L → q i = q0 i) → post 1) (h0 : ¬ (∀ i, i ≤ L → q i = q0 i) → post 0) : ∀ d i, i + d = L + 1 → (∀ j, j < i → q j = q0 j) → wY_isOnBest_17 post (nI t) yn (nI (L + 1)) yk th co ca cl up ex ed bw pr av le pa pt bs (d + 1) (nI i) := by
  obtain ⟨p1, p2, p3, p4, p5, p6⟩ := hP
  intro d
  induction d with
  | zero =>
    intro i hi he
    have e : i = L + 1 := by omega
    subst e
    exact br_t (nI_le (Nat.le_refl _) (by omega)) (h1 (fun j hj => he j (by omega)))
  | succ d ih =>
    intro i hi he
    have vi : vp_in (nI i) 6 := vp_in_nI (by omega) (by omega)
    have vj : vp_in (nI (6 * t + i)) 48 := vp_in_nI (by omega) (by omega)
    have a1 := h6 i (by omega)
    have a2 := p5 i (by omega)
    refine br_f (nI_ge (by omega) (by omega)) ?_
    rw [aa_6, nI_clamp (by omega), nI_clamp (by omega), hbs i (by omega), p4 i (by omega)]
    refine And.intro vj (And.intro vi (br_c (fun e => nm_r (nI_1 i) (ih (i + 1) (by omega) (fun j hj => ?_))) (fun e => h0 (fun y => e (by rw [y i (by omega)])))))
    rw [nI_eq (by omega) (by omega)] at e
    by_cases z : j = i
    · rw [z]; exact e.symm
    · exact he j (by omega)
theorem md_onBest {post : Int32 → Prop} {t L L0 : Nat} {q q0 : Nat → Nat} (ht : t < 8) (hP : tn_P le pa t L0 q0) (hL : L ≤ 5) (hbs : ∀ i, i ≤ L → bs i = nI (q i)) (h6 : ∀ i, i ≤ L → q i < 6) (h1 : md_Same L L0 q q0 → post 1) (h0 : ¬ md_Same L L0 q q0 → post 0) : wpY_isOnBest post (yn, nI (L + 1), yk, th, co, ca, cl, up, ex, ed, bw, pr, av, le, pa, pt, bs) (nI t) := by
  have L05 := hP.2.1
  have vt : vp_in (nI t) 8 := vp_in_nI ht (by omega)
  have et : (nI t).toNatClampNeg = t := nI_clamp (by omega)
  refine And.intro vt ?_
  rw [et, hP.2.2.1]
  refine br_c (fun k => ?_) (fun k => h0 (fun y => k (by rw [y.1])))
  rw [nI_eq (by omega) (by omega)] at k
  have eL : L = L0 := by omega
  subst eL
  exact Exists.intro (L + 2) (md_on_l ht hP hbs h6 (fun z => h1 ⟨rfl, z⟩) (fun z => h0 (fun y => z y.2)) (L + 1) 0 (by omega) (fun j hj => absurd hj (Nat.not_lt_zero j)))
/-- the way of a placed tunnel is fit for it -/
theorem md_fit {K B R f g : Nat → Nat} {t L : Nat} {q : Nat → Nat} (ht : t < 8) (hR3 : ∀ t, t < 8 → R t ≤ 3) (hP : tn_P le pa t L q) (hf : q 0 = f t) (hg : q L = g t) (hN : sa_NO th le pa B R K) (hM : sa_MP th up cl av le pa) : pa_Val (st_O th up cl av (tn_ov le pa) B R K t) (f t) (g t) L q := by
  obtain ⟨p1, p2, p3, p4, p5, p6⟩ := hP
  refine ⟨hf, hg, p5, p6, fun i hi => ?_⟩
  have hl := aa_cd_lt (p5 i (by omega)) (p5 (i + 1) (by omega))
  have ho : tn_ov le pa t (aa_cd (q i) (q (i + 1))) = true := (tn_ovP ⟨p1, p2, p3, p4, p5, p6⟩).mpr ⟨i, hi, rfl⟩
  have mp := hM t _ ht hl ho
  refine ⟨mp, ?_⟩
  have one := sa_tk_one (ov := tn_ov le pa) (ov' := tn_ov le pa) (B := B) (R := R) (c := aa_cd (q i) (q (i + 1))) (t0 := t) ht (fun _ _ _ => rfl)
  rw [if_pos ho] at one
  have pp := sa_tk_p (ov := tn_ov le pa) (B := B) (R := R) (c := aa_cd (q i) (q (i + 1))) (p := R t) (but := 8) hR3
  have nn : ¬ K (aa_cd (q i) (q (i + 1))) < tn_tk (tn_ov le pa) B R (aa_cd (q i) (q (i + 1))) 3 8 := fun z => hN _ hl ⟨mp.1, z⟩
  omega
theorem md_improve (hR : rl_R th up co ca cl ex pl fi la bw pr av cn pa ed le us) (v1 : Int32) : ∃ r pl' cn' pa' us' le', rl_R th up co ca cl ex pl' fi la bw pr av cn' pa' ed le' us' ∧
    (∀ post : Int32 → SX → Prop, (∀ gc' gk' fo' op' ct' lk' dn', post r (gc', gk', gb, th, up, co, ca, cl, ex, pl', fi, la, bw, pr, av, cn', pa', us', fo', op', ct', lk', dn', gp, rs, cf, qu, en, lo, ab, tr)) → wpX_improve post (gc, gk, gb, th, up, co, ca, cl, ex, pl, fi, la, bw, pr, av, cn, pa, us, fo, op, ct, lk, dn, gp, rs, cf, qu, en, lo, ab, tr) v1) ∧
    (∀ post : Int32 → SY → Prop, (∀ yn' yl' yk' pt' bs', post r (yn', yl', yk', th, co, ca, cl, up, ex, ed, bw, pr, av, le', pa', pt', bs')) → wpY_improve post (yn, yl, yk, th, co, ca, cl, up, ex, ed, bw, pr, av, le, pa, pt, bs) v1) := by
  by_cases ht : rl_lim 8 v1
  · obtain ⟨t, t8, rfl⟩ := ht
    have vi : vp_in (nI t) 8 := vp_in_nI t8 (by omega)
    have et : (nI t).toNatClampNeg = t := nI_clamp (by omega)
    by_cases x : ex (nI t).toNatClampNeg = 0
    · exact ⟨-2, _, _, _, _, _, hR, fun post h => by unfold wpX_improve; exact rl_u1 t8 (br_f (by decide) (And.intro vi (br_t x (h _ _ _ _ _ _ _)))), fun post h => by unfold wpY_improve; exact rl_v0 t8 (br_t rfl (And.intro vi (br_t x (h _ _ _ _ _))))⟩
    · have hR0 := hR
      obtain ⟨w, K, B, R, f, g, ⟨h1, h2, h3, h4, h5, h6, h7, h8, h9⟩, hN, hM⟩ := hR
      have hR3 : ∀ t, t < 8 → R t ≤ 3 := fun t ht => (h5 t ht).2
      rcases h9 t t8 with ⟨p, l⟩ | ⟨p, hex, hcn, L0, q0, hP, hq0, hq1, hus⟩
      · rw [← et] at p l
        exact ⟨0, _, _, _, _, _, hR0, fun post h => by unfold wpX_improve; exact rl_u1 t8 (br_f (by decide) (And.intro vi (br_f x (And.intro vi (br_t p (h _ _ _ _ _ _ _)))))), fun post h => by unfold wpY_improve; exact rl_v0 t8 (br_t rfl (And.intro vi (br_f x (And.intro vi (br_t l (h _ _ _ _ _))))))⟩
      · have px : ¬ pl (nI t).toNatClampNeg = 0 := by rw [et, p]; decide
        have lx : ¬ le (nI t).toNatClampNeg = 0 := by rw [et, hP.2.2.1]; exact nI_ne0 (by omega) (by have := hP.2.1; omega)
        have hE := h8 t t8
        have hfg := hE.2 hex
        have hv0 := md_fit (B := B) (R := R) (K := K) (f := f) (g := g) t8 hR3 hP hq0 hq1 hN hM
        obtain ⟨L, q, hb⟩ := sa_best (w := w) ⟨L0, q0, hv0⟩
        have f6 := (h6 t t8).2
        have g6 := (h7 t t8).2
        have xm : ∀ (post : Int32 → SX → Prop), (∀ gc' gk' fo' op' ct' lk' dn', md_Same L L0 q q0 → post 0 (gc', gk', gb, th, up, co, ca, cl, ex, pl, fi, la, bw, pr, av, cn, pa, us, fo', op', ct', lk', dn', gp, rs, cf, qu, en, lo, ab, tr)) → (∀ gc' gk' fo' op' ct' lk' dn', ¬ md_Same L L0 q q0 → wpX_settle (fun r u => post 1 u) (gc', gk', gb, th, up, co, ca, cl, ex, upd pl t 1, fi, la, bw, pr, av, upd cn t (nI (L + 1)), st_pa pa t q (L + 1), vp_updL us t (st_m q L), fo', op', ct', lk', dn', gp, rs, cf, qu, en, lo, ab, tr)) → wpX_improve post (gc, gk, gb, th, up, co, ca, cl, ex, pl, fi, la, bw, pr, av, cn, pa, us, fo, op, ct, lk, dn, gp, rs, cf, qu, en, lo, ab, tr) (nI t) := by
          intro post k0 k1
          unfold wpX_improve
          refine rl_u1 t8 (br_f (by decide) (And.intro vi (br_f x (And.intro vi (br_f px (xs_findFor t8 (tn_XOof h9) h4 h5 h3 h2 h6 h7 (fun L' q' fo' op' ct' lk' dn' hb' hfo => br_f (by decide) ?_) (fun hn => absurd hv0 (hn L0 q0))))))))
          obtain ⟨e1, e2, e3⟩ := pa_uniq hb hb'
          subst e1
          have sm : md_Same L L0 q' q0 ↔ md_Same L L0 q q0 := by
            constructor
            · rintro ⟨y1, y2⟩; exact ⟨y1, fun i hi => (e3 i hi).trans (y2 i hi)⟩
            · rintro ⟨y1, y2⟩; exact ⟨y1, fun i hi => (e3 i hi).symm.trans (y2 i hi)⟩
          refine md_better t8 h2 h9 hP (hcn.trans hP.2.2.1) hb'.2.1 hfo hb'.1.2.2.1 (hb'.1.1.trans hq0.symm) (hb'.2.2 L0 q0 hv0) (fun z => br_f (by decide) (xs_place t8 hb'.2.1 hb'.1.2.2.1 hfo ?_)) (fun z => br_t rfl (k0 _ _ _ _ _ _ _ (sm.mp z)))
          rw [← st_pa_c (q := q) (q' := q') (fun i hi => e3 i (by omega)), ← sa_m_c (q := q) (q' := q') e3]
          exact k1 _ _ _ _ _ _ _ (fun y => z (sm.mpr y))
        have ym : ∀ (post : Int32 → SY → Prop), (∀ yn' yl' yk' pt' bs', md_Same L L0 q q0 → post 0 (yn', yl', yk', th, co, ca, cl, up, ex, ed, bw, pr, av, le, pa, pt', bs')) → (∀ yn' yl' yk' pt' bs', ¬ md_Same L L0 q q0 → wpY_settle (fun r u => post 1 u) (yn', yl', yk', th, co, ca, cl, up, ex, ed, bw, pr, av, upd le t (nI (L + 1)), st_pa pa t q (L + 1), pt', bs')) → wpY_improve post (yn, yl, yk, th, co, ca, cl, up, ex, ed, bw, pr, av, le, pa, pt, bs) (nI t) := by
          intro post k0 k1
          unfold wpY_improve
          refine rl_v0 t8 (br_t rfl (And.intro vi (br_f x (And.intro vi (br_f lx (And.intro vi (And.intro vi (And.intro vi (And.intro vi ?_)))))))))
          rw [et, hE.1, (h4 t t8).1, (h5 t t8).1]
          refine yc_find (by omega) (by omega) hfg.1 (by have := (h5 t t8).2; omega) hfg.2 (by have := (h4 t t8).2; omega) (tn_btN t8) (tn_YOof h9) h4 h5 h3 h2 (fun L' q' yn' pt' bs' hb' hbs => ?_) (fun hn => absurd hv0 (hn L0 q0))
          obtain ⟨e1, e2, e3⟩ := pa_uniq hb hb'
          subst e1
          have sm : md_Same L L0 q' q0 ↔ md_Same L L0 q q0 := by
            constructor
            · rintro ⟨y1, y2⟩; exact ⟨y1, fun i hi => (e3 i hi).trans (y2 i hi)⟩
            · rintro ⟨y1, y2⟩; exact ⟨y1, fun i hi => (e3 i hi).symm.trans (y2 i hi)⟩
          refine md_onBest t8 hP hb'.2.1 hbs hb'.1.2.2.1 (fun z => br_f (by decide) (k0 _ _ _ _ _ (sm.mp z))) (fun z => br_t rfl (yd_place t8 hb'.2.1 hbs ?_))
          rw [← st_pa_c (q := q) (q' := q') (fun i hi => e3 i (by omega))]
          exact k1 _ _ _ _ _ (fun y => z (sm.mpr y))
        by_cases same : md_Same L L0 q q0
        · exact ⟨0, _, _, _, _, _, hR0, fun post h => xm post (fun _ _ _ _ _ _ _ _ => h _ _ _ _ _ _ _) (fun _ _ _ _ _ _ _ z => absurd same z), fun post h => ym post (fun _ _ _ _ _ _ => h _ _ _ _ _) (fun _ _ _ _ _ z => absurd same z)⟩
        · obtain ⟨n, pl', cn', us', pa', le', o1, o2, oX, oY⟩ := rl_settle (up := up) (cl := cl) (av := av) (th := th) (co := co) (ca := ca) ⟨h1, h2, h3, h4, h5, h6, h7, h8, sa_Tplace h9 t8 hex hfg.1 hb.1⟩
          exact ⟨1, pl', cn', pa', us', le', o1, fun post h => xm post (fun _ _ _ _ _ _ _ z => absurd z same) (fun _ _ _ _ _ _ _ _ => oX _ _ _ _ _ _ _ _ _ _ _ _ _ _ _ _ _ h), fun post h => ym post (fun _ _ _ _ _ z => absurd z same) (fun _ _ _ _ _ _ => oY _ _ _ _ _ _ h)⟩
  · exact ⟨-1, _, _, _, _, _, hR, fun post h => by unfold wpX_improve; exact rl_u0 ht (br_t rfl (h _ _ _ _ _ _ _)), fun post h => by unfold wpY_improve; exact rl_v1 ht (br_f (by decide) (h _ _ _ _ _))⟩
end MD
end
section
section ME
/-! groups of nodes, sets of nodes as bits -/
theorem me_or (a b : Nat) : nI a ||| nI b = nI (a ||| b) := by
  apply Int32.toBitVec_inj.1
  rw [Int32.toBitVec_or]
  show BitVec.ofNat 32 a ||| BitVec.ofNat 32 b = BitVec.ofNat 32 (a ||| b)
  apply BitVec.eq_of_getLsbD_eq
  intro i hi
  rw [BitVec.getLsbD_or, BitVec.getLsbD_ofNat, BitVec.getLsbD_ofNat, BitVec.getLsbD_ofNat, Nat.testBit_or]
  simp [hi]
theorem me_pw : ∀ l, l < 6 → (1 : Int32) <<< (nI l &&& 31) = nI (2 ^ l) := by decide +kernel
/-- a node's bit -/
def me_b (m v : Nat) : Nat := m / 2 ^ v % 2
theorem me_bit {m v : Nat} (hm : m < 64) (hv : v < 6) : ((nI m >>> (nI v &&& 31)) &&& 1) = nI (me_b m v) := by
  rw [pk_shrN (by omega) (nI v &&& 31) v (s_l v (by omega))]
  have h : m / 2 ^ v ≤ m := Nat.div_le_self _ _
  rw [pk_andN (by omega) 1 (by decide)]
  rfl
theorem me_b01 (m v : Nat) : me_b m v = 0 ∨ me_b m v = 1 := by
  unfold me_b
  omega
theorem me_1 {m v : Nat} (hm : m < 64) (hv : v < 6) : ((nI m >>> (nI v &&& 31)) &&& 1) = 1 ↔ me_b m v = 1 := by
  rw [me_bit hm hv]
  have := me_b01 m v
  exact nI_eq (b := 1) (by omega) (by omega)
theorem me_0 {m v : Nat} (hm : m < 64) (hv : v < 6) : ((nI m >>> (nI v &&& 31)) &&& 1) = 0 ↔ me_b m v = 0 := by
  rw [me_bit hm hv]
  have := me_b01 m v
  exact nI_eq (b := 0) (by omega) (by omega)
theorem me_ob : ∀ m, m < 64 → ∀ l, l < 6 → (m ||| 2 ^ l) < 64 ∧ ∀ v, v < 6 → me_b (m ||| 2 ^ l) v = if v = l then 1 else me_b m v := by decide +kernel
theorem me_lo : ∀ l, l < 6 → 2 ^ l < 64 ∧ ∀ v, v < 6 → me_b (2 ^ l) v = if v = l then 1 else 0 := by decide +kernel
theorem me_md : ∀ m, m < 64 → ∀ k, k < 6 → (m % 2 ^ k = 0 ↔ ∀ u, u < k → me_b m u = 0) := by decide +kernel
theorem me_mk1 : ∀ k, k < 6 → ((1 : Int32) <<< (nI k &&& 31) - 1).toBitVec.toNat = 2 ^ k - 1 := by decide +kernel
/-- how many -/
def me_pc (m : Nat) : Nat → Nat := aa_sm (me_b m)
theorem me_pcs : ∀ m, m < 64 → ∀ l, l < 6 → me_pc (m ||| 2 ^ l) 6 = me_pc m 6 + (if me_b m l = 1 then 0 else 1) := by decide +kernel
def me_set (g : Nat → Nat) : Nat → Nat
  | 0 => 0
  | n + 1 => me_set g n ||| 2 ^ (g n)
theorem me_sets (g : Nat → Nat) (n : Nat) : me_set g (n + 1) = me_set g n ||| 2 ^ (g n) := rfl
theorem me_setb {g : Nat → Nat} : ∀ {n : Nat}, (∀ v, v < n → g v < 6) → me_set g n < 64 ∧ ∀ l, l < 6 → (me_b (me_set g n) l = 1 ↔ ∃ u, u < n ∧ g u = l) := by
  intro n
  induction n with
  | zero =>
    intro _
    refine ⟨show 0 < 64 by decide, fun l hl => ⟨fun h => ?_, fun ⟨u, hu, _⟩ => absurd hu (Nat.not_lt_zero u)⟩⟩
    unfold me_b me_set at h
    rw [Nat.zero_div] at h
    omega
  | succ n ih =>
    intro h
    obtain ⟨i1, i2⟩ := ih (fun v hv => h v (by omega))
    have gn := h n (by omega)
    obtain ⟨o1, o2⟩ := me_ob _ i1 _ gn
    refine ⟨o1, fun l hl => ?_⟩
    rw [me_sets, o2 l hl]
    by_cases e : l = g n
    · rw [if_pos e]
      exact ⟨fun _ => ⟨n, by omega, e.symm⟩, fun _ => rfl⟩
    · rw [if_neg e, i2 l hl]
      constructor
      · rintro ⟨u, hu, eu⟩; exact ⟨u, by omega, eu⟩
      · rintro ⟨u, hu, eu⟩
        refine ⟨u, ?_, eu⟩
        by_cases z : u = n
        · rw [z] at eu; exact absurd eu.symm e
        · omega
/-- nodes that are the first of their group -/
noncomputable def me_fst (P : Nat → Prop) : Nat → Nat := aa_sm (fun v => @ite _ (∀ u, u < v → ¬ cn_C P v u) (Classical.propDecidable _) 1 0)
theorem me_fsts (P : Nat → Prop) (n : Nat) : me_fst P (n + 1) = me_fst P n + @ite _ (∀ u, u < n → ¬ cn_C P n u) (Classical.propDecidable _) 1 0 := rfl
theorem me_count {P : Nat → Prop} {g : Nat → Nat} (hL : cn_Lab P g) (h6 : ∀ v, v < 6 → g v < 6) : ∀ n, n ≤ 6 → me_pc (me_set g n) 6 = me_fst P n := by
  intro n
  induction n with
  | zero => intro _; show me_pc 0 6 = 0; decide
  | succ n ih =>
    intro hn
    obtain ⟨s1, s2⟩ := me_setb (g := g) (n := n) (fun v hv => h6 v (by omega))
    have gn := h6 n (by omega)
    rw [me_sets, me_pcs _ s1 _ gn, ih (by omega), me_fsts]
    have iff : me_b (me_set g n) (g n) = 1 ↔ ¬ ∀ u, u < n → ¬ cn_C P n u := by
      rw [s2 _ gn]
      constructor
      · rintro ⟨u, hu, e⟩ z
        exact z u hu ((hL n u (by omega) (by omega)).mp e.symm)
      · intro z
        by_cases y : ∃ u, u < n ∧ g u = g n
        · exact y
        · exact absurd (fun u hu c => y ⟨u, hu, ((hL n u (by omega) (by omega)).mpr c).symm⟩) z
    by_cases z : ∀ u, u < n → ¬ cn_C P n u
    · rw [if_pos z, if_neg (fun y => (iff.mp y) z)]
    · rw [if_neg z, if_pos (iff.mpr z)]
variable {gc gk gb : Int32} {th up co ca cl ex pl fi la bw pr av cn pa fo op ct lk dn gp rs cf qu en lo ab tr : Nat → Int32} {us : Nat → Int64}
theorem me_opG_l {post : SX → Prop} (h : ∀ gp', (∀ v, v < 6 → gp' v = nI v) → post (gc, gk, gb, th, up, co, ca, cl, ex, pl, fi, la, bw, pr, av, cn, pa, us, fo, op, ct, lk, dn, gp', rs, cf, qu, en, lo, ab, tr)) : ∀ d i gp', i + d = 6 → (∀ v, v < i → gp' v = nI v) → wX_openGroups_2 post gc gk gb (d + 1) (nI i) th up co ca cl ex pl fi la bw pr av cn pa us fo op ct lk dn gp' rs cf qu en lo ab tr := by
  intro d
  induction d with
  | zero =>
    intro i gp' hi hg
    have e : i = 6 := by omega
    subst e
    exact br_t (nI_le (a := 6) (by omega) (by omega)) (h gp' hg)
  | succ d ih =>
    intro i gp' hi hg
    refine br_f (nI_ge (b := 6) (by omega) (by omega)) (And.intro (vp_in_nI (by omega) (by omega)) (nm_r (e' := upd gp' i (nI i)) (by rw [nI_clamp (by omega)]) (nm_r (nI_1 i) (ih (i + 1) _ (by omega) (fun v hv => ?_)))))
    by_cases e : v = i
    · subst e; exact pk_us
    · rw [pk_un e]; exact hg v (by omega)
theorem me_opG {post : SX → Prop} (h : ∀ gp', (∀ v, v < 6 → gp' v = nI v) → post (gc, gk, gb, th, up, co, ca, cl, ex, pl, fi, la, bw, pr, av, cn, pa, us, fo, op, ct, lk, dn, gp', rs, cf, qu, en, lo, ab, tr)) : wpX_openGroups post (gc, gk, gb, th, up, co, ca, cl, ex, pl, fi, la, bw, pr, av, cn, pa, us, fo, op, ct, lk, dn, gp, rs, cf, qu, en, lo, ab, tr) :=
  Exists.intro 7 (me_opG_l h 6 0 gp rfl (fun v hv => absurd hv (Nat.not_lt_zero v)))
def me_j (g : Nat → Nat) (c : Nat) : Nat → Nat := fun v => if g v = g (c / 6) then g (c % 6) else g v
theorem me_join_l {post : SX → Prop} {g : Nat → Nat} {c : Nat} (hc : c < 36) (hg : ∀ v, v < 6 → g v ≤ 5) (h : ∀ gp', tn_v gp' (me_j g c) 6 5 → post (gc, gk, gb, th, up, co, ca, cl, ex, pl, fi, la, bw, pr, av, cn, pa, us, fo, op, ct, lk, dn, gp', rs, cf, qu, en, lo, ab, tr)) : ∀ d i gp', i + d = 6 → (∀ v, v < i → gp' v = nI (me_j g c v)) → (∀ v, v < 6 → i ≤ v → gp' v = nI (g v)) → wX_join_23 post (nI (g (c / 6))) (nI (g (c % 6))) gc gk gb (d + 1) (nI i) th up co ca cl ex pl fi la bw pr av cn pa us fo op ct lk dn gp' rs cf qu en lo ab tr := by
  intro d
  induction d with
  | zero =>
    intro i gp' hi h1 h2
    have e : i = 6 := by omega
    subst e
    refine br_t (nI_le (a := 6) (by omega) (by omega)) (h gp' (fun v hv => ⟨h1 v hv, ?_⟩))
    unfold me_j
    split
    · exact hg _ (by omega)
    · exact hg v hv
  | succ d ih =>
    intro i gp' hi h1 h2
    have i6 : i < 6 := by omega
    have ei : (nI i).toNatClampNeg = i := nI_clamp (by omega)
    have vi : vp_in (nI i) 6 := vp_in_nI i6 (by omega)
    have gi := h2 i i6 (Nat.le_refl _)
    have b1 := hg i i6
    have b2 := hg (c / 6) (by omega)
    have nx : wX_join_23 post (nI (g (c / 6))) (nI (g (c % 6))) gc gk gb (d + 1) (nI (i + 1)) th up co ca cl ex pl fi la bw pr av cn pa us fo op ct lk dn (upd gp' i (nI (me_j g c i))) rs cf qu en lo ab tr := by
      refine ih (i + 1) _ (by omega) (fun v hv => ?_) (fun v hv hv' => ?_)
      · by_cases e : v = i
        · subst e; exact pk_us
        · rw [pk_un e]; exact h1 v (by omega)
      · rw [pk_un (by omega)]; exact h2 v hv (by omega)
    refine br_f (nI_ge (b := 6) (by omega) (by omega)) (And.intro vi (br_c (fun e => And.intro vi (nm_r (e' := upd gp' i (nI (me_j g c i))) ?_ (nm_r (nI_1 i) nx))) (fun e => And.intro vi (And.intro vi (nm_r (e' := upd gp' i (nI (me_j g c i))) ?_ (nm_r (nI_1 i) nx))))))
    · rw [ei, gi, nI_eq (by omega) (by omega)] at e
      unfold me_j
      rw [ei, if_pos e]
    · rw [ei, gi, nI_eq (by omega) (by omega)] at e
      unfold me_j
      rw [ei, gi, if_neg e]
theorem me_join {post : SX → Prop} {g : Nat → Nat} {c : Nat} (hc : c < 36) (hg : tn_v gp g 6 5) (h : ∀ gp', tn_v gp' (me_j g c) 6 5 → post (gc, gk, gb, th, up, co, ca, cl, ex, pl, fi, la, bw, pr, av, cn, pa, us, fo, op, ct, lk, dn, gp', rs, cf, qu, en, lo, ab, tr)) : wpX_join post (gc, gk, gb, th, up, co, ca, cl, ex, pl, fi, la, bw, pr, av, cn, pa, us, fo, op, ct, lk, dn, gp, rs, cf, qu, en, lo, ab, tr) (nI c) := by
  refine And.intro aa_6n ?_
  rw [aa_mod6 (by omega), aa_div6 (by omega)]
  refine And.intro (vp_in_nI (by omega) (by omega)) (nm_r (e' := nI (g (c / 6))) (by rw [nI_clamp (by omega)]; exact (hg _ (by omega)).1) (And.intro aa_6n (And.intro (vp_in_nI (by omega) (by omega)) (nm_r (e' := nI (g (c % 6))) (by rw [nI_clamp (by omega)]; exact (hg _ (by omega)).1) (Exists.intro 7 (me_join_l hc (fun v hv => (hg v hv).2) h 6 0 gp rfl (fun v hv => absurd hv (Nat.not_lt_zero v)) (fun v hv _ => (hg v hv).1)))))))
def me_U (th up : Nat → Int32) (c : Nat) : Prop := ¬ th c = 0 ∧ ¬ up c = 0
theorem me_opU_l {post : SX → Prop} (h : ∀ o, tn_Op o (me_U th up) → post (gc, gk, gb, th, up, co, ca, cl, ex, pl, fi, la, bw, pr, av, cn, pa, us, fo, o, ct, lk, dn, gp, rs, cf, qu, en, lo, ab, tr)) : ∀ d i o, i + d = 36 → (∀ c, c < i → (¬ o c = 0 ↔ c / 6 < c % 6 ∧ me_U th up c)) → wX_openUp_2 post gc gk gb (d + 1) (nI i) th up co ca cl ex pl fi la bw pr av cn pa us fo o ct lk dn gp rs cf qu en lo ab tr := by
  intro d
  induction d with
  | zero =>
    intro i o hi ho
    have e : i = 36 := by omega
    subst e
    exact br_t (nI_le (a := 36) (by omega) (by omega)) (h o ho)
  | succ d ih =>
    intro i o hi ho
    have hi36 : i < 36 := by omega
    have ei : (nI i).toNatClampNeg = i := nI_clamp (by omega)
    have step : ∀ v : Int32, (¬ v = 0 ↔ i / 6 < i % 6 ∧ me_U th up i) → wX_openUp_2 post gc gk gb (d + 1) (nI (i + 1)) th up co ca cl ex pl fi la bw pr av cn pa us fo (upd o i v) ct lk dn gp rs cf qu en lo ab tr := by
      intro v hv
      refine ih (i + 1) (upd o i v) (by omega) (fun c hc => ?_)
      by_cases e : c = i
      · subst e; rw [pk_us]; exact hv
      · rw [pk_un e]; exact ho c (by omega)
    have e0 : upd o (nI i).toNatClampNeg (vp_nar .boolean 0) = upd o i 0 := by rw [ei, aa_b0]
    have e1 : upd o (nI i).toNatClampNeg (vp_nar .boolean 1) = upd o i 1 := by rw [ei, aa_b1]
    have vi : vp_in (nI i) 36 := vp_in_nI hi36 (by omega)
    have s0 : ¬ (i / 6 < i % 6 ∧ me_U th up i) → wX_openUp_2 post gc gk gb (d + 1) (nI (i + 1)) th up co ca cl ex pl fi la bw pr av cn pa us fo (upd o i 0) ct lk dn gp rs cf qu en lo ab tr := fun hn => step 0 ⟨fun z => absurd rfl z, fun z => absurd z hn⟩
    refine br_f (nI_ge (b := 36) (by omega) (by omega)) (xa_isCode hi36 (fun hc => br_f (by decide) (And.intro vi (br_c (fun a => And.intro vi (nm_r e0 (nm_r (nI_1 i) (s0 (fun z => z.2.1 ?_))))) (fun a => And.intro vi (br_c (fun b => And.intro vi (nm_r e0 (nm_r (nI_1 i) (s0 (fun z => z.2.2 ?_))))) (fun b => And.intro vi (nm_r e1 (nm_r (nI_1 i) (step 1 ⟨fun _ => ⟨hc, ?_, ?_⟩, fun _ => by decide⟩))))))))) (fun hc => br_t rfl (And.intro vi (nm_r e0 (nm_r (nI_1 i) (s0 (fun z => hc z.1)))))))
    · rw [ei] at a; exact a
    · rw [ei] at b; exact b
    · rw [ei] at a; exact a
    · rw [ei] at b; exact b
theorem me_opU {post : SX → Prop} (h : ∀ o, tn_Op o (me_U th up) → post (gc, gk, gb, th, up, co, ca, cl, ex, pl, fi, la, bw, pr, av, cn, pa, us, fo, o, ct, lk, dn, gp, rs, cf, qu, en, lo, ab, tr)) : wpX_openUp post (gc, gk, gb, th, up, co, ca, cl, ex, pl, fi, la, bw, pr, av, cn, pa, us, fo, op, ct, lk, dn, gp, rs, cf, qu, en, lo, ab, tr) :=
  Exists.intro 37 (me_opU_l h 36 0 op rfl (fun c hc => absurd hc (Nat.not_lt_zero c)))
/-- labels for the links below i -/
theorem me_labS {P : Nat → Prop} {g : Nat → Nat} {c : Nat} (hc : c < 36) (cc : c / 6 < c % 6) (h : cn_Lab P g) : cn_Lab (fun x => P x ∨ x = c) (me_j g c) := by
  have := cn_join (x := c / 6) (y := c % 6) (g' := me_j g c) (by omega) (by omega) (by omega) h (fun v _ => rfl)
  rw [aa_cd_of hc cc] at this
  exact this
theorem me_gr67 {post : Int32 → SX → Prop} {m : Nat} (hm : m < 64) (h : post (nI (me_pc m 6)) (gc, gk, gb, th, up, co, ca, cl, ex, pl, fi, la, bw, pr, av, cn, pa, us, fo, op, ct, lk, dn, gp, rs, cf, qu, en, lo, ab, tr)) : ∀ d i, i + d = 6 → wX_groups_67 post (nI m) gc gk gb th up co ca cl ex pl fi la bw pr av cn pa us fo op ct lk dn gp rs cf qu en lo ab tr (d + 1) (nI (me_pc m i)) (nI i) := by
  intro d
  induction d with
  | zero =>
    intro i hi
    have e : i = 6 := by omega
    subst e
    exact br_t (nI_le (a := 6) (by omega) (by omega)) h
  | succ d ih =>
    intro i hi
    refine br_f (nI_ge (b := 6) (by omega) (by omega)) (nm_r (e' := nI (me_pc m (i + 1))) ?_ (nm_r (nI_1 i) (ih (i + 1) (by omega))))
    rw [me_bit hm (by omega), nI_add]
    rfl
theorem me_gr40 {post : Int32 → SX → Prop} {g : Nat → Nat} (hg : tn_v gp g 6 5) (h : post (nI (me_pc (me_set g 6) 6)) (gc, gk, gb, th, up, co, ca, cl, ex, pl, fi, la, bw, pr, av, cn, pa, us, fo, op, ct, lk, dn, gp, rs, cf, qu, en, lo, ab, tr)) : ∀ d i, i + d = 6 → wX_groups_40 post gc gk gb th up co ca cl ex pl fi la bw pr av cn pa us fo op ct lk dn gp rs cf qu en lo ab tr (d + 1) (nI (me_set g i)) (nI i) := by
  intro d
  induction d with
  | zero =>
    intro i hi
    have e : i = 6 := by omega
    subst e
    exact br_t (nI_le (a := 6) (by omega) (by omega)) (Exists.intro 7 (me_gr67 (me_setb (fun v hv => by have := (hg v hv).2; omega)).1 h 6 0 rfl))
  | succ d ih =>
    intro i hi
    refine br_f (nI_ge (b := 6) (by omega) (by omega)) (And.intro (vp_in_nI (by omega) (by omega)) (nm_r (e' := nI (me_set g (i + 1))) ?_ (nm_r (nI_1 i) (ih (i + 1) (by omega)))))
    have gi := hg i (by omega)
    rw [nI_clamp (by omega), gi.1, me_pw _ (by omega), me_or, me_sets]
theorem me_gr10 {post : Int32 → SX → Prop} (ho : tn_Op op (me_U th up)) (h : ∀ gp' g, tn_v gp' g 6 5 → cn_Lab (fun c => c / 6 < c % 6 ∧ me_U th up c) g → post (nI (me_pc (me_set g 6) 6)) (gc, gk, gb, th, up, co, ca, cl, ex, pl, fi, la, bw, pr, av, cn, pa, us, fo, op, ct, lk, dn, gp', rs, cf, qu, en, lo, ab, tr)) : ∀ d i gp' g, i + d = 36 → tn_v gp' g 6 5 → cn_Lab (fun c => c < i ∧ (c / 6 < c % 6 ∧ me_U th up c)) g → wX_groups_10 post (d + 1) (nI i) gc gk gb th up co ca cl ex pl fi la bw pr av cn pa us fo op ct lk dn gp' rs cf qu en lo ab tr := by
  intro d
  induction d with
  | zero =>
    intro i gp' g hi hg hL
    have e : i = 36 := by omega
    subst e
    exact br_t (nI_le (a := 36) (by omega) (by omega)) (Exists.intro 7 (me_gr40 hg (h gp' g hg (cn_labP hL (fun c hc => ⟨fun z => z.2, fun z => ⟨hc, z⟩⟩))) 6 0 rfl))
  | succ d ih =>
    intro i gp' g hi hg hL
    have i36 : i < 36 := by omega
    have ei : (nI i).toNatClampNeg = i := nI_clamp (by omega)
    have iff := ho i i36
    refine br_f (nI_ge (b := 36) (by omega) (by omega)) (And.intro (vp_in_nI i36 (by omega)) (br_c (fun a => nm_r (nI_1 i) (ih (i + 1) gp' g (by omega) hg (cn_labP hL (fun c hc => ?_)))) (fun a => me_join i36 hg (fun gp2 hg2 => nm_r (nI_1 i) (ih (i + 1) gp2 _ (by omega) hg2 (cn_labP (me_labS i36 ?_ hL) (fun c hc => ?_)))))))
    · rw [ei] at a
      constructor
      · rintro ⟨z1, z2⟩; exact ⟨by omega, z2⟩
      · rintro ⟨z1, z2⟩
        refine ⟨?_, z2⟩
        by_cases e : c = i
        · rw [e] at z2; exact absurd a (iff.mpr z2)
        · omega
    · rw [ei] at a
      exact (iff.mp a).1
    · rw [ei] at a
      constructor
      · rintro (⟨z1, z2⟩ | z)
        · exact ⟨by omega, z2⟩
        · subst z; exact ⟨by omega, iff.mp a⟩
      · rintro ⟨z1, z2⟩
        by_cases e : c = i
        · exact Or.inr e
        · exact Or.inl ⟨by omega, z2⟩
theorem me_groupsX {post : Int32 → SX → Prop} (h : ∀ op' gp', post (nI (me_fst (fun c => c / 6 < c % 6 ∧ me_U th up c) 6)) (gc, gk, gb, th, up, co, ca, cl, ex, pl, fi, la, bw, pr, av, cn, pa, us, fo, op', ct, lk, dn, gp', rs, cf, qu, en, lo, ab, tr)) : wpX_groups post (gc, gk, gb, th, up, co, ca, cl, ex, pl, fi, la, bw, pr, av, cn, pa, us, fo, op, ct, lk, dn, gp, rs, cf, qu, en, lo, ab, tr) := by
  unfold wpX_groups
  refine me_opU (fun o ho => me_opG (fun gp0 h0 => Exists.intro 37 (me_gr10 ho (fun gp' g hg hL => ?_) 36 0 gp0 (fun v => v) rfl (fun v hv => ⟨h0 v hv, show v ≤ 5 by omega⟩) (cn_lab0 (fun c _ z => absurd z.1 (Nat.not_lt_zero c)) (fun v _ => rfl)))))
  rw [me_count hL (fun v hv => by have := (hg v hv).2; omega) 6 (Nat.le_refl _)]
  exact h o gp'
end ME
end
section
section MF
/-! what is reached -/
variable {yn yl yk : Int32} {th co ca cl up ex ed bw pr av le pa pt bs : Nat → Int32}
variable {gc gk gb : Int32} {pl fi la cn fo op ct lk dn gp rs cf qu en lo ab tr : Nat → Int32} {us : Nat → Int64}
def mf_G (th up : Nat → Int32) (but c : Nat) : Prop := c ≠ but ∧ me_U th up c
def mf_In (G : Nat → Prop) (a m0 i m : Nat) : Prop := m < 64 ∧ (∀ v, v < 6 → me_b m0 v = 1 → me_b m v = 1) ∧ (∀ c, c < i → G c → (me_b m0 (c / 6) = 1 ∨ me_b m0 (c % 6) = 1) → me_b m (c / 6) = 1 ∧ me_b m (c % 6) = 1) ∧ (∀ v, v < 6 → me_b m v = 1 → cn_C G a v)
theorem mf_skip {G : Nat → Prop} {a m0 i m : Nat} (I : mf_In G a m0 i m) (h : G i → (me_b m0 (i / 6) = 1 ∨ me_b m0 (i % 6) = 1) → me_b m (i / 6) = 1 ∧ me_b m (i % 6) = 1) : mf_In G a m0 (i + 1) m := by
  obtain ⟨i1, i2, i3, i4⟩ := I
  refine ⟨i1, i2, fun c hc g o => ?_, i4⟩
  by_cases e : c = i
  · subst e; exact h g o
  · exact i3 c (by omega) g o
theorem mf_grow {G : Nat → Prop} {a m0 i m x y : Nat} (i36 : i < 36) (hx : x < 6) (hy : y < 6) (hn : x ≠ y) (hxy : (x = i / 6 ∧ y = i % 6) ∨ (x = i % 6 ∧ y = i / 6)) (he : aa_cd x y = i) (g : G i) (I : mf_In G a m0 i m) (hb : me_b m x = 1) : mf_In G a m0 (i + 1) (m ||| 2 ^ y) := by
  obtain ⟨i1, i2, i3, i4⟩ := I
  obtain ⟨o1, o2⟩ := me_ob m i1 y hy
  have up1 : ∀ v, v < 6 → me_b m v = 1 → me_b (m ||| 2 ^ y) v = 1 := by
    intro v hv h
    rw [o2 v hv]
    split
    · rfl
    · exact h
  have yy : me_b (m ||| 2 ^ y) y = 1 := by rw [o2 y hy, if_pos rfl]
  refine ⟨o1, fun v hv h => up1 v hv (i2 v hv h), fun c hc gc' o => ?_, fun v hv h => ?_⟩
  · by_cases e : c = i
    · subst e
      rcases hxy with ⟨e1, e2⟩ | ⟨e1, e2⟩
      · rw [← e1, ← e2]; exact ⟨up1 x hx hb, yy⟩
      · rw [← e1, ← e2]; exact ⟨yy, up1 x hx hb⟩
    · have := i3 c (by omega) gc' o
      exact ⟨up1 _ (by omega) this.1, up1 _ (by omega) this.2⟩
  · by_cases e : v = y
    · subst e
      exact cn_trans (i4 x hx hb) (cn_step hx hv hn (by rw [he]; exact g))
    · rw [o2 v hv, if_neg e] at h
      exact i4 v hv h
theorem mf_17 {post : Int32 → Prop} {J : Int32 → Int32 → Prop} {a m0 but r : Nat} {x : Int32} (hcode : ∀ c, c < 36 → ¬ th c = 0 → c / 6 < c % 6) (hx : ∀ c, c < 36 → (nI c = x ↔ c = but)) (h : ∀ m, mf_In (mf_G th up but) a m0 36 m → J (nI m) (nI (r + 1))) : ∀ d i m, i + d = 36 → mf_In (mf_G th up but) a m0 i m → wY_reached_17 post J x (nI r) yn yl yk th co ca cl up ex ed bw pr av le pa pt bs (d + 1) (nI m) (nI i) := by
  intro d
  induction d with
  | zero =>
    intro i m hi I
    have e : i = 36 := by omega
    subst e
    exact br_t (nI_le (a := 36) (by omega) (by omega)) (nm_r (nI_1 r) (h m I))
  | succ d ih =>
    intro i m hi I
    have i36 : i < 36 := by omega
    have ei : (nI i).toNatClampNeg = i := nI_clamp (by omega)
    have vi : vp_in (nI i) 36 := vp_in_nI i36 (by omega)
    have m64 := I.1
    refine br_f (nI_ge (b := 36) (by omega) (by omega)) (br_c (fun e => nm_r (nI_1 i) (ih (i + 1) m (by omega) (mf_skip I (fun g => absurd ((hx i i36).mp e) g.1)))) (fun e => And.intro vi (br_c (fun t => nm_r (nI_1 i) (ih (i + 1) m (by omega) (mf_skip I (fun g => absurd ?_ g.2.1)))) (fun t => And.intro vi (br_c (fun u => nm_r (nI_1 i) (ih (i + 1) m (by omega) (mf_skip I (fun g => absurd ?_ g.2.2)))) (fun u => And.intro aa_6n ?_))))))
    · rw [ei] at t; exact t
    · rw [ei] at u; exact u
    · rw [ei] at t u
      have cc := hcode i i36 t
      have g : mf_G th up but i := ⟨fun z => e ((hx i i36).mpr z), t, u⟩
      have hd := aa_cd_of i36 cc
      have hd' : aa_cd (i % 6) (i / 6) = i := by rw [aa_cd_sym]; exact hd
      rw [aa_mod6 (by omega), aa_div6 (by omega)]
      refine br_c (fun p => And.intro aa_6n (nm_r (e' := nI (m ||| 2 ^ (i % 6))) ?_ (nm_r (nI_1 i) (ih (i + 1) _ (by omega) (mf_grow i36 (by omega) (by omega) (by omega) (Or.inl ⟨rfl, rfl⟩) hd g I ?_))))) (fun p => And.intro aa_6n (br_c (fun p2 => And.intro aa_6n (nm_r (e' := nI (m ||| 2 ^ (i / 6))) ?_ (nm_r (nI_1 i) (ih (i + 1) _ (by omega) (mf_grow i36 (by omega) (by omega) (by omega) (Or.inr ⟨rfl, rfl⟩) hd' g I ?_))))) (fun p2 => nm_r (nI_1 i) (ih (i + 1) m (by omega) (mf_skip I (fun _ o => ?_))))))
      · rw [me_pw _ (by omega), me_or]
      · exact (me_1 m64 (by omega)).mp p
      · rw [me_pw _ (by omega), me_or]
      · exact (me_1 m64 (by omega)).mp p2
      · rw [me_1 m64 (by omega)] at p p2
        rcases o with o | o
        · exact absurd (I.2.1 _ (by omega) o) p
        · exact absurd (I.2.1 _ (by omega) o) p2
def mf_Cl (G : Nat → Prop) (a r m : Nat) : Prop := ∀ L q, pa_Val G a (q L) L q → ∀ j, j ≤ r → j ≤ L → me_b m (q j) = 1
theorem mf_round {G : Nat → Prop} {a r m0 m : Nat} (I : mf_In G a m0 36 m) (h : mf_Cl G a r m0) : mf_Cl G a (r + 1) m := by
  obtain ⟨i1, i2, i3, i4⟩ := I
  intro L q v j hj hL
  by_cases e : j = r + 1
  · subst e
    have b1 := h L q v r (Nat.le_refl _) (by omega)
    have q1 := v.2.2.1 r (by omega)
    have q2 := v.2.2.1 (r + 1) hL
    have ne := v.2.2.2.1 r (r + 1) (by omega) hL
    have cc := aa_cd_code q1 q2 ne
    have hl := aa_cd_lt q1 q2
    have g := v.2.2.2.2 r (by omega)
    rcases aa_cd_inj q1 q2 (show aa_cd (q r) (q (r + 1)) / 6 < 6 by omega) (show aa_cd (q r) (q (r + 1)) % 6 < 6 by omega) (aa_cd_of hl cc).symm with ⟨e1, e2⟩ | ⟨e1, e2⟩
    · have := i3 _ hl g (Or.inl (by rw [← e1]; exact b1))
      rw [e2]; exact this.2
    · have := i3 _ hl g (Or.inr (by rw [← e1]; exact b1))
      rw [e2]; exact this.1
  · exact i2 _ (v.2.2.1 j hL) (h L q v j (by omega) hL)
theorem mf_7 {post : Int32 → Prop} {a but : Nat} {x : Int32} (ha : a < 6) (hcode : ∀ c, c < 36 → ¬ th c = 0 → c / 6 < c % 6) (hx : ∀ c, c < 36 → (nI c = x ↔ c = but)) (h : ∀ m, m < 64 → (∀ v, v < 6 → (me_b m v = 1 ↔ cn_C (mf_G th up but) a v)) → post (nI m)) : ∀ d r m, r + d = 6 → m < 64 → (∀ v, v < 6 → me_b m v = 1 → cn_C (mf_G th up but) a v) → mf_Cl (mf_G th up but) a r m → wY_reached_7 post x yn yl yk th co ca cl up ex ed bw pr av le pa pt bs (d + 1) (nI m) (nI r) := by
  intro d
  induction d with
  | zero =>
    intro r m hr hm hs hc
    have e : r = 6 := by omega
    subst e
    refine br_t (nI_le (a := 6) (by omega) (by omega)) (h m hm (fun v hv => ⟨hs v hv, fun c => ?_⟩))
    obtain ⟨L, q, vq⟩ := cn_simple ha c
    have L5 := pa_Val5 vq
    have e := vq.2.1
    rw [← e] at vq
    have := hc L q vq L (by omega) (Nat.le_refl _)
    rw [e] at this
    exact this
  | succ d ih =>
    intro r m hr hm hs hc
    exact br_f (nI_ge (b := 6) (by omega) (by omega)) (Exists.intro 37 (mf_17 hcode hx (fun m' I => ih (r + 1) m' (by omega) I.1 I.2.2.2 (mf_round I hc)) 36 0 m rfl ⟨hm, fun _ _ h => h, fun c hc => absurd hc (Nat.not_lt_zero c), hs⟩))
theorem mf_reached {post : Int32 → Prop} {a but : Nat} {x : Int32} (ha : a < 6) (hcode : ∀ c, c < 36 → ¬ th c = 0 → c / 6 < c % 6) (hx : ∀ c, c < 36 → (nI c = x ↔ c = but)) (h : ∀ m, m < 64 → (∀ v, v < 6 → (me_b m v = 1 ↔ cn_C (mf_G th up but) a v)) → post (nI m)) : wpY_reached post (yn, yl, yk, th, co, ca, cl, up, ex, ed, bw, pr, av, le, pa, pt, bs) (nI a) x := by
  obtain ⟨l1, l2⟩ := me_lo a ha
  refine nm_r (me_pw a ha) (Exists.intro 7 (mf_7 ha hcode hx h 6 0 (2 ^ a) rfl l1 (fun v hv hb => ?_) (fun L q vq j hj hL => ?_)))
  · rw [l2 v hv] at hb
    by_cases e : v = a
    · rw [e]; exact cn_refl
    · rw [if_neg e] at hb; omega
  · have : j = 0 := by omega
    subst this
    rw [vq.1, l2 a ha, if_pos rfl]
theorem mf_gr {post : Int32 → Prop} (hcode : ∀ c, c < 36 → ¬ th c = 0 → c / 6 < c % 6) (h : post (nI (me_fst (fun c => c / 6 < c % 6 ∧ me_U th up c) 6))) : ∀ d i, i + d = 6 → wY_groups_4 post yn yl yk th co ca cl up ex ed bw pr av le pa pt bs (d + 1) (nI (me_fst (fun c => c / 6 < c % 6 ∧ me_U th up c) i)) (nI i) := by
  have iff : ∀ {a b : Nat}, cn_C (mf_G th up 36) a b ↔ cn_C (fun c => c / 6 < c % 6 ∧ me_U th up c) a b := by
    intro a b
    constructor
    · exact cn_mono (fun c hc z => ⟨hcode c hc z.2.1, z.2⟩)
    · exact cn_mono (fun c hc z => ⟨by omega, z.2⟩)
  intro d
  induction d with
  | zero =>
    intro i hi
    have e : i = 6 := by omega
    subst e
    exact br_t (nI_le (a := 6) (by omega) (by omega)) h
  | succ d ih =>
    intro i hi
    have nx := ih (i + 1) (by omega)
    rw [me_fsts] at nx
    refine br_f (nI_ge (b := 6) (by omega) (by omega)) (nm_e (mf_reached (but := 36) (by omega) hcode (fun c hc => ⟨fun z => absurd z (aa_m1n (by omega)), fun z => by omega⟩) (fun m hm hb => ?_)))
    rw [pk_andN (by omega) i (me_mk1 i (by omega))]
    have md := me_md m hm i (by omega)
    have lt : m % 2 ^ i ≤ m := Nat.mod_le _ _
    have key : m % 2 ^ i = 0 ↔ ∀ u, u < i → ¬ cn_C (fun c => c / 6 < c % 6 ∧ me_U th up c) i u := by
      rw [md]
      constructor
      · intro z u hu c
        have := (hb u (by omega)).mpr (iff.mpr c)
        have := z u hu
        omega
      · intro z u hu
        rcases me_b01 m u with y | y
        · exact y
        · exact absurd (iff.mp ((hb u (by omega)).mp y)) (z u hu)
    refine br_c (fun z => nm_r (nI_1 _) (nm_r (nI_1 i) ?_)) (fun z => nm_r (nI_1 i) ?_)
    · have z' := (nI_eq (b := 0) (by omega) (by omega)).mp z
      rw [if_pos (key.mp z')] at nx
      exact nx
    · have z' : ¬ m % 2 ^ i = 0 := fun y => z (by rw [y]; rfl)
      rw [if_neg (fun y => z' (key.mpr y)), Nat.add_zero] at nx
      exact nx
theorem mf_groups (hR : rl_R th up co ca cl ex pl fi la bw pr av cn pa ed le us) : ∃ r, (∀ post : Int32 → SX → Prop, (∀ op' gp', post r (gc, gk, gb, th, up, co, ca, cl, ex, pl, fi, la, bw, pr, av, cn, pa, us, fo, op', ct, lk, dn, gp', rs, cf, qu, en, lo, ab, tr)) → wpX_groups post (gc, gk, gb, th, up, co, ca, cl, ex, pl, fi, la, bw, pr, av, cn, pa, us, fo, op, ct, lk, dn, gp, rs, cf, qu, en, lo, ab, tr)) ∧ (∀ post : Int32 → Prop, post r → wpY_groups post (yn, yl, yk, th, co, ca, cl, up, ex, ed, bw, pr, av, le, pa, pt, bs)) := by
  obtain ⟨w, K, B, R, f, g, ⟨h1, _⟩, hN, hM⟩ := hR
  exact ⟨_, fun post h => me_groupsX h, fun post h => Exists.intro 7 (mf_gr h1 h 6 0 rfl)⟩
end MF
end
section
section MG
/-! bridges: the walk in depth -/
variable {gc gk gb : Int32} {th up co ca cl ex pl fi la bw pr av cn pa fo op ct lk dn gp rs cf qu en lo ab tr : Nat → Int32} {us : Nat → Int64}
/-- the arrays show the walk -/
def mg_A (V : Nat → Prop) (e p k l : Nat → Nat) (a : Nat) (en lo ab tr : Nat → Int32) : Prop := ∀ v, v < 6 → (V v → en v = nI (e v) ∧ lo v = nI (l v) ∧ l v ≤ 100) ∧ (¬ V v → en v = -1) ∧ (V v → v ≠ a → ab v = nI (p v)) ∧ (v = a → ab v = -1) ∧ tr v = nI (k v) ∧ k v ≤ 6
def mg_F (F : Nat → Prop) (ph : Nat → Nat) : Prop := ∀ v, v < 6 → (F v ∧ ph v = 1) ∨ (¬ F v ∧ ph v = 0)
def mg_B (gb : Int32) (B : Prop) : Prop := (gb = 0 ∧ ¬ B) ∨ (gb = 1 ∧ B)
variable {G : Nat → Prop} {a b : Nat} {V F : Nat → Prop} {t e p k l ph : Nat → Nat} {x clk n : Nat} {B : Prop}
theorem mg_bd (x6 : x < 6) (fx : ¬ F x) (hA : mg_A V e p k l a en lo ab tr) (hF : mg_F F ph) : aa_sm k 6 + aa_sm ph 6 ≤ 41 := by
  have h1 : aa_sm k 6 ≤ 6 * 6 := aa_sm_bd (fun v hv => (hA v hv).2.2.2.2.2)
  have h2 : aa_sm ph 6 ≤ aa_sm (fun v => if v = x then 0 else 1) 6 := by
    refine aa_sm_le fun v hv => ?_
    rcases hF v hv with ⟨f, g⟩ | ⟨f, g⟩
    · by_cases z : v = x
      · rw [z] at f; exact absurd f fx
      · rw [if_neg z]; omega
    · rw [g]; exact Nat.zero_le _
  rw [dj_c1 x x6] at h2
  omega
theorem mg_sk (x6 : x < 6) : aa_sm (df_u k x (k x + 1)) 6 = aa_sm k 6 + 1 := by
  have u := aa_sm_upd (f := k) (g := df_u k x (k x + 1)) (i := x) (n := 6) x6 (fun j hj => df_un hj)
  rw [df_us] at u
  omega
theorem mg_sf (x6 : x < 6) (h : ph x = 0) : aa_sm (df_u ph x 1) 6 = aa_sm ph 6 + 1 := by
  have u := aa_sm_upd (f := ph) (g := df_u ph x 1) (i := x) (n := 6) x6 (fun j hj => df_un hj)
  rw [df_us, h] at u
  omega
theorem mg_Atr {v : Nat} (hA : mg_A V e p k l a en lo ab tr) (x6 : x < 6) (hv : k x = v) (v6 : v < 6) : mg_A V e p (df_u k x (k x + 1)) l a en lo ab (upd tr x (nI (v + 1))) := by
  intro z hz
  obtain ⟨h1, h2, h3, h4, h5, h6⟩ := hA z hz
  refine ⟨h1, h2, h3, h4, ?_⟩
  by_cases c : z = x
  · subst c; rw [pk_us, df_us, hv]; exact ⟨rfl, by omega⟩
  · rw [pk_un c, df_un c]; exact ⟨h5, h6⟩
theorem mg_Alo {m : Nat} (hA : mg_A V e p k l a en lo ab tr) (hm : m ≤ 100) : mg_A V e p k (df_u l x m) a en (upd lo x (nI m)) ab tr := by
  intro z hz
  obtain ⟨h1, h2, h3, h4, h5, h6⟩ := hA z hz
  refine ⟨fun vz => ?_, h2, h3, h4, h5, h6⟩
  by_cases c : z = x
  · subst c; rw [pk_us, df_us]; exact ⟨(h1 vz).1, rfl, hm⟩
  · rw [pk_un c, df_un c]; exact h1 vz
theorem mg_Aen {v : Nat} (hA : mg_A V e p k l a en lo ab tr) (nv : ¬ V v) (va : v ≠ a) (hc : clk + 1 ≤ 100) : mg_A (fun z => V z ∨ z = v) (df_u e v (clk + 1)) (df_u p v x) k (df_u l v (clk + 1)) a (upd en v (nI (clk + 1))) (upd lo v (nI (clk + 1))) (upd ab v (nI x)) tr := by
  intro z hz
  obtain ⟨h1, h2, h3, h4, h5, h6⟩ := hA z hz
  by_cases c : z = v
  · subst c
    rw [pk_us, pk_us, pk_us, df_us, df_us, df_us]
    exact ⟨fun _ => ⟨rfl, rfl, hc⟩, fun z => absurd (Or.inr rfl) z, fun _ _ => rfl, fun z => absurd z va, h5, h6⟩
  · rw [pk_un c, pk_un c, pk_un c, df_un c, df_un c, df_un c]
    refine ⟨fun w => h1 ?_, fun w => h2 (fun y => w (Or.inl y)), fun w => h3 ?_, h4, h5, h6⟩
    · rcases w with w | w
      · exact w
      · exact absurd w c
    · rcases w with w | w
      · exact w
      · exact absurd w c
theorem mg_leave {post : SX → Prop} (a6 : a < 6) (b6 : b < 6) (x6 : x < 6) (vx : V x) (xa : x ≠ a) (p6 : p x < 6) (vp : V (p x)) (he : ∀ v, v < 6 → V v → e v ≤ 100) (hA : mg_A V e p k l a en lo ab tr) (hB : mg_B gb B) (h : ∀ gb' lo', mg_B gb' (B ∨ (aa_cd (p x) x = aa_cd a b ∧ e (p x) < l x)) → (∀ k, mg_A V e p k l a en lo ab tr → mg_A V e p k (df_u l (p x) (min (l x) (l (p x)))) a en lo' ab tr) → post (gc, gk, gb', th, up, co, ca, cl, ex, pl, fi, la, bw, pr, av, cn, pa, us, fo, op, ct, lk, dn, gp, rs, cf, qu, en, lo', ab, tr)) (hpx : p x ≠ x) : wpX_leave post (gc, gk, gb, th, up, co, ca, cl, ex, pl, fi, la, bw, pr, av, cn, pa, us, fo, op, ct, lk, dn, gp, rs, cf, qu, en, lo, ab, tr) (nI x) (nI (aa_cd a b)) := by
  obtain ⟨h1, h2, h3, h4, h5, h6⟩ := hA x x6
  obtain ⟨u1, u2, u3, u4, u5, u6⟩ := hA (p x) p6
  have ex' : (nI x).toNatClampNeg = x := nI_clamp (by omega)
  have eu : (nI (p x)).toNatClampNeg = p x := nI_clamp (by omega)
  have vx6 : vp_in (nI x) 6 := vp_in_nI x6 (by omega)
  have vu6 : vp_in (nI (p x)) 6 := vp_in_nI p6 (by omega)
  have lx := h1 vx
  have lu := u1 vp
  have ceu := he _ p6 vp
  have cl36 := aa_cd_lt p6 x6
  have cab := aa_cd_lt a6 b6
  have j47 : ∀ m, m ≤ 100 → m = min (l x) (l (p x)) → wX_leave_47 post (nI x) (nI (aa_cd a b)) (nI (p x)) (nI m) (nI (p x)) gc gk gb th up co ca cl ex pl fi la bw pr av cn pa us fo op ct lk dn gp rs cf qu en lo ab tr := by
    intro m hm100 hm
    have A' : ∀ k, mg_A V e p k l a en lo ab tr → mg_A V e p k (df_u l (p x) (min (l x) (l (p x)))) a en (upd lo (p x) (nI m)) ab tr := fun k hk => by rw [← hm]; exact mg_Alo hk hm100
    refine And.intro vu6 (nm_r (e' := upd lo (p x) (nI m)) (by rw [eu]) ?_)
    rcases hB with ⟨g0, nB⟩ | ⟨g1, yB⟩
    · refine br_t g0 (xa_codeOf p6 x6 (br_c (fun q => And.intro vx6 (And.intro vu6 ?_)) (fun q => h 0 _ (Or.inl ⟨rfl, fun z => ?_⟩) A')))
      · rw [ex', eu, pk_un (fun z => hpx z.symm), lx.2.1, lu.1]
        have q' := (nI_eq (by omega) (by omega)).mp q
        refine br_c (fun z => h 0 _ (Or.inl ⟨rfl, fun y => ?_⟩) A') (fun z => h 1 _ (Or.inr ⟨rfl, Or.inr ⟨q', ?_⟩⟩) A')
        · rw [nI_leI (by omega) (by omega)] at z
          rcases y with y | y
          · exact nB y
          · omega
        · rw [nI_leI (by omega) (by omega)] at z
          omega
      · rcases z with z | z
        · exact nB z
        · exact q (by rw [z.1])
    · exact br_f (by rw [g1]; decide) (h 1 _ (Or.inr ⟨rfl, Or.inl yB⟩) A')
  refine And.intro vx6 (nm_r (e' := nI (p x)) (by rw [ex']; exact h3 vx xa) (br_t (nI_pos' (by omega)) (And.intro vx6 (And.intro vu6 ?_))))
  rw [ex', eu, lx.2.1, lu.2.1]
  refine br_c (fun z => And.intro vu6 (j47 (l (p x)) lu.2.2 ?_)) (fun z => And.intro vx6 (j47 (l x) lx.2.2 ?_))
  · rw [nI_leI (by omega) (by omega)] at z; omega
  · rw [nI_leI (by omega) (by omega)] at z; omega
end MG
end
section
section MH
/-! bridges: all steps of the walk -/
variable {gc gk : Int32} {th up co ca cl ex pl fi la bw pr av cn pa fo op ct lk dn gp rs cf qu : Nat → Int32} {us : Nat → Int64}
variable {G : Nat → Prop} {a b : Nat}
/-- the loop, whatever it asks from a state on -/
def mh_W (post : SX → Prop) (gc gk : Int32) (th up co ca cl ex pl fi la bw pr av cn pa : Nat → Int32) (us : Nat → Int64) (fo op ct lk dn gp rs cf qu : Nat → Int32) (G : Nat → Prop) (a b fuel : Nat) : Prop :=
  ∀ (V F : Nat → Prop) (t e p k l ph : Nat → Nat) (B : Prop) (x clk n : Nat) (gb : Int32) (en lo ab tr : Nat → Int32), df_T G a b V F t e p k x clk → df_L G a b V F t p k l B → mg_A V e p k l a en lo ab tr → mg_F F ph → mg_B gb B → n = aa_sm k 6 + aa_sm ph 6 → clk ≤ n → 43 ≤ n + fuel → wX_walk_64 post (nI (aa_cd a b)) fuel (nI x) (nI clk) (nI n) gc gk gb th up co ca cl ex pl fi la bw pr av cn pa us fo op ct lk dn gp rs cf qu en lo ab tr
theorem mh_173 {post : SX → Prop} {fuel : Nat} {V F : Nat → Prop} {t e p k l ph : Nat → Nat} {B : Prop} {x clk n v : Nat} {gb : Int32} {en lo ab tr : Nat → Int32} (W : mh_W post gc gk th up co ca cl ex pl fi la bw pr av cn pa us fo op ct lk dn gp rs cf qu G a b fuel) (a6 : a < 6) (ho : tn_Op op G) (I : df_T G a b V F t e p k x clk) (J : df_L G a b V F t p k l B) (hA : mg_A V e p k l a en lo ab tr) (hF : mg_F F ph) (hB : mg_B gb B) (hn : n = aa_sm k 6 + aa_sm ph 6) (hc : clk ≤ n) (hfu : 43 ≤ n + (fuel + 1)) (hk : k x = v) (v6 : v < 6) (hV : x ≠ v → G (aa_cd x v) → V v) : wX_walk_173 post (wX_walk_64 post (nI (aa_cd a b)) fuel) (nI (aa_cd a b)) (nI x) (nI clk) (nI n) (nI v) gc gk gb th up co ca cl ex pl fi la bw pr av cn pa us fo op ct lk dn gp rs cf qu en lo ab (upd tr x (nI (v + 1))) := by
  have I0 := I
  obtain ⟨⟨i1, i2, x6, vx, fx⟩, i6, i7, i8, i9, i10, i11, i12, i13, i14, i15⟩ := I
  have n41 := mg_bd x6 fx hA hF
  have vx6 : vp_in (nI x) 6 := vp_in_nI x6 (by omega)
  have vv6 : vp_in (nI v) 6 := vp_in_nI v6 (by omega)
  have ex' : (nI x).toNatClampNeg = x := nI_clamp (by omega)
  have ev' : (nI v).toNatClampNeg = v := nI_clamp (by omega)
  obtain ⟨h1, h2, h3, h4, h5, h6⟩ := hA x x6
  obtain ⟨u1, u2, u3, u4, u5, u6⟩ := hA v v6
  have T1 : df_T G a b V F t e p (df_u k x (k x + 1)) x clk := df_try I0 (by omega) (by rw [hk]; exact hV)
  have A1 := mg_Atr hA x6 hk v6
  have sk := mg_sk (k := k) x6
  have skip : (x ≠ a → p x ≠ a → G (aa_cd x a) → k x = a → l x = 0) → wX_walk_64 post (nI (aa_cd a b)) fuel (nI x) (nI clk) (nI (n + 1)) gc gk gb th up co ca cl ex pl fi la bw pr av cn pa us fo op ct lk dn gp rs cf qu en lo ab (upd tr x (nI (v + 1))) := by
    intro hz
    exact W _ _ _ _ _ _ _ _ _ _ _ _ _ _ _ _ _ T1 (df_tryL I0 J hz) A1 hF hB (by omega) (by omega) (by omega)
  unfold wX_walk_173
  refine xa_areJoined x6 v6 ho (fun hxv hg => br_f (by decide) (And.intro vx6 ?_)) (fun hno => br_t rfl (nm_r (nI_1 n) (skip (fun q1 _ q3 q4 => absurd ⟨?_, ?_⟩ hno))))
  · have Vv := hV hxv hg
    have lx := h1 vx
    have lv := u1 Vv
    have evb := i15 v v6 Vv
    have back : (x = a ∨ v ≠ p x) → ∀ m, m ≤ 100 → m = min (e v) (l x) → wX_walk_64 post (nI (aa_cd a b)) fuel (nI x) (nI clk) (nI (n + 1)) gc gk gb th up co ca cl ex pl fi la bw pr av cn pa us fo op ct lk dn gp rs cf qu en (upd lo x (nI m)) ab (upd tr x (nI (v + 1))) := by
      intro hp m m100 hm
      have L1 := df_back a6 I0 J hk v6 Vv hxv hg hp
      rw [← hm] at L1
      exact W _ _ _ _ _ _ _ _ _ _ _ _ _ _ _ _ _ T1 L1 (mg_Alo A1 m100) hF hB (by omega) (by omega) (by omega)
    rw [ex', ev', lx.2.1, lv.1]
    refine br_c (fun q => nm_r (nI_1 n) (skip (fun q1 q2 q3 q4 => ?_))) (fun q => And.intro vv6 (And.intro vx6 (br_c (fun z => And.intro vx6 (And.intro vx6 (nm_r (e' := upd lo x (nI (l x))) ?_ (nm_r (nI_1 n) (back ?_ (l x) lx.2.2 ?_))))) (fun z => And.intro vv6 (And.intro vx6 (nm_r (e' := upd lo x (nI (e v))) ?_ (nm_r (nI_1 n) (back ?_ (e v) (by omega) ?_))))))))
    · rw [h3 vx q1] at q
      have px := (i9 x x6 vx q1).1
      have := (nI_eq (by omega) (by omega)).mp q
      exact absurd (this.symm.trans (hk.symm.trans q4)) q2
    · rfl
    · by_cases xa : x = a
      · exact Or.inl xa
      · refine Or.inr (fun y => q ?_)
        rw [h3 vx xa, y]
    · rw [nI_leI (by omega) (by omega)] at z; omega
    · rfl
    · by_cases xa : x = a
      · exact Or.inl xa
      · refine Or.inr (fun y => q ?_)
        rw [h3 vx xa, y]
    · rw [nI_leI (by omega) (by omega)] at z; omega
  · intro y; exact q1 (y.trans (hk.symm.trans q4))
  · rw [← hk, q4]; exact q3
theorem mh_walk {post : SX → Prop} (a6 : a < 6) (b6 : b < 6) (hab : a ≠ b) (hg : G (aa_cd a b)) (ho : tn_Op op G) (h : ∀ gb en lo ab tr, mg_B gb (¬ cn_C (df_G G a b) a b) → post (gc, gk, gb, th, up, co, ca, cl, ex, pl, fi, la, bw, pr, av, cn, pa, us, fo, op, ct, lk, dn, gp, rs, cf, qu, en, lo, ab, tr)) : ∀ fuel, mh_W post gc gk th up co ca cl ex pl fi la bw pr av cn pa us fo op ct lk dn gp rs cf qu G a b fuel := by
  intro fuel
  induction fuel with
  | zero =>
    intro V F t e p k l ph B x clk n gb en lo ab tr I J hA hF hB hn hc hfu
    have := mg_bd I.1.2.2.1 I.1.2.2.2.2 hA hF
    omega
  | succ fuel ih =>
    intro V F t e p k l ph B x clk n gb en lo ab tr I J hA hF hB hn hc hfu
    have I0 := I
    obtain ⟨⟨i1, i2, x6, vx, fx⟩, i6, i7, i8, i9, i10, i11, i12, i13, i14, i15⟩ := I
    have n41 := mg_bd x6 fx hA hF
    have vx6 : vp_in (nI x) 6 := vp_in_nI x6 (by omega)
    have ex' : (nI x).toNatClampNeg = x := nI_clamp (by omega)
    obtain ⟨h1, h2, h3, h4, h5, h6⟩ := hA x x6
    refine br_f (nI_ge (b := 100) (by omega) (by omega)) (br_f (nI_pos (by omega)) (And.intro vx6 (br_c (fun q => ?_) (fun q => ?_))))
    · rw [ex', h5] at q
      have k6 : k x = 6 := (nI_eq (b := 6) (by omega) (by omega)).mp q
      by_cases xa : x = a
      · subst xa
        have ab1 := h4 rfl
        have fin : wX_walk_64 post (nI (aa_cd x b)) fuel (-1) (nI clk) (nI (n + 1)) gc gk gb th up co ca cl ex pl fi la bw pr av cn pa us fo op ct lk dn gp rs cf qu en lo ab tr := by
          obtain ⟨f', rfl⟩ : ∃ f', fuel = f' + 1 := ⟨fuel - 1, by omega⟩
          have hp := h gb en lo ab tr (by
            have := df_end a6 b6 hab hg I0 J k6
            rcases hB with ⟨g0, nB⟩ | ⟨g1, yB⟩
            · exact Or.inl ⟨g0, fun z => nB (this.mpr z)⟩
            · exact Or.inr ⟨g1, this.mp yB⟩)
          exact br_c (fun _ => hp) (fun _ => br_t aa_m1 hp)
        exact And.intro vx6 (nm_r (e' := -1) (by rw [ex']; exact ab1) (br_f (by decide) (And.intro vx6 (nm_r (e' := -1) (by rw [ex']; exact ab1) (nm_r (nI_1 n) fin)))))
      · obtain ⟨q1, q2, q3, q4, q5, q6, q7⟩ := i9 x x6 vx xa
        have phx : ph x = 0 := by
          rcases hF x x6 with ⟨z, _⟩ | ⟨_, z⟩
          · exact absurd z fx
          · exact z
        have sf := mg_sf (ph := ph) x6 phx
        refine mg_leave a6 b6 x6 vx xa q1 q2 (fun v v6 vv => by have := i15 v v6 vv; omega) hA hB (fun gb' lo' hB' hA' => And.intro vx6 (nm_r (e' := nI (p x)) (by rw [ex']; exact h3 vx xa) (nm_r (nI_1 n) ?_))) (fun z => q3 z.symm)
        refine ih _ _ _ _ _ _ _ (df_u ph x 1) _ _ _ _ _ _ _ _ _ (df_leave a6 I0 xa k6) (df_leaveL a6 b6 hab I0 J xa k6) (hA' k hA) (fun v v6 => ?_) hB' (by omega) (by omega) (by omega)
        by_cases z : v = x
        · subst z; rw [df_us]; exact Or.inl ⟨Or.inr rfl, rfl⟩
        · rw [df_un z]
          rcases hF v v6 with ⟨y1, y2⟩ | ⟨y1, y2⟩
          · exact Or.inl ⟨Or.inl y1, y2⟩
          · refine Or.inr ⟨fun y => ?_, y2⟩
            rcases y with y | y
            · exact y1 y
            · exact z y
    · rw [ex', h5] at q
      have kx6 : k x ≠ 6 := fun z => q (by rw [z]; rfl)
      have v6 : k x < 6 := by omega
      have vv6 : vp_in (nI (k x)) 6 := vp_in_nI v6 (by omega)
      have ev' : (nI (k x)).toNatClampNeg = k x := nI_clamp (by omega)
      obtain ⟨u1, u2, u3, u4, u5, u6⟩ := hA (k x) v6
      refine And.intro vx6 (nm_r (e' := nI (k x)) (by rw [ex']; exact h5) (And.intro vx6 (And.intro vx6 (nm_r (e' := upd tr x (nI (k x + 1))) (by rw [ex', h5, nI_1]) ?_))))
      refine xa_areJoined x6 v6 ho (fun hxv hg' => br_f (by decide) (And.intro vv6 ?_)) (fun hno => br_t rfl (mh_173 ih a6 ho I0 J hA hF hB hn hc hfu rfl v6 (fun y1 y2 => absurd ⟨y1, y2⟩ hno)))
      rw [ev']
      by_cases Vv : V (k x)
      · rw [(u1 Vv).1]
        exact br_t (nI_pos' (by have := i15 _ v6 Vv; omega)) (mh_173 ih a6 ho I0 J hA hF hB hn hc hfu rfl v6 (fun _ _ => Vv))
      · rw [u2 Vv]
        have va : k x ≠ a := fun z => Vv (z ▸ i1)
        refine br_f (by decide) (nm_r (nI_1 clk) (And.intro vv6 (nm_r (e' := upd en (k x) (nI (clk + 1))) rfl (And.intro vv6 (nm_r (e' := upd lo (k x) (nI (clk + 1))) rfl (And.intro vv6 (nm_r (e' := upd ab (k x) (nI x)) rfl (nm_r (nI_1 n) ?_))))))))
        have T1 := df_enter a6 b6 I0 rfl v6 Vv hxv hg'
        have L1 := df_enterL a6 I0 J rfl v6 Vv hxv
        have A1 := mg_Aen (x := x) (clk := clk) (mg_Atr hA x6 rfl v6) Vv va (by omega)
        have sk := mg_sk (k := k) x6
        exact ih _ _ _ _ _ _ _ ph _ _ _ _ _ _ _ _ _ T1 L1 A1 hF hB (by omega) (by omega) (by omega)
end MH
end
section
section MI
/-! bridge -/
variable {gc gk gb : Int32} {th up co ca cl ex pl fi la bw pr av cn pa fo op ct lk dn gp rs cf qu en lo ab tr : Nat → Int32} {us : Nat → Int64}
variable {yn yl yk : Int32} {ed le pt bs : Nat → Int32}
variable {G : Nat → Prop} {a b : Nat}
theorem mi_walk_l {post : SX → Prop} (a6 : a < 6) (b6 : b < 6) (hab : a ≠ b) (ha : aa_cd a b / 6 = a) (hg : G (aa_cd a b)) (ho : tn_Op op G) (h : ∀ gb en lo ab tr, mg_B gb (¬ cn_C (df_G G a b) a b) → post (gc, gk, gb, th, up, co, ca, cl, ex, pl, fi, la, bw, pr, av, cn, pa, us, fo, op, ct, lk, dn, gp, rs, cf, qu, en, lo, ab, tr)) : ∀ d i en ab tr, i + d = 6 → (∀ v, v < i → en v = -1 ∧ ab v = -1 ∧ tr v = 0) → wX_walk_2 post (nI (aa_cd a b)) gc gk gb (d + 1) (nI i) th up co ca cl ex pl fi la bw pr av cn pa us fo op ct lk dn gp rs cf qu en lo ab tr := by
  intro d
  induction d with
  | zero =>
    intro i en ab tr hi hv
    have e : i = 6 := by omega
    subst e
    have hl := aa_cd_lt a6 b6
    have va : vp_in (nI a) 6 := vp_in_nI a6 (by omega)
    have ea : (nI a).toNatClampNeg = a := nI_clamp (by omega)
    obtain ⟨T0, L0⟩ := df_init (G := G) (a := a) (b := b) (k0 := fun _ => 0) (e0 := fun _ => 0) (t0 := fun _ => 0) (p0 := fun _ => 0) (l0 := fun _ => 0) a6 (fun _ _ => rfl) rfl
    refine br_t (nI_le (a := 6) (by omega) (by omega)) (And.intro aa_6n (nm_r (e' := nI a) (by rw [aa_div6 (by omega), ha]) (And.intro va (nm_r (e' := upd en a 0) (by rw [ea]) (And.intro va (nm_r (e' := upd lo a 0) (by rw [ea]) (Exists.intro 43 ?_)))))))
    refine mh_walk a6 b6 hab hg ho h 43 _ _ _ _ _ _ _ (fun _ => 0) _ _ 0 0 _ _ _ _ _ T0 L0 (fun v v6 => ?_) (fun v _ => Or.inr ⟨fun z => z, rfl⟩) (Or.inl ⟨rfl, fun z => z⟩) rfl (Nat.le_refl _) (by omega)
    obtain ⟨w1, w2, w3⟩ := hv v v6
    refine ⟨fun z => ?_, fun z => ?_, fun z y => absurd z y, fun _ => w2, w3, by omega⟩
    · have z' : v = a := z
      subst z'
      rw [pk_us, pk_us]
      exact ⟨rfl, rfl, by omega⟩
    · rw [pk_un (fun y => z y)]
      exact w1
  | succ d ih =>
    intro i en ab tr hi hv
    have ei : (nI i).toNatClampNeg = i := nI_clamp (by omega)
    have vi : vp_in (nI i) 6 := vp_in_nI (by omega) (by omega)
    refine br_f (nI_ge (b := 6) (by omega) (by omega)) (And.intro vi (nm_r (e' := upd en i (-1)) (by rw [ei]) (And.intro vi (nm_r (e' := upd ab i (-1)) (by rw [ei]) (And.intro vi (nm_r (e' := upd tr i 0) (by rw [ei]) (nm_r (nI_1 i) (ih (i + 1) _ _ _ (by omega) (fun v hv' => ?_)))))))))
    by_cases c : v = i
    · subst c; rw [pk_us, pk_us, pk_us]; exact ⟨rfl, rfl, rfl⟩
    · rw [pk_un c, pk_un c, pk_un c]; exact hv v (by omega)
theorem mi_bridge (hR : rl_R th up co ca cl ex pl fi la bw pr av cn pa ed le us) (v1 : Int32) : ∃ r, (∀ post : Int32 → SX → Prop, (∀ gb' op' en' lo' ab' tr', post r (gc, gk, gb', th, up, co, ca, cl, ex, pl, fi, la, bw, pr, av, cn, pa, us, fo, op', ct, lk, dn, gp, rs, cf, qu, en', lo', ab', tr')) → wpX_bridge post (gc, gk, gb, th, up, co, ca, cl, ex, pl, fi, la, bw, pr, av, cn, pa, us, fo, op, ct, lk, dn, gp, rs, cf, qu, en, lo, ab, tr) v1) ∧ (∀ post : Int32 → Prop, post r → wpY_bridge post (yn, yl, yk, th, co, ca, cl, up, ex, ed, bw, pr, av, le, pa, pt, bs) v1) := by
  obtain ⟨w, K, B, R, f, g, ⟨h1, _⟩, hN, hM⟩ := hR
  by_cases hc : rl_code v1
  · obtain ⟨c, c36, cc, rfl⟩ := hc
    have vi : vp_in (nI c) 36 := vp_in_nI c36 (by omega)
    have ec : (nI c).toNatClampNeg = c := nI_clamp (by omega)
    by_cases t : th (nI c).toNatClampNeg = 0
    · exact ⟨-2, fun post h => by unfold wpX_bridge; exact mb_tr2 c36 cc t (br_f (by decide) (h _ _ _ _ _ _)), fun post h => by unfold wpY_bridge; exact rl_b0 c36 cc (br_t rfl (And.intro vi (br_t t h)))⟩
    · by_cases u : up (nI c).toNatClampNeg = 0
      · refine ⟨0, fun post h => ?_, fun post h => by unfold wpY_bridge; exact rl_b0 c36 cc (br_t rfl (And.intro vi (br_f t (And.intro vi (br_t u h)))))⟩
        unfold wpX_bridge
        refine mb_tr0 c36 cc t (br_t (by decide) (me_opU (fun o ho => And.intro vi (br_t ?_ (h _ _ _ _ _ _)))))
        rw [ec] at u ⊢
        by_cases z : o c = 0
        · exact z
        · exact absurd u ((ho c c36).mp z).2.2
      · have hU : me_U th up c := by rw [ec] at t u; exact ⟨t, u⟩
        have hd := aa_cd_of c36 cc
        have xb : ∀ (post : Int32 → SX → Prop), (∀ gb' op' en' lo' ab' tr', (¬ cn_C (df_G (me_U th up) (c / 6) (c % 6)) (c / 6) (c % 6)) → post 1 (gc, gk, gb', th, up, co, ca, cl, ex, pl, fi, la, bw, pr, av, cn, pa, us, fo, op', ct, lk, dn, gp, rs, cf, qu, en', lo', ab', tr')) → (∀ gb' op' en' lo' ab' tr', cn_C (df_G (me_U th up) (c / 6) (c % 6)) (c / 6) (c % 6) → post 0 (gc, gk, gb', th, up, co, ca, cl, ex, pl, fi, la, bw, pr, av, cn, pa, us, fo, op', ct, lk, dn, gp, rs, cf, qu, en', lo', ab', tr')) → wpX_bridge post (gc, gk, gb, th, up, co, ca, cl, ex, pl, fi, la, bw, pr, av, cn, pa, us, fo, op, ct, lk, dn, gp, rs, cf, qu, en, lo, ab, tr) (nI c) := by
          intro post k1 k0
          unfold wpX_bridge
          refine mb_tr0 c36 cc t (br_t (by decide) (me_opU (fun o ho => And.intro vi (br_f ?_ ?_))))
          · rw [ec]; exact (ho c c36).mpr ⟨cc, hU⟩
          · have k := mi_walk_l (a := c / 6) (b := c % 6) (G := me_U th up) (op := o) (gc := gc) (gk := gk) (gb := gb) (th := th) (up := up) (co := co) (ca := ca) (cl := cl) (ex := ex) (pl := pl) (fi := fi) (la := la) (bw := bw) (pr := pr) (av := av) (cn := cn) (pa := pa) (us := us) (fo := fo) (ct := ct) (lk := lk) (dn := dn) (gp := gp) (rs := rs) (cf := cf) (qu := qu) (lo := lo) (post := fun u => match u with | (gc, gk, gb, th, up, co, ca, cl, ex, pl, fi, la, bw, pr, av, cn, pa, us, fo, op, ct, lk, dn, gp, rs, cf, qu, en, lo, ab, tr) => (gb = 0 → post 0 (gc, gk, gb, th, up, co, ca, cl, ex, pl, fi, la, bw, pr, av, cn, pa, us, fo, op, ct, lk, dn, gp, rs, cf, qu, en, lo, ab, tr)) ∧ (¬ gb = 0 → post 1 (gc, gk, gb, th, up, co, ca, cl, ex, pl, fi, la, bw, pr, av, cn, pa, us, fo, op, ct, lk, dn, gp, rs, cf, qu, en, lo, ab, tr))) (by omega) (by omega) (by omega) (by rw [hd]) (by rw [hd]; exact hU) ho (fun gb' en' lo' ab' tr' hB => ?_) 6 0 en ab tr rfl (fun v hv => absurd hv (Nat.not_lt_zero v))
            · rw [hd] at k
              exact Exists.intro 7 k
            · rcases hB with ⟨g0, nB⟩ | ⟨g1, yB⟩
              · exact br_t g0 (k0 _ _ _ _ _ _ (Classical.not_not.mp nB))
              · exact br_f (by rw [g1]; decide) (k1 _ _ _ _ _ _ yB)
        have yb : ∀ (post : Int32 → Prop), ((¬ cn_C (df_G (me_U th up) (c / 6) (c % 6)) (c / 6) (c % 6)) → post 1) → (cn_C (df_G (me_U th up) (c / 6) (c % 6)) (c / 6) (c % 6) → post 0) → wpY_bridge post (yn, yl, yk, th, co, ca, cl, up, ex, ed, bw, pr, av, le, pa, pt, bs) (nI c) := by
          intro post k1 k0
          unfold wpY_bridge
          refine rl_b0 c36 cc (br_t rfl (And.intro vi (br_f t (And.intro vi (br_f u (And.intro aa_6n ?_))))))
          rw [aa_mod6 (by omega), aa_div6 (by omega)]
          refine mf_reached (but := c) (by omega) h1 (fun c' hc' => nI_eq (by omega) (by omega)) (fun m hm hb => And.intro aa_6n ?_)
          have iff : cn_C (mf_G th up c) (c / 6) (c % 6) ↔ cn_C (df_G (me_U th up) (c / 6) (c % 6)) (c / 6) (c % 6) := by
            constructor
            · exact cn_mono (fun z _ y => ⟨y.2, by rw [hd]; exact y.1⟩)
            · exact cn_mono (fun z _ y => ⟨by have := y.2; rw [hd] at this; exact this, y.1⟩)
          have bb := hb (c % 6) (by omega)
          refine br_c (fun z => k1 (fun y => ?_)) (fun z => k0 ?_)
          · rw [me_0 hm (by omega)] at z
            have := bb.mpr (iff.mpr y)
            omega
          · rw [me_0 hm (by omega)] at z
            refine iff.mp (bb.mp ?_)
            rcases me_b01 m (c % 6) with y | y
            · exact absurd y z
            · exact y
        by_cases z : cn_C (df_G (me_U th up) (c / 6) (c % 6)) (c / 6) (c % 6)
        · exact ⟨0, fun post h => xb post (fun _ _ _ _ _ _ y => absurd z y) (fun _ _ _ _ _ _ _ => h _ _ _ _ _ _), fun post h => yb post (fun y => absurd z y) (fun _ => h)⟩
        · exact ⟨1, fun post h => xb post (fun _ _ _ _ _ _ _ => h _ _ _ _ _ _) (fun _ _ _ _ _ _ y => absurd y z), fun post h => yb post (fun _ => h) (fun y => absurd y z)⟩
  · exact ⟨-1, fun post h => by unfold wpX_bridge; exact mb_tr1 hc (br_f (by decide) (h _ _ _ _ _ _)), fun post h => by unfold wpY_bridge; exact rl_b1 hc (br_f (by decide) h)⟩
end MI
end
section
section MJ
/-! widest -/
variable {gc gk gb : Int32} {th up co ca cl ex pl fi la bw pr av cn pa fo op ct lk dn gp rs cf qu en lo ab tr : Nat → Int32} {us : Nat → Int64}
variable {yn yl yk : Int32} {ed le pt bs : Nat → Int32}
variable {K B R : Nat → Nat} {ov : Nat → Nat → Bool}
def mj_rm (ov : Nat → Nat → Bool) (B R K : Nat → Nat) (p c : Nat) : Nat := K c - tn_tk ov B R c p 8
theorem mj_wo_l {post : Int32 → Prop} {p : Nat} (hp : p < 2 ^ 31) (hO : tn_XO pl us ov) (hB : tn_v bw B 8 100) (hR : tn_v pr R 8 3) (hK : tn_v ca K 36 100) (hrm : ∀ c, c < 36 → ¬ op c = 0 → tn_tk ov B R c p 8 + 1 ≤ K c) (h1 : ∀ c, c < 36 → ¬ op c = 0 → (∀ y, y < 36 → ¬ op y = 0 → mj_rm ov B R K p y ≤ mj_rm ov B R K p c) → post (nI c)) (h0 : (∀ y, y < 36 → op y = 0) → post (-1)) : ∀ d i x2 x3, i + d = 36 → ((x2 = -1 ∧ x3 = nI 0 ∧ ∀ y, y < i → op y = 0) ∨ (∃ c, c < 36 ∧ x2 = nI c ∧ x3 = nI (mj_rm ov B R K p c) ∧ ¬ op c = 0 ∧ ∀ y, y < i → ¬ op y = 0 → mj_rm ov B R K p y ≤ mj_rm ov B R K p c)) → wX_widestOpen_7 post (nI p) gc gk gb th up co ca cl ex pl fi la bw pr av cn pa us fo op ct lk dn gp rs cf qu en lo ab tr (d + 1) x2 x3 (nI i) := by
  intro d
  induction d with
  | zero =>
    intro i x2 x3 hi hx
    have e : i = 36 := by omega
    subst e
    refine br_t (nI_le (a := 36) (by omega) (by omega)) ?_
    rcases hx with ⟨rfl, _, hx⟩ | ⟨c, c36, rfl, _, co', cm⟩
    · exact h0 hx
    · exact h1 c c36 co' cm
  | succ d ih =>
    intro i x2 x3 hi hx
    have i36 : i < 36 := by omega
    have ei : (nI i).toNatClampNeg = i := nI_clamp (by omega)
    have vi : vp_in (nI i) 36 := vp_in_nI i36 (by omega)
    have kb := (hK i i36).2
    refine br_f (nI_ge (b := 36) (by omega) (by omega)) (And.intro vi (br_c (fun a => ?_) (fun a => xa_roomFor i36 hp tn_bt8 hO hB hR hK ?_)))
    · rw [ei] at a
      have keep : wX_widestOpen_7 post (nI p) gc gk gb th up co ca cl ex pl fi la bw pr av cn pa us fo op ct lk dn gp rs cf qu en lo ab tr (d + 1) x2 x3 (nI (i + 1)) := by
        refine ih (i + 1) x2 x3 (by omega) ?_
        rcases hx with ⟨y1, y2, hx⟩ | ⟨c, c36, y1, y2, co', cm⟩
        · refine Or.inl ⟨y1, y2, fun y hy => ?_⟩
          by_cases e : y = i
          · rw [e]; exact a
          · exact hx y (by omega)
        · refine Or.inr ⟨c, c36, y1, y2, co', fun y hy hz => ?_⟩
          by_cases e : y = i
          · rw [e] at hz; exact absurd a hz
          · exact cm y (by omega) hz
      have le0 : (0 : Int32) ≤ x3 := by
        rcases hx with ⟨_, y2, _⟩ | ⟨c, _, _, y2, _, _⟩
        · rw [y2]; decide
        · rw [y2]
          refine nI_pos' ?_
          have := (hK c (by assumption)).2
          unfold mj_rm
          omega
      exact br_t le0 (nm_r (nI_1 i) keep)
    · rw [ei] at a
      have r1 := hrm i i36 a
      rw [pk_sub (by omega)]
      have er : K i - tn_tk ov B R i p 8 = mj_rm ov B R K p i := rfl
      have rb : mj_rm ov B R K p i ≤ 100 ∧ 1 ≤ mj_rm ov B R K p i := by unfold mj_rm; omega
      rw [er]
      rcases hx with ⟨y1, y2, hx⟩ | ⟨c, c36, y1, y2, co', cm⟩
      · subst y1 y2
        refine br_f (nI_ge (by omega) (by omega)) (nm_r (nI_1 i) (ih (i + 1) _ _ (by omega) (Or.inr ⟨i, i36, rfl, rfl, a, fun y hy hz => ?_⟩)))
        by_cases e : y = i
        · rw [e]; exact Nat.le_refl _
        · exact absurd (hx y (by omega)) hz
      · subst y1 y2
        have cb : mj_rm ov B R K p c ≤ 100 := by have := (hK c c36).2; unfold mj_rm; omega
        refine br_c (fun z => nm_r (nI_1 i) (ih (i + 1) _ _ (by omega) (Or.inr ⟨c, c36, rfl, rfl, co', fun y hy hz => ?_⟩))) (fun z => nm_r (nI_1 i) (ih (i + 1) _ _ (by omega) (Or.inr ⟨i, i36, rfl, rfl, a, fun y hy hz => ?_⟩)))
        · rw [nI_leI (by omega) (by omega)] at z
          by_cases e : y = i
          · rw [e]; exact z
          · exact cm y (by omega) hz
        · rw [nI_leI (by omega) (by omega)] at z
          by_cases e : y = i
          · rw [e]; exact Nat.le_refl _
          · have := cm y (by omega) hz
            omega
theorem mj_wo {post : Int32 → Prop} {p : Nat} (hp : p < 2 ^ 31) (hO : tn_XO pl us ov) (hB : tn_v bw B 8 100) (hR : tn_v pr R 8 3) (hK : tn_v ca K 36 100) (hrm : ∀ c, c < 36 → ¬ op c = 0 → tn_tk ov B R c p 8 + 1 ≤ K c) (h1 : ∀ c, c < 36 → ¬ op c = 0 → (∀ y, y < 36 → ¬ op y = 0 → mj_rm ov B R K p y ≤ mj_rm ov B R K p c) → post (nI c)) (h0 : (∀ y, y < 36 → op y = 0) → post (-1)) : wpX_widestOpen post (gc, gk, gb, th, up, co, ca, cl, ex, pl, fi, la, bw, pr, av, cn, pa, us, fo, op, ct, lk, dn, gp, rs, cf, qu, en, lo, ab, tr) (nI p) :=
  Exists.intro 37 (mj_wo_l hp hO hB hR hK hrm h1 h0 36 0 (-1) 0 rfl (Or.inl ⟨rfl, rfl, fun y hy => absurd hy (Nat.not_lt_zero y)⟩))
theorem mj_cnt {c : Nat} (hc : c < 36) (hn : ¬ op c = 0) : st_cnt (upd op c 0) 36 + 1 = st_cnt op 36 := by
  have u := aa_sm_upd (f := fun t => if op t = 0 then 0 else 1) (g := fun t => if upd op c 0 t = 0 then 0 else 1) (i := c) (n := 36) hc (fun j hj => by rw [pk_un hj])
  rw [pk_us, if_pos rfl, if_neg hn, Nat.add_zero] at u
  exact u
theorem mj_loop {post : Int32 → SX → Prop} {F : Nat → Prop} {s d m : Nat} (hs : s < 6) (hd : d < 6) (m32 : m < 32) (hO : tn_XO pl us ov) (hB : tn_v bw B 8 100) (hR : tn_v pr R 8 3) (hK : tn_v ca K 36 100) (hFc : ∀ c, c < 36 → F c → c / 6 < c % 6 ∧ tn_tk ov B R c (m / 8) 8 + 1 ≤ K c)
    (h : ∀ M op' gp', wd_Spec F (mj_rm ov B R K (m / 8)) s d M → post (nI M) (gc, gk, gb, th, up, co, ca, cl, ex, pl, fi, la, bw, pr, av, cn, pa, us, fo, op', ct, lk, dn, gp', rs, cf, qu, en, lo, ab, tr)) :
    ∀ n i op gp g P, i + n = 36 → st_cnt op 36 ≤ n → tn_v gp g 6 5 → cn_Lab P g → (∀ c, c < 36 → (F c ↔ P c ∨ ¬ op c = 0)) → (∀ x y, x < 36 → P x → y < 36 → ¬ op y = 0 → mj_rm ov B R K (m / 8) y ≤ mj_rm ov B R K (m / 8) x) → ¬ cn_C P s d → wX_widest_35 post (nI (6 * s + d)) (nI m) (n + 1) (nI i) gc gk gb th up co ca cl ex pl fi la bw pr av cn pa us fo op ct lk dn gp rs cf qu en lo ab tr := by
  have eq8 : nI m >>> ((3 : Int32) &&& 31) = nI (m / 8) := pk_shrN (by omega) _ 3 (by decide)
  have es : nI (6 * s + d) / 6 = nI s := by rw [aa_div6 (by omega), (fl_d hd).1]
  have ed' : nI (6 * s + d) - nI (6 * s + d) / 6 * 6 = nI d := by rw [aa_mod6 (by omega), (fl_d hd).2]
  intro n
  induction n with
  | zero =>
    intro i op gp g P hi hcn hg hL hF hpo hn
    have e : i = 36 := by omega
    subst e
    refine br_t (nI_le (a := 36) (by omega) (by omega)) (h 0 op gp (wd_miss (P := P) (fun x hx f => ?_) hn))
    rcases (hF x hx).mp f with z | z
    · exact z
    · have := aa_sm_ge (f := fun t => if op t = 0 then 0 else 1) (i := x) (n := 36) hx
      rw [if_neg z] at this
      unfold st_cnt at hcn
      omega
  | succ n ih =>
    intro i op gp g P hi hcn hg hL hF hpo hn
    refine br_f (nI_ge (b := 36) (by omega) (by omega)) ?_
    rw [eq8]
    refine mj_wo (by omega) hO hB hR hK (fun c hc hz => (hFc c hc ((hF c hc).mpr (Or.inr hz))).2) (fun c c36 cz cm => br_t (nI_pos' (by omega)) (And.intro (vp_in_nI c36 (by omega)) (nm_r (e' := upd op c 0) (by rw [nI_clamp (by omega), aa_b0]) ?_))) (fun hz => br_f (by decide) (h 0 op gp (wd_miss (P := P) (fun x hx f => ?_) hn)))
    · have Fc := hFc c c36 ((hF c c36).mpr (Or.inr cz))
      refine me_join c36 hg (fun gp2 hg2 => And.intro aa_6n ?_)
      have L2 := me_labS c36 Fc.1 hL
      have g1 := hg2 s hs
      have g2 := hg2 d hd
      rw [ed', es]
      refine And.intro (vp_in_nI hs (by omega)) (And.intro aa_6n (And.intro (vp_in_nI hd (by omega)) ?_))
      rw [nI_clamp (by omega), nI_clamp (by omega), g1.1, g2.1]
      refine br_c (fun z => xa_roomFor c36 (by omega) tn_bt8 hO hB hR hK ?_) (fun z => nm_r (nI_1 i) (ih (i + 1) (upd op c 0) gp2 _ (fun x => P x ∨ x = c) (by omega) (by have := mj_cnt c36 cz; omega) hg2 L2 (fun x hx => ?_) (fun x y hx px hy hz => ?_) (fun y => ?_)))
      · rw [nI_eq (by omega) (by omega)] at z
        rw [pk_sub (by omega)]
        have k := wd_hit (F := F) (P := P) (O := fun c => ¬ op c = 0) (rm := mj_rm ov B R K (m / 8)) (s := s) (d := d) (c := c) hF cz c36 hpo (fun y hy hz => cm y hy hz) hn ((L2 s d hs hd).mp z)
        exact h _ _ _ k
      · rw [hF x hx]
        by_cases e : x = c
        · subst e; exact ⟨fun _ => Or.inl (Or.inr rfl), fun _ => Or.inr cz⟩
        · rw [pk_un e]
          constructor
          · rintro (z1 | z1)
            · exact Or.inl (Or.inl z1)
            · exact Or.inr z1
          · rintro ((z1 | z1) | z1)
            · exact Or.inl z1
            · exact absurd z1 e
            · exact Or.inr z1
      · have yc : y ≠ c := fun e => by rw [e, pk_us] at hz; exact hz rfl
        rw [pk_un yc] at hz
        rcases px with px | px
        · exact hpo x y hx px hy hz
        · rw [px]; exact cm y hy hz
      · rw [nI_eq (by omega) (by omega)] at z
        exact z ((L2 s d hs hd).mpr y)
    · rcases (hF x hx).mp f with z | z
      · exact z
      · exact absurd (hz x hx) z
theorem mj_X {post : Int32 → SX → Prop} {s d m : Nat} (hcode : ∀ c, c < 36 → ¬ th c = 0 → c / 6 < c % 6) (hs : s < 6) (hd : d < 6) (hsd : s ≠ d) (m32 : m < 32) (hO : tn_XO pl us ov) (hB : tn_v bw B 8 100) (hR : tn_v pr R 8 3) (hK : tn_v ca K 36 100)
    (h : ∀ M op' gp', wd_Spec (tn_O th up cl ov B R K (m / 8) (nI (m % 8)) 1 8) (mj_rm ov B R K (m / 8)) s d M → post (nI M) (gc, gk, gb, th, up, co, ca, cl, ex, pl, fi, la, bw, pr, av, cn, pa, us, fo, op', ct, lk, dn, gp', rs, cf, qu, en, lo, ab, tr)) : wpX_widest post (gc, gk, gb, th, up, co, ca, cl, ex, pl, fi, la, bw, pr, av, cn, pa, us, fo, op, ct, lk, dn, gp, rs, cf, qu, en, lo, ab, tr) (nI (6 * s + d)) (nI m) := by
  have eq8 : nI m >>> ((3 : Int32) &&& 31) = nI (m / 8) := pk_shrN (by omega) _ 3 (by decide)
  have er8 : nI m &&& 7 = nI (m % 8) := pk_andN (by omega) 3 (by decide)
  unfold wpX_widest
  refine rl_e1 hs hd hsd (br_f (by decide) (rl_t1 m32 (br_f (by decide) ?_)))
  have k := fun (n : Nat) (i : Nat) (op gp : Nat → Int32) (g : Nat → Nat) (P : Nat → Prop) => mj_loop (post := post) (F := tn_O th up cl ov B R K (m / 8) (nI (m % 8)) 1 8) (gc := gc) (gk := gk) (gb := gb) (th := th) (up := up) (co := co) (ca := ca) (cl := cl) (ex := ex) (pl := pl) (fi := fi) (la := la) (bw := bw) (pr := pr) (av := av) (cn := cn) (pa := pa) (us := us) (fo := fo) (ct := ct) (lk := lk) (dn := dn) (rs := rs) (cf := cf) (qu := qu) (en := en) (lo := lo) (ab := ab) (tr := tr) hs hd m32 hO hB hR hK (fun c hc f => ⟨hcode c hc f.1.1, f.2⟩) h n i op gp g P
  rw [er8, eq8]
  refine xa_openLinks (b := 1) (by omega) (by omega) tn_bt8 hO hB hR hK (fun o ho => me_opG (fun gp0 h0 => Exists.intro 37 (k 36 0 o gp0 (fun v => v) (fun _ => False) rfl ?_ (fun v hv => ⟨h0 v hv, show v ≤ 5 by omega⟩) (cn_lab0 (fun _ _ z => z) (fun _ _ => rfl)) (fun c hc => ?_) (fun _ _ _ z => z.elim) (fun z => ?_))))
  · refine aa_sm_bd (n := 36) (B := 1) fun t _ => ?_
    split <;> omega
  · rw [ho c hc]
    exact ⟨fun z => Or.inr ⟨hcode c hc z.1.1, z⟩, fun z => z.elim (fun y => y.elim) (fun y => y.2)⟩
  · exact z (fun v => v ≠ d) hsd (fun _ _ _ _ _ _ f => f.elim) rfl
/-! the reference -/
theorem mj_Om {p m c : Nat} {x : Int32} (hm : 1 ≤ m) : (tn_O th up cl ov B R K p x 1 8 c ∧ m ≤ mj_rm ov B R K p c) ↔ tn_O th up cl ov B R K p x m 8 c := by
  unfold tn_O mj_rm
  constructor
  · rintro ⟨⟨z1, z2⟩, z3⟩; exact ⟨z1, by omega⟩
  · rintro ⟨z1, z2⟩; exact ⟨⟨z1, by omega⟩, by omega⟩
theorem mj_Y32 {post : Int32 → SY → Prop} {J : Int32 → Int32 → Int32 → Int32 → Int32 → (Nat → Int32) → (Nat → Int32) → (Nat → Int32) → (Nat → Int32) → (Nat → Int32) → (Nat → Int32) → (Nat → Int32) → (Nat → Int32) → (Nat → Int32) → (Nat → Int32) → (Nat → Int32) → (Nat → Int32) → (Nat → Int32) → (Nat → Int32) → Prop} {s d b m : Nat} (hs : s < 6) (hd : d < 6) (hsd : s ≠ d) (hb : b < 5) (m32 : m < 32) (hY : tn_YO le pa) (hB : tn_v bw B 8 100) (hR : tn_v pr R 8 3) (hK : tn_v ca K 36 100)
    (h : ∀ M yn' pt', M ≤ 1000 → wd_Inv (tn_O th up cl (tn_ov le pa) B R K (m / 8) (nI (m % 8)) 1 8) (mj_rm (tn_ov le pa) B R K (m / 8)) s d b (6 ^ b) M → J (nI M) (nI (b + 1)) yn' yl yk th co ca cl up ex ed bw pr av le pa pt' bs) :
    ∀ dd num M yn' pt', num + dd = 6 ^ b → M ≤ 1000 → wd_Inv (tn_O th up cl (tn_ov le pa) B R K (m / 8) (nI (m % 8)) 1 8) (mj_rm (tn_ov le pa) B R K (m / 8)) s d b num M → wY_widest_32 post J (nI (6 * s + d)) (nI m) (nI b) (dd + 1) (nI M) (nI num) yn' yl yk th co ca cl up ex ed bw pr av le pa pt' bs := by
  have pw : 6 ^ b ≤ 1296 := by
    have hc : b = 0 ∨ b = 1 ∨ b = 2 ∨ b = 3 ∨ b = 4 := by omega
    rcases hc with rfl | rfl | rfl | rfl | rfl <;> decide
  intro dd
  induction dd with
  | zero =>
    intro num M yn' pt' hn hM I
    have e : num = 6 ^ b := by omega
    subst e
    unfold wY_widest_32
    exact yb_numbers hb (br_t (nI_le (Nat.le_refl _) (by omega)) (nm_r (nI_1 b) (h M yn' pt' hM I)))
  | succ dd ih =>
    intro num M yn' pt' hn hM I
    have hn6 : num < 6 ^ b := by omega
    have c6 : ∀ i, i ≤ b + 1 → pa_cand s d b num i < 6 := fun i _ => pa_cand6 hs hd i
    have m100 : ∀ k, 1 ≤ k → pa_Val (fun c => tn_O th up cl (tn_ov le pa) B R K (m / 8) (nI (m % 8)) 1 8 c ∧ k ≤ mj_rm (tn_ov le pa) B R K (m / 8) c) s d (b + 1) (pa_cand s d b num) → k ≤ 100 := by
      intro k hk v
      have := (v.2.2.2.2 0 (by omega)).2
      have kb := (hK _ (aa_cd_lt (c6 0 (by omega)) (c6 (0 + 1) (by omega)))).2
      unfold mj_rm at this
      omega
    have nx : ∀ M' yn' pt', M' ≤ 1000 → M ≤ M' → (M' = M ∨ pa_Val (fun c => tn_O th up cl (tn_ov le pa) B R K (m / 8) (nI (m % 8)) 1 8 c ∧ M' ≤ mj_rm (tn_ov le pa) B R K (m / 8) c) s d (b + 1) (pa_cand s d b num)) → (∀ k, 1 ≤ k → pa_Val (fun c => tn_O th up cl (tn_ov le pa) B R K (m / 8) (nI (m % 8)) 1 8 c ∧ k ≤ mj_rm (tn_ov le pa) B R K (m / 8) c) s d (b + 1) (pa_cand s d b num) → k ≤ M') → wY_widest_32 post J (nI (6 * s + d)) (nI m) (nI b) (dd + 1) (nI M') (nI (num + 1)) yn' yl yk th co ca cl up ex ed bw pr av le pa pt' bs := fun M' yn' pt' a1 a2 a3 a4 => ih (num + 1) M' yn' pt' (by omega) a1 (wd_stepN hs hd hn6 I a2 a3 a4)
    unfold wY_widest_32
    refine yb_numbers hb (br_f (nI_ge (by omega) (by omega)) (yb_make hs hd hb (by omega) (fun pt2 hpt hdf => br_f (by decide) (And.intro aa_8n (And.intro aa_8n ?_))) (fun pt2 hpt hdf => br_t rfl (nm_r (nI_1 num) (nx M _ _ hM (Nat.le_refl _) (Or.inl rfl) (fun k _ v => absurd v.2.2.2.1 hdf))))))
    rw [aa_mod8 (by omega), aa_div8 (by omega)]
    refine yb_width (p := m / 8) (but := 8) (x := nI (m % 8)) hb (by omega) tn_bt8 hY hB hR hK c6 hpt (fun z hz => ?_)
    have val : ∀ k, 1 ≤ k → (pa_Val (fun c => tn_O th up cl (tn_ov le pa) B R K (m / 8) (nI (m % 8)) 1 8 c ∧ k ≤ mj_rm (tn_ov le pa) B R K (m / 8) c) s d (b + 1) (pa_cand s d b num) ↔ ∀ j, j < b + 1 → tn_O th up cl (tn_ov le pa) B R K (m / 8) (nI (m % 8)) k 8 (aa_cd (pa_cand s d b num j) (pa_cand s d b num (j + 1)))) := by
      intro k hk
      constructor
      · intro v j hj
        exact (mj_Om hk).mp (v.2.2.2.2 j hj)
      · intro v
        exact ⟨pa_cand0 _ _ _ _, pa_candL _ _ _ _, c6, hdf, fun j hj => (mj_Om hk).mpr (v j hj)⟩
    have big : ∀ k, 1 ≤ k → pa_Val (fun c => tn_O th up cl (tn_ov le pa) B R K (m / 8) (nI (m % 8)) 1 8 c ∧ k ≤ mj_rm (tn_ov le pa) B R K (m / 8) c) s d (b + 1) (pa_cand s d b num) → nI k ≤ z := by
      intro k hk v
      have := m100 k hk v
      exact (hz.2 k hk (by omega)).mpr ((val k hk).mp v)
    refine br_c (fun y => nm_r (nI_1 num) (nx M _ _ hM (Nat.le_refl _) (Or.inl rfl) (fun k hk v => ?_))) (fun y => ?_)
    · have h1 := big k hk v
      have h2 := m100 k hk v
      have := Int32.le_trans h1 y
      exact (nI_leI (by omega) (by omega)).mp this
    · have z0 : ¬ z < 0 := by
        intro q
        apply y
        have h0 : (0 : Int32) ≤ nI M := nI_pos' (by omega)
        rw [Int32.le_iff_toInt_le] at h0 ⊢
        rw [Int32.lt_iff_toInt_lt] at q
        omega
      obtain ⟨j, j31, rfl⟩ := nI_of z0
      rw [nI_leI j31 (by omega)] at y
      have j1000 : j ≤ 1000 := (nI_leI j31 (by omega)).mp hz.1
      refine nm_r (nI_1 num) (nx j _ _ j1000 (by omega) (Or.inr ?_) (fun k hk v => ?_))
      · exact (val j (by omega)).mpr ((hz.2 j (by omega) j1000).mp (nI_le (Nat.le_refl _) j31))
      · have h1 := big k hk v
        have h2 := m100 k hk v
        exact (nI_leI (by omega) j31).mp h1
theorem mj_Y23 {post : Int32 → SY → Prop} {s d m : Nat} (hs : s < 6) (hd : d < 6) (hsd : s ≠ d) (m32 : m < 32) (hY : tn_YO le pa) (hB : tn_v bw B 8 100) (hR : tn_v pr R 8 3) (hK : tn_v ca K 36 100)
    (h : ∀ M yn' pt', wd_Spec (tn_O th up cl (tn_ov le pa) B R K (m / 8) (nI (m % 8)) 1 8) (mj_rm (tn_ov le pa) B R K (m / 8)) s d M → post (nI M) (yn', yl, yk, th, co, ca, cl, up, ex, ed, bw, pr, av, le, pa, pt', bs)) :
    ∀ dd b M yn' pt', b + dd = 5 → M ≤ 1000 → wd_Inv (tn_O th up cl (tn_ov le pa) B R K (m / 8) (nI (m % 8)) 1 8) (mj_rm (tn_ov le pa) B R K (m / 8)) s d b 0 M → wY_widest_23 post (nI (6 * s + d)) (nI m) (dd + 1) (nI M) (nI b) yn' yl yk th co ca cl up ex ed bw pr av le pa pt' bs := by
  intro dd
  induction dd with
  | zero =>
    intro b M yn' pt' hb hM I
    have e : b = 5 := by omega
    subst e
    exact br_t (nI_le (a := 5) (by omega) (by omega)) (h M yn' pt' (wd_end hs hsd I))
  | succ dd ih =>
    intro b M yn' pt' hb hM I
    exact br_f (nI_ge (b := 5) (by omega) (by omega)) (Exists.intro (6 ^ b + 1) (mj_Y32 hs hd hsd (by omega) m32 hY hB hR hK (fun M2 yn2 pt2 hM2 I2 => ih (b + 1) M2 yn2 pt2 (by omega) hM2 (wd_round I2)) (6 ^ b) 0 M yn' pt' (by omega) hM I))
theorem mj_widest {Q : Int32 → SX → Int32 → SY → Prop} (hR : rl_R th up co ca cl ex pl fi la bw pr av cn pa ed le us) (v1 v2 : Int32) (h : ∀ r op' gp' yn' pt', Q r (gc, gk, gb, th, up, co, ca, cl, ex, pl, fi, la, bw, pr, av, cn, pa, us, fo, op', ct, lk, dn, gp', rs, cf, qu, en, lo, ab, tr) r (yn', yl, yk, th, co, ca, cl, up, ex, ed, bw, pr, av, le, pa, pt', bs)) : wpX_widest (fun r u => wpY_widest (fun r' v => Q r u r' v) (yn, yl, yk, th, co, ca, cl, up, ex, ed, bw, pr, av, le, pa, pt, bs) v1 v2) (gc, gk, gb, th, up, co, ca, cl, ex, pl, fi, la, bw, pr, av, cn, pa, us, fo, op, ct, lk, dn, gp, rs, cf, qu, en, lo, ab, tr) v1 v2 := by
  by_cases he : rl_ends v1
  · obtain ⟨s, d, s6, d6, sd, rfl⟩ := he
    by_cases hm : rl_lim 32 v2
    · obtain ⟨m, m32, rfl⟩ := hm
      obtain ⟨w, K, B, R, f, g, ⟨h1, h2, h3, h4, h5, h6, h7, h8, h9⟩, hN, hM⟩ := hR
      have yw : ∀ (post : Int32 → SY → Prop), (∀ M yn' pt', wd_Spec (tn_O th up cl (tn_ov le pa) B R K (m / 8) (nI (m % 8)) 1 8) (mj_rm (tn_ov le pa) B R K (m / 8)) s d M → post (nI M) (yn', yl, yk, th, co, ca, cl, up, ex, ed, bw, pr, av, le, pa, pt', bs)) → wpY_widest post (yn, yl, yk, th, co, ca, cl, up, ex, ed, bw, pr, av, le, pa, pt, bs) (nI (6 * s + d)) (nI m) := by
        intro post k
        unfold wpY_widest
        exact rl_f0 s6 d6 sd (br_t rfl (rl_s0 m32 (br_t rfl (Exists.intro 6 (mj_Y23 s6 d6 sd m32 (tn_YOof h9) h4 h5 h3 k 5 0 0 yn pt rfl (by omega) wd_Inv0)))))
      refine mj_X h1 s6 d6 sd m32 (tn_XOof h9) h4 h5 h3 (fun M op' gp' sp => yw _ (fun M' yn' pt' sp' => ?_))
      rw [wd_uniq sp' sp]
      exact h _ op' gp' yn' pt'
    · have yb : ∀ (post : Int32 → SY → Prop), post (-1) (yn, yl, yk, th, co, ca, cl, up, ex, ed, bw, pr, av, le, pa, pt, bs) → wpY_widest post (yn, yl, yk, th, co, ca, cl, up, ex, ed, bw, pr, av, le, pa, pt, bs) (nI (6 * s + d)) v2 := fun post k => by unfold wpY_widest; exact rl_f0 s6 d6 sd (br_t rfl (rl_s1 hm (br_f (by decide) k)))
      have xb : ∀ (post : Int32 → SX → Prop), post (-1) (gc, gk, gb, th, up, co, ca, cl, ex, pl, fi, la, bw, pr, av, cn, pa, us, fo, op, ct, lk, dn, gp, rs, cf, qu, en, lo, ab, tr) → wpX_widest post (gc, gk, gb, th, up, co, ca, cl, ex, pl, fi, la, bw, pr, av, cn, pa, us, fo, op, ct, lk, dn, gp, rs, cf, qu, en, lo, ab, tr) (nI (6 * s + d)) v2 := fun post k => by unfold wpX_widest; exact rl_e1 s6 d6 sd (br_f (by decide) (rl_t0 hm (br_t rfl k)))
      exact xb _ (yb _ (h _ _ _ _ _))
  · have yb : ∀ (post : Int32 → SY → Prop), post (-1) (yn, yl, yk, th, co, ca, cl, up, ex, ed, bw, pr, av, le, pa, pt, bs) → wpY_widest post (yn, yl, yk, th, co, ca, cl, up, ex, ed, bw, pr, av, le, pa, pt, bs) v1 v2 := fun post k => by unfold wpY_widest; exact rl_f1 he (br_f (by decide) k)
    have xb : ∀ (post : Int32 → SX → Prop), post (-1) (gc, gk, gb, th, up, co, ca, cl, ex, pl, fi, la, bw, pr, av, cn, pa, us, fo, op, ct, lk, dn, gp, rs, cf, qu, en, lo, ab, tr) → wpX_widest post (gc, gk, gb, th, up, co, ca, cl, ex, pl, fi, la, bw, pr, av, cn, pa, us, fo, op, ct, lk, dn, gp, rs, cf, qu, en, lo, ab, tr) v1 v2 := fun post k => by unfold wpX_widest; exact rl_e0 he (br_t rfl k)
    exact xb _ (yb _ (h _ _ _ _ _))
end MJ
end
section
section MK
/-! flow: the search of the component -/
variable {gc gk gb : Int32} {th up co ca cl ex pl fi la bw pr av cn pa fo op ct lk dn gp rs cf qu en lo ab tr : Nat → Int32} {us : Nat → Int64}
variable {r : Nat → Nat} {s d : Nat}
def mk_Q (r : Nat → Nat) (s : Nat) (cf qu : Nat → Int32) (E : Nat) (u : Nat → Nat) (k v0 : Nat) : Prop :=
  (1 ≤ E ∧ E ≤ 6 ∧ k ≤ E) ∧ (∀ i, i < E → qu i = nI (u i) ∧ u i < 6) ∧ u 0 = s ∧ (∀ i j, i < j → j < E → u i ≠ u j) ∧
  (∀ i, i < E → 1 ≤ i → ∃ j, j < i ∧ cf (u i) = nI (u j) ∧ 0 < r (6 * u j + u i)) ∧ cf s = nI s ∧ (∀ v, v < 6 → (∀ i, i < E → u i ≠ v) → cf v = -1) ∧
  (∀ i, i < k → ∀ b, b < 6 → 0 < r (6 * u i + b) → ∃ j, j < E ∧ u j = b) ∧ (k < E → ∀ b, b < v0 → 0 < r (6 * u k + b) → ∃ j, j < E ∧ u j = b)
theorem mk_in {cf qu : Nat → Int32} {E : Nat} {u : Nat → Nat} {k v0 v : Nat} (I : mk_Q r s cf qu E u k v0) (hv : v < 6) : (∃ i, i < E ∧ u i = v ∧ ¬ cf v < 0) ∨ ((∀ i, i < E → u i ≠ v) ∧ cf v = -1) := by
  obtain ⟨⟨i1, i2, i2'⟩, i3, i4, i5, i6, i7, i8, i9, i10⟩ := I
  by_cases z : ∃ i, i < E ∧ u i = v
  · obtain ⟨i, hi, e⟩ := z
    refine Or.inl ⟨i, hi, e, ?_⟩
    rcases Nat.eq_zero_or_pos i with y | y
    · subst y
      rw [← e, i4, i7]
      have := (i3 0 hi).2
      rw [i4] at this
      exact nI_pos (by omega)
    · obtain ⟨j, j1, j2, _⟩ := i6 i hi y
      rw [← e, j2]
      have := (i3 j (by omega)).2
      exact nI_pos (by omega)
  · exact Or.inr ⟨fun i hi e => z ⟨i, hi, e⟩, i8 v hv (fun i hi e => z ⟨i, hi, e⟩)⟩
theorem mk_49 {post : Int32 → SX → Prop} {J : Int32 → Int32 → (Nat → Int32) → (Nat → Int32) → (Nat → Int32) → (Nat → Int32) → (Nat → Int32) → (Nat → Int32) → (Nat → Int32) → (Nat → Int32) → (Nat → Int32) → (Nat → Int32) → (Nat → Int32) → (Nat → Int32) → (Nat → Int32) → (Nat → Int32) → (Nat → Int64) → (Nat → Int32) → (Nat → Int32) → (Nat → Int32) → (Nat → Int32) → (Nat → Int32) → (Nat → Int32) → (Nat → Int32) → (Nat → Int32) → (Nat → Int32) → (Nat → Int32) → (Nat → Int32) → (Nat → Int32) → (Nat → Int32) → Prop} {k : Nat} {x2 : Int32} (hrs : ∀ j, j < 36 → rs j = nI (r j) ∧ r j ≤ 200)
    (h : ∀ E u cf qu, k < E → mk_Q r s cf qu E u k 6 → J (nI E) (nI (k + 1)) th up co ca cl ex pl fi la bw pr av cn pa us fo op ct lk dn gp rs cf qu en lo ab tr) :
    ∀ n v E u cf qu, v + n = 6 → k < E → mk_Q r s cf qu E u k v → wX_search_49 post J x2 (nI k) gc gk gb (n + 1) (nI E) (nI v) th up co ca cl ex pl fi la bw pr av cn pa us fo op ct lk dn gp rs cf qu en lo ab tr := by
  intro n
  induction n with
  | zero =>
    intro v E u cf qu hv hk I
    have e : v = 6 := by omega
    subst e
    exact br_t (nI_le (a := 6) (by omega) (by omega)) (nm_r (nI_1 k) (h E u cf qu hk I))
  | succ n ih =>
    intro v E u cf qu hv hk I
    have I0 := I
    obtain ⟨⟨i1, i2, i2'⟩, i3, i4, i5, i6, i7, i8, i9, i10⟩ := I
    have v6 : v < 6 := by omega
    have ev : (nI v).toNatClampNeg = v := nI_clamp (by omega)
    have ek : (nI k).toNatClampNeg = k := nI_clamp (by omega)
    have vv : vp_in (nI v) 6 := vp_in_nI v6 (by omega)
    have vk : vp_in (nI k) 6 := vp_in_nI (by omega) (by omega)
    have uk := i3 k hk
    have nx : (0 < r (6 * u k + v) → ∃ j, j < E ∧ u j = v) → wX_search_49 post J x2 (nI k) gc gk gb (n + 1) (nI E) (nI (v + 1)) th up co ca cl ex pl fi la bw pr av cn pa us fo op ct lk dn gp rs cf qu en lo ab tr := by
      intro hz
      refine ih (v + 1) E u cf qu (by omega) hk ⟨⟨i1, i2, i2'⟩, i3, i4, i5, i6, i7, i8, i9, fun hk' b hb hr => ?_⟩
      by_cases e : b = v
      · subst e; exact hz hr
      · exact i10 hk' b (by omega) hr
    refine br_f (nI_ge (b := 6) (by omega) (by omega)) (And.intro vv ?_)
    rw [ev]
    rcases mk_in I0 v6 with ⟨i, hi, e, hc⟩ | ⟨hno, hc⟩
    · exact br_t (Int32.not_lt.mp hc) (nm_r (nI_1 v) (nx (fun _ => ⟨i, hi, e⟩)))
    · rw [hc]
      refine br_f (by decide) (And.intro vk ?_)
      rw [ek, uk.1, aa_6, nI_clamp (by omega), (hrs _ (by omega)).1]
      have rb := (hrs (6 * u k + v) (by omega)).2
      refine And.intro (vp_in_nI (by omega) (by omega)) (pk_le (r (6 * u k + v)) 0 (fun z => nm_r (nI_1 v) (nx (fun y => by omega))) (fun z => And.intro vk (And.intro vv (nm_r (e' := upd cf v (nI (u k))) rfl ?_))))
      have E5 : E ≤ 5 := by
        have := aa_pig6 (f := df_u u E v) (L := E) (fun i hi => by
          by_cases e : i = E
          · rw [e, df_us]; exact v6
          · rw [df_un e]; exact (i3 i (by omega)).2) (fun i j hij hj => by
          rw [df_un (show i ≠ E by omega)]
          by_cases e : j = E
          · rw [e, df_us]; exact hno i (by omega)
          · rw [df_un e]; exact i5 i j hij (by omega))
        exact this
      refine And.intro (vp_in_nI (by omega) (by omega)) (nm_r (e' := upd qu E (nI v)) (by rw [nI_clamp (by omega)]) (nm_r (nI_1 E) (nm_r (nI_1 v) (ih (v + 1) (E + 1) (df_u u E v) _ _ (by omega) (by omega) ?_))))
      have old : ∀ i, i < E → df_u u E v i = u i := fun i hi => df_un (by omega)
      have ex1 : ∀ b, (∃ j, j < E ∧ u j = b) → ∃ j, j < E + 1 ∧ df_u u E v j = b := fun b ⟨j, hj, e⟩ => ⟨j, by omega, by rw [old j hj]; exact e⟩
      have s6 : s < 6 := by rw [← i4]; exact (i3 0 (by omega)).2
      have sv : s ≠ v := by rw [← i4]; exact hno 0 (by omega)
      refine ⟨⟨by omega, by omega, by omega⟩, fun i hi => ?_, by rw [old 0 (by omega)]; exact i4, fun i j hij hj => ?_, fun i hi h1 => ?_, by rw [pk_un sv]; exact i7, fun w hw hn => ?_, fun i hi b hb hr => ?_, fun _ b hb hr => ?_⟩
      · by_cases e : i = E
        · rw [e, pk_us, df_us]; exact ⟨rfl, v6⟩
        · rw [pk_un e, df_un e]; exact i3 i (by omega)
      · rw [old i (by omega)]
        by_cases e : j = E
        · rw [e, df_us]; exact hno i (by omega)
        · rw [df_un e]; exact i5 i j hij (by omega)
      · by_cases e : i = E
        · rw [e, df_us, pk_us]
          exact ⟨k, by omega, by rw [old k hk], by rw [old k hk]; exact z⟩
        · rw [old i (by omega), pk_un (hno i (by omega))]
          obtain ⟨j, j1, j2, j3⟩ := i6 i (by omega) h1
          exact ⟨j, j1, by rw [old j (by omega)]; exact j2, by rw [old j (by omega)]; exact j3⟩
      · have wv : w ≠ v := fun e => by
          have := hn E (by omega)
          rw [df_us] at this
          exact this e.symm
        rw [pk_un wv]
        exact i8 w hw (fun i hi e => hn i (by omega) (by rw [old i hi]; exact e))
      · rw [old i (by omega)] at hr
        exact ex1 b (i9 i hi b hb hr)
      · rw [old k hk] at hr
        by_cases e : b = v
        · exact ⟨E, by omega, by rw [df_us, e]⟩
        · exact ex1 b (i10 hk b (by omega) hr)
theorem mk_40 {post : Int32 → SX → Prop} (hd : d < 6) (hrs : ∀ j, j < 36 → rs j = nI (r j) ∧ r j ≤ 200)
    (h1 : ∀ E u cf qu, mk_Q r s cf qu E u E 0 → (∃ i, i < E ∧ u i = d) → post 1 (gc, gk, gb, th, up, co, ca, cl, ex, pl, fi, la, bw, pr, av, cn, pa, us, fo, op, ct, lk, dn, gp, rs, cf, qu, en, lo, ab, tr))
    (h0 : ∀ E u cf qu, mk_Q r s cf qu E u E 0 → (¬ ∃ i, i < E ∧ u i = d) → post 0 (gc, gk, gb, th, up, co, ca, cl, ex, pl, fi, la, bw, pr, av, cn, pa, us, fo, op, ct, lk, dn, gp, rs, cf, qu, en, lo, ab, tr)) :
    ∀ n k E u cf qu, 7 ≤ k + n → mk_Q r s cf qu E u k 0 → wX_search_40 post (nI d) gc gk gb n (nI E) (nI k) th up co ca cl ex pl fi la bw pr av cn pa us fo op ct lk dn gp rs cf qu en lo ab tr := by
  intro n
  induction n with
  | zero =>
    intro k E u cf qu hk I
    obtain ⟨⟨i1, i2, i2'⟩, _⟩ := I
    omega
  | succ n ih =>
    intro k E u cf qu hk I
    have I0 := I
    obtain ⟨⟨i1, i2, i2'⟩, i3, i4, i5, i6, i7, i8, i9, i10⟩ := I
    refine pk_le E k (fun z => And.intro (vp_in_nI hd (by omega)) ?_) (fun z => Exists.intro 7 (mk_49 (s := s) hrs (fun E2 u2 cf2 qu2 hk2 I2 => ih (k + 1) E2 u2 cf2 qu2 (by omega) ?_) 6 0 E u cf qu rfl z I0))
    · have e : k = E := by omega
      subst e
      rw [nI_clamp (by omega)]
      rcases mk_in I0 hd with ⟨i, hi, e, hc⟩ | ⟨hno, hc⟩
      · exact br_f hc (h1 k u cf qu I0 ⟨i, hi, e⟩)
      · exact br_t (by rw [hc]; decide) (h0 k u cf qu I0 (fun ⟨i, hi, e⟩ => hno i hi e))
    · obtain ⟨⟨j1, j2, j2'⟩, j3, j4, j5, j6, j7, j8, j9, j10⟩ := I2
      refine ⟨⟨j1, j2, by omega⟩, j3, j4, j5, j6, j7, j8, fun i hi b hb hr => ?_, fun _ b hb => absurd hb (Nat.not_lt_zero b)⟩
      by_cases e : i = k
      · subst e; exact j10 hk2 b hb hr
      · exact j9 i (by omega) b hb hr
theorem mk_2 {post : Int32 → SX → Prop} (hs : s < 6) (hd : d < 6) (hrs : ∀ j, j < 36 → rs j = nI (r j) ∧ r j ≤ 200)
    (h1 : ∀ E u cf qu, mk_Q r s cf qu E u E 0 → (∃ i, i < E ∧ u i = d) → post 1 (gc, gk, gb, th, up, co, ca, cl, ex, pl, fi, la, bw, pr, av, cn, pa, us, fo, op, ct, lk, dn, gp, rs, cf, qu, en, lo, ab, tr))
    (h0 : ∀ E u cf qu, mk_Q r s cf qu E u E 0 → (¬ ∃ i, i < E ∧ u i = d) → post 0 (gc, gk, gb, th, up, co, ca, cl, ex, pl, fi, la, bw, pr, av, cn, pa, us, fo, op, ct, lk, dn, gp, rs, cf, qu, en, lo, ab, tr)) :
    ∀ n i cf, i + n = 6 → (∀ v, v < i → cf v = -1) → wX_search_2 post (nI s) (nI d) gc gk gb (n + 1) (nI i) th up co ca cl ex pl fi la bw pr av cn pa us fo op ct lk dn gp rs cf qu en lo ab tr := by
  intro n
  induction n with
  | zero =>
    intro i cf hi hv
    have e : i = 6 := by omega
    subst e
    refine br_t (nI_le (a := 6) (by omega) (by omega)) (And.intro (vp_in_nI hs (by omega)) (nm_r (e' := upd cf s (nI s)) (by rw [nI_clamp (by omega)]) (nm_e (Exists.intro 7 (mk_40 (s := s) hd hrs h1 h0 7 0 1 (fun _ => s) _ _ (by omega) ?_)))))
    refine ⟨⟨by omega, by omega, by omega⟩, fun i hi => ?_, rfl, fun i j hij hj => by omega, fun i hi h1 => by omega, pk_us, fun v hv' hn => ?_, fun i hi => absurd hi (Nat.not_lt_zero i), fun _ b hb => absurd hb (Nat.not_lt_zero b)⟩
    · have : i = 0 := by omega
      subst this
      exact ⟨pk_us, hs⟩
    · rw [pk_un (fun e => hn 0 (by omega) e.symm)]
      exact hv v hv'
  | succ n ih =>
    intro i cf hi hv
    refine br_f (nI_ge (b := 6) (by omega) (by omega)) (And.intro (vp_in_nI (by omega) (by omega)) (nm_r (e' := upd cf i (-1)) (by rw [nI_clamp (by omega)]) (nm_r (nI_1 i) (ih (i + 1) _ (by omega) (fun v hv' => ?_)))))
    by_cases e : v = i
    · subst e; exact pk_us
    · rw [pk_un e]; exact hv v (by omega)
theorem mk_search {post : Int32 → SX → Prop} (hs : s < 6) (hd : d < 6) (hrs : ∀ j, j < 36 → rs j = nI (r j) ∧ r j ≤ 200)
    (h1 : ∀ E u cf qu, mk_Q r s cf qu E u E 0 → (∃ i, i < E ∧ u i = d) → post 1 (gc, gk, gb, th, up, co, ca, cl, ex, pl, fi, la, bw, pr, av, cn, pa, us, fo, op, ct, lk, dn, gp, rs, cf, qu, en, lo, ab, tr))
    (h0 : ∀ E u cf qu, mk_Q r s cf qu E u E 0 → (¬ ∃ i, i < E ∧ u i = d) → post 0 (gc, gk, gb, th, up, co, ca, cl, ex, pl, fi, la, bw, pr, av, cn, pa, us, fo, op, ct, lk, dn, gp, rs, cf, qu, en, lo, ab, tr)) : wpX_search post (gc, gk, gb, th, up, co, ca, cl, ex, pl, fi, la, bw, pr, av, cn, pa, us, fo, op, ct, lk, dn, gp, rs, cf, qu, en, lo, ab, tr) (nI s) (nI d) :=
  Exists.intro 7 (mk_2 hs hd hrs h1 h0 6 0 cf rfl (fun v hv => absurd hv (Nat.not_lt_zero v)))
/-- the way back -/
theorem mk_way {cf qu : Nat → Int32} {E : Nat} {u : Nat → Nat} (I : mk_Q r s cf qu E u E 0) : ∀ i, i < E → ∃ K ch, fl_Way r s (u i) K ch ∧ (∀ j, j < K → cf (ch j) = nI (ch (j + 1)) ∧ ch j ≠ s) ∧ (∀ j, j ≤ K → ∃ m, m ≤ i ∧ ch j = u m) := by
  obtain ⟨⟨i1, i2, i2'⟩, i3, i4, i5, i6, i7, i8, i9, i10⟩ := I
  have key : ∀ n i, i < n → i < E → ∃ K ch, fl_Way r s (u i) K ch ∧ (∀ j, j < K → cf (ch j) = nI (ch (j + 1)) ∧ ch j ≠ s) ∧ (∀ j, j ≤ K → ∃ m, m ≤ i ∧ ch j = u m) := by
    intro n
    induction n with
    | zero => intro i hi; exact absurd hi (Nat.not_lt_zero i)
    | succ n ih =>
      intro i hin hi
      rcases Nat.eq_zero_or_pos i with z | z
      · subst z
        exact ⟨0, fun _ => s, ⟨i4.symm, rfl, fun _ _ => by rw [← i4]; exact (i3 0 hi).2, fun i j h1 h2 => by omega, fun i h1 => by omega⟩, fun j hj => absurd hj (Nat.not_lt_zero j), fun j _ => ⟨0, by omega, i4.symm⟩⟩
      · obtain ⟨j, j1, j2, j3⟩ := i6 i hi z
        obtain ⟨K, ch, ⟨w1, w2, w3, w4, w5⟩, c1, c2⟩ := ih j (by omega) (by omega)
        refine ⟨K + 1, fun n => if n = 0 then u i else ch (n - 1), ⟨rfl, ?_, fun n hn => ?_, fun a b hab hb => ?_, fun n hn => ?_⟩, fun n hn => ?_, fun n hn => ?_⟩
        · show (if K + 1 = 0 then u i else ch (K + 1 - 1)) = s
          rw [if_neg (by omega)]; exact w2
        · show (if n = 0 then u i else ch (n - 1)) < 6
          split
          · exact (i3 i hi).2
          · exact w3 _ (by omega)
        · show (if a = 0 then u i else ch (a - 1)) ≠ (if b = 0 then u i else ch (b - 1))
          rw [if_neg (show ¬ b = 0 by omega)]
          split
          · obtain ⟨m, m1, m2⟩ := c2 (b - 1) (by omega)
            rw [m2]
            exact fun e => i5 m i (by omega) hi e.symm
          · exact w4 _ _ (by omega) (by omega)
        · show 0 < r (6 * (if n + 1 = 0 then u i else ch (n + 1 - 1)) + (if n = 0 then u i else ch (n - 1)))
          rw [if_neg (by omega), Nat.add_sub_cancel]
          split
          · rename_i e
            rw [e, w1]; exact j3
          · have := w5 (n - 1) (by omega)
            rw [show n - 1 + 1 = n by omega] at this
            exact this
        · show cf (if n = 0 then u i else ch (n - 1)) = nI (if n + 1 = 0 then u i else ch (n + 1 - 1)) ∧ (if n = 0 then u i else ch (n - 1)) ≠ s
          rw [if_neg (show ¬ n + 1 = 0 by omega), Nat.add_sub_cancel]
          by_cases e : n = 0
          · subst e
            rw [if_pos rfl, w1]
            exact ⟨j2, by rw [← i4]; exact fun e => i5 0 i (by omega) hi e.symm⟩
          · rw [if_neg e]
            have := c1 (n - 1) (by omega)
            rw [show n - 1 + 1 = n by omega] at this
            exact this
        · show ∃ m, m ≤ i ∧ (if n = 0 then u i else ch (n - 1)) = u m
          by_cases e : n = 0
          · rw [if_pos e]; exact ⟨i, Nat.le_refl _, rfl⟩
          · rw [if_neg e]
            obtain ⟨m, m1, m2⟩ := c2 (n - 1) (by omega)
            exact ⟨m, by omega, m2⟩
  intro i hi
  exact key (i + 1) i (by omega) hi
end MK
end
section
section ML
/-! flow: filling up -/
variable {gc gk gb : Int32} {th up co ca cl ex pl fi la bw pr av cn pa fo op ct lk dn gp rs cf qu en lo ab tr : Nat → Int32} {us : Nat → Int64}
variable {r ch : Nat → Nat} {s d K l : Nat}
theorem ml_88 {post : Int32 → SX → Prop} (hs : s < 6) (w : fl_Way r s d K ch) (hc : ∀ j, j < K → cf (ch j) = nI (ch (j + 1)) ∧ ch j ≠ s) (hl : ∀ i, i < K → l ≤ r (6 * ch (i + 1) + ch i)) (hl2 : l ≤ 1000) (hp2 : ∀ x y, x < 6 → y < 6 → r (6 * x + y) + r (6 * y + x) ≤ 200)
    (h : ∀ rs', (∀ j, j < 36 → rs' j = nI (fl_rs r ch l K j)) → post (nI l) (gc, gk, gb, th, up, co, ca, cl, ex, pl, fi, la, bw, pr, av, cn, pa, us, fo, op, ct, lk, dn, gp, rs', cf, qu, en, lo, ab, tr)) :
    ∀ n i rs, i + n = K → (∀ j, j < 36 → rs j = nI (fl_rs r ch l i j)) → wX_fillUp_88 post (nI s) (nI l) gc gk gb (n + 1) (nI (ch i)) (nI i) th up co ca cl ex pl fi la bw pr av cn pa us fo op ct lk dn gp rs cf qu en lo ab tr := by
  have K5 : K ≤ 5 := aa_pig6 w.2.2.1 w.2.2.2.1
  have kp := fl_keep (l := l) w
  have al := fl_all (l := l) w hl
  obtain ⟨w1, w2, w3, w4, w5⟩ := w
  intro n
  induction n with
  | zero =>
    intro i rs hi hrs
    have e : i = K := by omega
    subst e
    exact br_f (nI_ge (b := 6) (by omega) (by omega)) (br_t (by rw [w2]) (h rs hrs))
  | succ n ih =>
    intro i rs hi hrs
    have iK : i < K := by omega
    obtain ⟨c1, c2⟩ := hc i iK
    have a1 := w3 i (by omega)
    have a2 := w3 (i + 1) (by omega)
    have ne : ch (i + 1) ≠ ch i := fun z => w4 i (i + 1) (by omega) (by omega) z.symm
    have vi : vp_in (nI (ch i)) 6 := vp_in_nI a1 (by omega)
    have ei : (nI (ch i)).toNatClampNeg = ch i := nI_clamp (by omega)
    have v1 : vp_in (nI (6 * ch (i + 1) + ch i)) 36 := vp_in_nI (by omega) (by omega)
    have v2 : vp_in (nI (6 * ch i + ch (i + 1))) 36 := vp_in_nI (by omega) (by omega)
    have ps := (al i (by omega)).2
    have q1 := ps (ch (i + 1)) (ch i) a2 a1
    have q2 := hp2 (ch (i + 1)) (ch i) a2 a1
    have kl : l ≤ fl_rs r ch l i (6 * ch (i + 1) + ch i) := by
      rw [kp i (by omega) i (Nat.le_refl _) iK]; exact hl i iK
    refine br_f (nI_ge (b := 6) (by omega) (by omega)) (br_f (fun z => c2 ((nI_eq (by omega) (by omega)).mp z)) ?_)
    rw [ei, c1, aa_6, aa_6, nI_clamp (by omega), nI_clamp (by omega)]
    refine And.intro vi (And.intro v1 (And.intro v1 (nm_r (e' := upd rs (6 * ch (i + 1) + ch i) (nI (fl_rs r ch l i (6 * ch (i + 1) + ch i) - l))) (by rw [hrs _ (by omega), pk_sub kl]) (And.intro vi (And.intro v2 (And.intro v2 (nm_r (e' := upd (upd rs (6 * ch (i + 1) + ch i) (nI (fl_rs r ch l i (6 * ch (i + 1) + ch i) - l))) (6 * ch i + ch (i + 1)) (nI (fl_rs r ch l i (6 * ch i + ch (i + 1)) + l))) ?_ (And.intro vi (nm_e (nm_r (nI_1 i) (ih (i + 1) _ (by omega) (fun j hj => ?_))))))))))))
    · rw [pk_un (by omega), hrs _ (by omega), nI_add]
    · rw [fl_rss]
      by_cases e1 : j = 6 * ch i + ch (i + 1)
      · subst e1; rw [pk_us, fl_mv2]
      · rw [pk_un e1]
        by_cases e2 : j = 6 * ch (i + 1) + ch i
        · subst e2; rw [pk_us, fl_mv1 a2 a1 ne]
        · rw [pk_un e2, fl_mv3 e2 e1]; exact hrs j hj
theorem ml_21 {post : Int32 → SX → Prop} (hs : s < 6) (w : fl_Way r s d K ch) (hc : ∀ j, j < K → cf (ch j) = nI (ch (j + 1)) ∧ ch j ≠ s) (hrs : ∀ j, j < 36 → rs j = nI (r j) ∧ r j ≤ 200) (hp2 : ∀ x y, x < 6 → y < 6 → r (6 * x + y) + r (6 * y + x) ≤ 200)
    (h : ∀ l rs', 1 ≤ l → l ≤ 1000 → (∀ i, i < K → l ≤ r (6 * ch (i + 1) + ch i)) → (∀ j, j < 36 → rs' j = nI (fl_rs r ch l K j)) → post (nI l) (gc, gk, gb, th, up, co, ca, cl, ex, pl, fi, la, bw, pr, av, cn, pa, us, fo, op, ct, lk, dn, gp, rs', cf, qu, en, lo, ab, tr)) :
    ∀ n i l, i + n = K → 1 ≤ l → l ≤ 1000 → (∀ j, j < i → l ≤ r (6 * ch (j + 1) + ch j)) → wX_fillUp_21 post (nI s) (nI d) gc gk gb th up co ca cl ex pl fi la bw pr av cn pa us fo op ct lk dn gp rs cf qu en lo ab tr (n + 1) (nI l) (nI (ch i)) (nI i) := by
  have K5 : K ≤ 5 := aa_pig6 w.2.2.1 w.2.2.2.1
  have W0 := w
  obtain ⟨w1, w2, w3, w4, w5⟩ := w
  intro n
  induction n with
  | zero =>
    intro i l hi l1 l2 hl
    have e : i = K := by omega
    subst e
    have k := ml_88 (post := post) (gc := gc) (gk := gk) (gb := gb) (th := th) (up := up) (co := co) (ca := ca) (cl := cl) (ex := ex) (pl := pl) (fi := fi) (la := la) (bw := bw) (pr := pr) (av := av) (cn := cn) (pa := pa) (us := us) (fo := fo) (op := op) (ct := ct) (lk := lk) (dn := dn) (gp := gp) (qu := qu) (en := en) (lo := lo) (ab := ab) (tr := tr) hs W0 hc hl l2 hp2 (fun rs' hrs' => h l rs' l1 l2 hl hrs') i 0 rs (by omega) (fun j hj => (hrs j hj).1)
    rw [w1] at k
    exact br_f (nI_ge (b := 6) (by omega) (by omega)) (br_t (by rw [w2]) (Exists.intro (i + 1) k))
  | succ n ih =>
    intro i l hi l1 l2 hl
    have iK : i < K := by omega
    obtain ⟨c1, c2⟩ := hc i iK
    have a1 := w3 i (by omega)
    have a2 := w3 (i + 1) (by omega)
    have vi : vp_in (nI (ch i)) 6 := vp_in_nI a1 (by omega)
    have ei : (nI (ch i)).toNatClampNeg = ch i := nI_clamp (by omega)
    have rl := hrs (6 * ch (i + 1) + ch i) (by omega)
    have rp := w5 i iK
    refine br_f (nI_ge (b := 6) (by omega) (by omega)) (br_f (fun z => c2 ((nI_eq (by omega) (by omega)).mp z)) ?_)
    rw [ei, c1, aa_6, nI_clamp (by omega), rl.1]
    have nx : ∀ m, 1 ≤ m → m ≤ 1000 → m ≤ l → m ≤ r (6 * ch (i + 1) + ch i) → wX_fillUp_66 post (wX_fillUp_21 post (nI s) (nI d) gc gk gb th up co ca cl ex pl fi la bw pr av cn pa us fo op ct lk dn gp rs cf qu en lo ab tr (n + 1)) (nI s) (nI d) (nI (ch i)) (nI i) (nI m) gc gk gb th up co ca cl ex pl fi la bw pr av cn pa us fo op ct lk dn gp rs cf qu en lo ab tr := by
      intro m m1 m2 ml mr
      refine And.intro vi (nm_r (e' := nI (ch (i + 1))) (by rw [ei]; exact c1) (nm_r (nI_1 i) (ih (i + 1) m (by omega) m1 m2 (fun j hj => ?_))))
      by_cases e : j = i
      · subst e; exact mr
      · exact Nat.le_trans ml (hl j (by omega))
    refine And.intro vi (And.intro (vp_in_nI (by omega) (by omega)) (nm_e (pk_le l (r (6 * ch (i + 1) + ch i)) (fun z => nx l l1 l2 (Nat.le_refl _) z) (fun z => nx (r (6 * ch (i + 1) + ch i)) rp (by omega) (by omega) (Nat.le_refl _)))))
theorem ml_fill {post : Int32 → SX → Prop} {r0 : Nat → Nat} {tot : Nat} (hs : s < 6) (hd : d < 6) (hrs : ∀ j, j < 36 → rs j = nI (r j) ∧ r j ≤ 200) (hr0 : ∀ k, k < 36 → r0 k ≤ 100) (I : fl_Inv r0 s d tot r)
    (h1 : ∀ l r' rs' cf' qu', 1 ≤ l → fl_Inv r0 s d (tot + l) r' → (∀ j, j < 36 → rs' j = nI (r' j)) → post (nI l) (gc, gk, gb, th, up, co, ca, cl, ex, pl, fi, la, bw, pr, av, cn, pa, us, fo, op, ct, lk, dn, gp, rs', cf', qu', en, lo, ab, tr))
    (h0 : ∀ cf' qu', fl_Spec r0 s d tot → post (nI 0) (gc, gk, gb, th, up, co, ca, cl, ex, pl, fi, la, bw, pr, av, cn, pa, us, fo, op, ct, lk, dn, gp, rs, cf', qu', en, lo, ab, tr)) : wpX_fillUp post (gc, gk, gb, th, up, co, ca, cl, ex, pl, fi, la, bw, pr, av, cn, pa, us, fo, op, ct, lk, dn, gp, rs, cf, qu, en, lo, ab, tr) (nI s) (nI d) := by
  have hp2 : ∀ x y, x < 6 → y < 6 → r (6 * x + y) + r (6 * y + x) ≤ 200 := by
    intro x y hx hy
    have h1 := I.2 x y hx hy
    have h2 := hr0 (6 * x + y) (by omega)
    have h3 := hr0 (6 * y + x) (by omega)
    omega
  unfold wpX_fillUp
  refine mk_search hs hd hrs (fun E u cf' qu' Q hin => br_f (by decide) ?_) (fun E u cf' qu' Q hno => br_t rfl (h0 cf' qu' (fl_end (fun v => ∃ i, i < E ∧ u i = v) I ?_ hno (fun x y hx hy => ?_))))
  · obtain ⟨i, hi, e⟩ := hin
    obtain ⟨K, ch, W, c1, _⟩ := mk_way Q i hi
    rw [e] at W
    have k := ml_21 (post := post) (cf := cf') (qu := qu') (gc := gc) (gk := gk) (gb := gb) (th := th) (up := up) (co := co) (ca := ca) (cl := cl) (ex := ex) (pl := pl) (fi := fi) (la := la) (bw := bw) (pr := pr) (av := av) (cn := cn) (pa := pa) (us := us) (fo := fo) (op := op) (ct := ct) (lk := lk) (dn := dn) (gp := gp) (en := en) (lo := lo) (ab := ab) (tr := tr) hs W c1 hrs hp2 (fun l rs' l1 l2 hl hrs' => h1 l _ rs' cf' qu' l1 (fl_fill I W hl) hrs') K 0 1000 (by omega) (by omega) (by omega) (fun j hj => absurd hj (Nat.not_lt_zero j))
    rw [W.1] at k
    exact Exists.intro (K + 1) k
  · obtain ⟨⟨i1, i2, i2'⟩, i3, i4, _⟩ := Q
    exact ⟨0, by omega, i4⟩
  · rintro ⟨i, hi, e⟩ hr
    rw [← e] at hr
    obtain ⟨⟨i1, i2, i2'⟩, i3, i4, i5, i6, i7, i8, i9, i10⟩ := Q
    exact i9 i hi y hy hr
theorem ml_106 {post : Int32 → SX → Prop} {r0 : Nat → Nat} (hs : s < 6) (hd : d < 6) (hsd : s ≠ d) (hr0 : ∀ k, k < 36 → r0 k ≤ 100)
    (h : ∀ tot rs' cf' qu', fl_Spec r0 s d tot → post (nI tot) (gc, gk, gb, th, up, co, ca, cl, ex, pl, fi, la, bw, pr, av, cn, pa, us, fo, op, ct, lk, dn, gp, rs', cf', qu', en, lo, ab, tr)) :
    ∀ fuel n tot mo r rs cf qu, 602 ≤ n + fuel → n ≤ tot → fl_Inv r0 s d (tot + mo) r → (mo = 0 → fl_Spec r0 s d tot) → (∀ j, j < 36 → rs j = nI (r j)) → wX_flow_106 post (nI (6 * s + d)) fuel (nI tot) (nI mo) (nI n) gc gk gb th up co ca cl ex pl fi la bw pr av cn pa us fo op ct lk dn gp rs cf qu en lo ab tr := by
  have es : nI (6 * s + d) / 6 = nI s := by rw [aa_div6 (by omega), (fl_d hd).1]
  have ed' : nI (6 * s + d) - nI (6 * s + d) / 6 * 6 = nI d := by rw [aa_mod6 (by omega), (fl_d hd).2]
  intro fuel
  induction fuel with
  | zero =>
    intro n tot mo r rs cf qu hf hn I hz hrs
    have := fl_bound I hsd hr0 hs
    omega
  | succ fuel ih =>
    intro n tot mo r rs cf qu hf hn I hz hrs
    have bd := fl_bound I hsd hr0 hs
    have hp2 : ∀ j, j < 36 → r j ≤ 200 := by
      intro j hj
      have h1 := I.2 (j / 6) (j % 6) (by omega) (by omega)
      have h2 := hr0 (6 * (j / 6) + j % 6) (by omega)
      have h3 := hr0 (6 * (j % 6) + j / 6) (by omega)
      rw [show 6 * (j / 6) + j % 6 = j by omega] at h1 h2
      omega
    refine br_f (nI_ge (b := 600) (by omega) (by omega)) (pk_le mo 0 (fun z => ?_) (fun z => nm_r (nI_add tot mo) (And.intro aa_6n (And.intro aa_6n ?_))))
    · have : mo = 0 := by omega
      exact h tot rs cf qu (hz this)
    · rw [ed', es]
      exact ml_fill hs hd (fun j hj => ⟨hrs j hj, hp2 j hj⟩) hr0 I (fun l r' rs' cf' qu' l1 I' hrs' => nm_r (nI_1 n) (ih (n + 1) (tot + mo) l r' rs' cf' qu' (by omega) (by omega) I' (fun y => by omega) hrs')) (fun cf' qu' sp => nm_r (nI_1 n) (ih (n + 1) (tot + mo) 0 r rs cf' qu' (by omega) (by omega) I (fun _ => sp) hrs))
end ML
end
section
section MM
/-! flow -/
variable {gc gk gb : Int32} {th up co ca cl ex pl fi la bw pr av cn pa fo op ct lk dn gp rs cf qu en lo ab tr : Nat → Int32} {us : Nat → Int64}
variable {yn yl yk : Int32} {ed le pt bs : Nat → Int32}
variable {K B R : Nat → Nat} {ov : Nat → Nat → Bool} {s d m : Nat}
noncomputable def mm_Fb (F : Nat → Prop) (c : Nat) : Bool := @decide (F c) (Classical.propDecidable _)
theorem mm_Fb1 {F : Nat → Prop} {c : Nat} : mm_Fb F c = true ↔ F c := @decide_eq_true_iff _ (Classical.propDecidable _)
noncomputable def mm_r (F : Nat → Prop) (rm : Nat → Nat) (k : Nat) : Nat := if k / 6 ≠ k % 6 ∧ mm_Fb F (aa_cd (k / 6) (k % 6)) = true then rm (aa_cd (k / 6) (k % 6)) else 0
theorem mm_r1 {F : Nat → Prop} {rm : Nat → Nat} {k : Nat} (h : k / 6 ≠ k % 6) (f : F (aa_cd (k / 6) (k % 6))) : mm_r F rm k = rm (aa_cd (k / 6) (k % 6)) := if_pos ⟨h, mm_Fb1.mpr f⟩
theorem mm_r0 {F : Nat → Prop} {rm : Nat → Nat} {k : Nat} (h : ¬ (k / 6 ≠ k % 6 ∧ F (aa_cd (k / 6) (k % 6)))) : mm_r F rm k = 0 := if_neg (fun z => h ⟨z.1, mm_Fb1.mp z.2⟩)
theorem mm_31 {post : Int32 → SX → Prop} {F : Nat → Prop} (hs : s < 6) (hd : d < 6) (hsd : s ≠ d) (m32 : m < 32) (hO : tn_XO pl us ov) (hB : tn_v bw B 8 100) (hR : tn_v pr R 8 3) (hK : tn_v ca K 36 100) (ho : tn_Op op F) (hF : ∀ c, c < 36 → F c → tn_tk ov B R c (m / 8) 8 + 1 ≤ K c)
    (h : ∀ tot rs' cf' qu', fl_Spec (mm_r F (mj_rm ov B R K (m / 8))) s d tot → post (nI tot) (gc, gk, gb, th, up, co, ca, cl, ex, pl, fi, la, bw, pr, av, cn, pa, us, fo, op, ct, lk, dn, gp, rs', cf', qu', en, lo, ab, tr)) :
    ∀ n i rs, i + n = 36 → (∀ j, j < i → rs j = nI (mm_r F (mj_rm ov B R K (m / 8)) j)) → wX_flow_31 post (nI (6 * s + d)) (nI m) gc gk gb (n + 1) (nI i) th up co ca cl ex pl fi la bw pr av cn pa us fo op ct lk dn gp rs cf qu en lo ab tr := by
  have eq8 : nI m >>> ((3 : Int32) &&& 31) = nI (m / 8) := pk_shrN (by omega) _ 3 (by decide)
  have es : nI (6 * s + d) / 6 = nI s := by rw [aa_div6 (by omega), (fl_d hd).1]
  have ed' : nI (6 * s + d) - nI (6 * s + d) / 6 * 6 = nI d := by rw [aa_mod6 (by omega), (fl_d hd).2]
  have rb : ∀ c, c < 36 → mj_rm ov B R K (m / 8) c ≤ 100 := fun c hc => by
    have := (hK c hc).2
    unfold mj_rm
    omega
  have r0b : ∀ k, k < 36 → mm_r F (mj_rm ov B R K (m / 8)) k ≤ 100 := by
    intro k hk
    unfold mm_r
    split
    · exact rb _ (aa_cd_lt (by omega) (by omega))
    · omega
  intro n
  induction n with
  | zero =>
    intro i rs hi hrs
    have e : i = 36 := by omega
    subst e
    refine br_t (nI_le (a := 36) (by omega) (by omega)) (And.intro aa_6n (And.intro aa_6n ?_))
    rw [ed', es]
    have I0 : fl_Inv (mm_r F (mj_rm ov B R K (m / 8))) s d 0 (mm_r F (mj_rm ov B R K (m / 8))) := ⟨fun _ _ _ => rfl, fun _ _ _ _ => rfl⟩
    exact ml_fill hs hd (fun j hj => ⟨hrs j hj, by have := r0b j hj; omega⟩) r0b I0 (fun l r' rs' cf' qu' l1 I' hrs' => Exists.intro 602 (ml_106 hs hd hsd r0b h 602 0 0 l r' rs' cf' qu' (by omega) (by omega) I' (fun y => by omega) hrs')) (fun cf' qu' sp => Exists.intro 602 (ml_106 hs hd hsd r0b h 602 0 0 0 _ rs cf' qu' (by omega) (by omega) I0 (fun _ => sp) hrs))
  | succ n ih =>
    intro i rs hi hrs
    have i36 : i < 36 := by omega
    have vi : vp_in (nI i) 36 := vp_in_nI i36 (by omega)
    have ei : (nI i).toNatClampNeg = i := nI_clamp (by omega)
    have hl := aa_cd_lt (show i / 6 < 6 by omega) (show i % 6 < 6 by omega)
    have nx : wX_flow_31 post (nI (6 * s + d)) (nI m) gc gk gb (n + 1) (nI (i + 1)) th up co ca cl ex pl fi la bw pr av cn pa us fo op ct lk dn gp (upd rs i (nI (mm_r F (mj_rm ov B R K (m / 8)) i))) cf qu en lo ab tr := by
      refine ih (i + 1) _ (by omega) (fun j hj => ?_)
      by_cases e : j = i
      · subst e; exact pk_us
      · rw [pk_un e]; exact hrs j (by omega)
    refine br_f (nI_ge (b := 36) (by omega) (by omega)) (And.intro aa_6n (nm_r (aa_div6 (by omega)) (And.intro aa_6n (nm_r (aa_mod6 (by omega)) ?_))))
    refine xa_areJoined (by omega) (by omega) ho (fun hn f => br_f (by decide) ?_) (fun hn => br_t rfl (And.intro vi (nm_r (e' := upd rs i (nI (mm_r F (mj_rm ov B R K (m / 8)) i))) ?_ (nm_r (nI_1 i) nx))))
    · rw [eq8]
      unfold wpX_roomBetween
      refine xa_codeOf (by omega) (by omega) (xa_roomFor hl (by omega) tn_bt8 hO hB hR hK (And.intro vi (nm_r (e' := upd rs i (nI (mm_r F (mj_rm ov B R K (m / 8)) i))) ?_ (nm_r (nI_1 i) nx))))
      rw [ei, mm_r1 hn f, pk_sub (by have := hF _ hl f; omega)]
      rfl
    · rw [ei, mm_r0 hn]
      rfl
theorem mm_X {post : Int32 → SX → Prop} (hs : s < 6) (hd : d < 6) (hsd : s ≠ d) (m32 : m < 32) (hO : tn_XO pl us ov) (hB : tn_v bw B 8 100) (hR : tn_v pr R 8 3) (hK : tn_v ca K 36 100)
    (h : ∀ tot op' rs' cf' qu', fl_Spec (mm_r (tn_O th up cl ov B R K (m / 8) (nI (m % 8)) 1 8) (mj_rm ov B R K (m / 8))) s d tot → post (nI tot) (gc, gk, gb, th, up, co, ca, cl, ex, pl, fi, la, bw, pr, av, cn, pa, us, fo, op', ct, lk, dn, gp, rs', cf', qu', en, lo, ab, tr)) : wpX_flow post (gc, gk, gb, th, up, co, ca, cl, ex, pl, fi, la, bw, pr, av, cn, pa, us, fo, op, ct, lk, dn, gp, rs, cf, qu, en, lo, ab, tr) (nI (6 * s + d)) (nI m) := by
  have eq8 : nI m >>> ((3 : Int32) &&& 31) = nI (m / 8) := pk_shrN (by omega) _ 3 (by decide)
  have er8 : nI m &&& 7 = nI (m % 8) := pk_andN (by omega) 3 (by decide)
  unfold wpX_flow
  refine rl_e1 hs hd hsd (br_f (by decide) (rl_t1 m32 (br_f (by decide) ?_)))
  rw [er8, eq8]
  exact xa_openLinks (b := 1) (by omega) (by omega) tn_bt8 hO hB hR hK (fun o ho => Exists.intro 37 (mm_31 hs hd hsd m32 hO hB hR hK ho (fun c _ f => f.2) (fun tot rs' cf' qu' sp => h tot o rs' cf' qu' sp) 36 0 rs rfl (fun j hj => absurd hj (Nat.not_lt_zero j))))
/-! the reference: all cuts -/
def mm_S (k : Nat) (v : Nat) : Bool := decide (me_b k v = 1)
noncomputable def mm_t (F : Nat → Prop) (rm : Nat → Nat) (k c : Nat) : Nat := if mm_S k (c / 6) ≠ mm_S k (c % 6) ∧ mm_Fb F c = true then rm c else 0
noncomputable def mm_ct (F : Nat → Prop) (rm : Nat → Nat) (k : Nat) : Nat → Nat := aa_sm (mm_t F rm k)
theorem mm_Seq {k : Nat} {a b : Nat} : mm_S k a = mm_S k b ↔ me_b k a = me_b k b := by
  unfold mm_S
  have h1 := me_b01 k a
  have h2 := me_b01 k b
  constructor
  · intro h
    have := decide_eq_decide.mp h
    omega
  · intro h
    rw [h]
theorem mm_62 {post : Int32 → Prop} {J : Int32 → Int32 → Prop} {F : Nat → Prop} {rm : Nat → Nat} {x1 : Int32} {k M : Nat} (k64 : k < 64) (m32 : m < 32) (hM : M < 2 ^ 20) (hY : tn_YO le pa) (hB : tn_v bw B 8 100) (hR : tn_v pr R 8 3) (hK : tn_v ca K 36 100) (hF : F = tn_O th up cl (tn_ov le pa) B R K (m / 8) (nI (m % 8)) 1 8) (hrm : rm = mj_rm (tn_ov le pa) B R K (m / 8))
    (h : J (nI (min M (mm_ct F rm k 36))) (nI (k + 1))) :
    ∀ n i, i + n = 36 → wY_flow_62 post J x1 (nI m) (nI M) (nI k) yn yl yk th co ca cl up ex ed bw pr av le pa pt bs (n + 1) (nI (mm_ct F rm k i)) (nI i) := by
  have rb : ∀ c, c < 36 → rm c ≤ 100 := fun c hc => by
    have := (hK c hc).2
    rw [hrm]
    unfold mj_rm
    omega
  have cb : mm_ct F rm k 36 ≤ 36 * 100 := by
    refine aa_sm_bd fun c hc => ?_
    unfold mm_t
    split
    · exact rb c hc
    · omega
  intro n
  induction n with
  | zero =>
    intro i hi
    have e : i = 36 := by omega
    subst e
    refine br_t (nI_le (a := 36) (by omega) (by omega)) (pk_le M (mm_ct F rm k 36) (fun z => nm_r (nI_1 k) ?_) (fun z => nm_r (nI_1 k) ?_))
    · rw [Nat.min_eq_left z] at h; exact h
    · rw [Nat.min_eq_right (by omega)] at h; exact h
  | succ n ih =>
    intro i hi
    have i36 : i < 36 := by omega
    have nx := ih (i + 1) (by omega)
    have es : mm_ct F rm k (i + 1) = mm_ct F rm k i + mm_t F rm k i := rfl
    rw [es] at nx
    have skip : ¬ (mm_S k (i / 6) ≠ mm_S k (i % 6) ∧ F i) → wY_flow_62 post J x1 (nI m) (nI M) (nI k) yn yl yk th co ca cl up ex ed bw pr av le pa pt bs (n + 1) (nI (mm_ct F rm k i)) (nI (i + 1)) := by
      intro hz
      have e0 : mm_t F rm k i = 0 := if_neg (fun z => hz ⟨z.1, mm_Fb1.mp z.2⟩)
      rw [e0, Nat.add_zero] at nx
      exact nx
    have bd := tn_tk_bd (ov := tn_ov le pa) (R := R) (c := i) (p := m / 8) (but := 8) hB
    have kb := (hK i i36).2
    refine br_f (nI_ge (b := 36) (by omega) (by omega)) (And.intro aa_6n (And.intro aa_6n ?_))
    rw [aa_mod6 (by omega), aa_div6 (by omega), me_bit k64 (by omega), me_bit k64 (by omega)]
    have b1 := me_b01 k (i / 6)
    have b2 := me_b01 k (i % 6)
    refine pk_eq (me_b k (i / 6)) (me_b k (i % 6)) (fun z => br_t rfl (nm_r (nI_1 i) (skip (fun y => y.1 (mm_Seq.mpr z))))) (fun z => br_f (by decide) (And.intro aa_8n ?_))
    rw [aa_mod8 (by omega), aa_div8 (by omega)]
    refine ya_isOpen i36 (fun hm => br_f (by decide) (And.intro aa_8n (ya_roomOf i36 (by omega) tn_bt8 hY hB hR hK (br_c (fun q => nm_r (nI_1 i) (skip (fun y => ?_))) (fun q => And.intro aa_8n (ya_roomOf i36 (by omega) tn_bt8 hY hB hR hK (nm_r (e' := nI (mm_ct F rm k i + mm_t F rm k i)) ?_ (nm_r (nI_1 i) nx)))))))) (fun hm => br_t rfl (nm_r (nI_1 i) (skip (fun y => ?_))))
    · have q' := (aa_rle (w := 0) (by omega) (by omega) (by omega)).mp q
      have := y.2
      rw [hF] at this
      have := this.2
      omega
    · have q' : ¬ K i ≤ tn_tk (tn_ov le pa) B R i (m / 8) 8 + 0 := fun y => q ((aa_rle (w := 0) (by omega) (by omega) (by omega)).mpr y)
      have f : F i := by rw [hF]; exact ⟨hm, by omega⟩
      have e1 : mm_t F rm k i = rm i := if_pos ⟨fun y => z (mm_Seq.mp y), mm_Fb1.mpr f⟩
      rw [e1, pk_sub (by omega), nI_add, hrm]
      rfl
    · have := y.2
      rw [hF] at this
      exact hm this.1
def mm_V (s d k : Nat) : Prop := me_b k s = 1 ∧ me_b k d = 0
theorem mm_24 {post : Int32 → Prop} {F : Nat → Prop} {rm : Nat → Nat} (hs : s < 6) (hd : d < 6) (m32 : m < 32) (hY : tn_YO le pa) (hB : tn_v bw B 8 100) (hR : tn_v pr R 8 3) (hK : tn_v ca K 36 100) (hF : F = tn_O th up cl (tn_ov le pa) B R K (m / 8) (nI (m % 8)) 1 8) (hrm : rm = mj_rm (tn_ov le pa) B R K (m / 8))
    (h : ∀ M, (∀ k, k < 64 → mm_V s d k → M ≤ mm_ct F rm k 36) → (M = 100000 ∨ ∃ k, k < 64 ∧ mm_V s d k ∧ M = mm_ct F rm k 36) → post (nI M)) :
    ∀ n i M, i + n = 64 → M ≤ 100000 → (∀ k, k < i → mm_V s d k → M ≤ mm_ct F rm k 36) → (M = 100000 ∨ ∃ k, k < i ∧ mm_V s d k ∧ M = mm_ct F rm k 36) → wY_flow_24 post (nI (6 * s + d)) (nI m) yn yl yk th co ca cl up ex ed bw pr av le pa pt bs (n + 1) (nI M) (nI i) := by
  have es : nI (6 * s + d) / 6 = nI s := by rw [aa_div6 (by omega), (fl_d hd).1]
  have ed' : nI (6 * s + d) - nI (6 * s + d) / 6 * 6 = nI d := by rw [aa_mod6 (by omega), (fl_d hd).2]
  intro n
  induction n with
  | zero =>
    intro i M hi hM h1 h2
    have e : i = 64 := by omega
    subst e
    exact br_t (nI_le (a := 64) (by omega) (by omega)) (h M h1 h2)
  | succ n ih =>
    intro i M hi hM h1 h2
    have i64 : i < 64 := by omega
    have skip : ¬ mm_V s d i → wY_flow_24 post (nI (6 * s + d)) (nI m) yn yl yk th co ca cl up ex ed bw pr av le pa pt bs (n + 1) (nI M) (nI (i + 1)) := by
      intro hz
      refine ih (i + 1) M (by omega) hM (fun k hk v => ?_) ?_
      · by_cases e : k = i
        · rw [e] at v; exact absurd v hz
        · exact h1 k (by omega) v
      · rcases h2 with z | ⟨k, k1, k2, k3⟩
        · exact Or.inl z
        · exact Or.inr ⟨k, by omega, k2, k3⟩
    refine br_f (nI_ge (b := 64) (by omega) (by omega)) (And.intro aa_6n ?_)
    rw [ed', es]
    refine br_c (fun a => And.intro aa_6n (br_c (fun b => Exists.intro 37 (mm_62 i64 m32 (by omega) hY hB hR hK hF hrm (ih (i + 1) _ (by omega) (by omega) (fun k hk v => ?_) ?_) 36 0 rfl)) (fun b => nm_r (nI_1 i) (skip (fun v => b ((me_0 i64 hd).mpr v.2)))))) (fun a => nm_r (nI_1 i) (skip (fun v => a ((me_1 i64 hs).mpr v.1))))
    · by_cases e : k = i
      · subst e; exact Nat.min_le_right _ _
      · exact Nat.le_trans (Nat.min_le_left _ _) (h1 k (by omega) v)
    · rcases Nat.le_total M (mm_ct F rm i 36) with z | z
      · rw [Nat.min_eq_left z]
        rcases h2 with y | ⟨k, k1, k2, k3⟩
        · exact Or.inl y
        · exact Or.inr ⟨k, by omega, k2, k3⟩
      · rw [Nat.min_eq_right z]
        exact Or.inr ⟨i, by omega, ⟨(me_1 i64 hs).mp a, (me_0 i64 hd).mp b⟩, rfl⟩
theorem mm_tb : ∀ k, k < 64 → ∀ v, v < 6 → Nat.testBit k v = mm_S k v := by decide +kernel
theorem mm_Sp {F : Nat → Prop} {rm : Nat → Nat} {M : Nat} (hs : s < 6) (hd : d < 6) (hsd : s ≠ d) (hFc : ∀ c, c < 36 → F c → c / 6 < c % 6) (hrb : ∀ c, c < 36 → rm c ≤ 100) (h1 : ∀ k, k < 64 → mm_V s d k → M ≤ mm_ct F rm k 36) (h2 : M = 100000 ∨ ∃ k, k < 64 ∧ mm_V s d k ∧ M = mm_ct F rm k 36) : fl_Spec (mm_r F rm) s d M := by
  have cut : ∀ X : Nat → Bool, fl_out X (mm_r F rm) = aa_sm (fun c => if X (c / 6) ≠ X (c % 6) ∧ mm_Fb F c = true then rm c else 0) 36 := by
    intro X
    refine fl_cut (fun a b ha hb => ?_) (fun c hc f => hFc c hc (mm_Fb1.mp f))
    unfold mm_r
    rw [(fl_d hb).1, (fl_d hb).2]
  have low : ∀ X : Nat → Bool, X s = true → X d = false → M ≤ fl_out X (mm_r F rm) := by
    intro X xs xd
    obtain ⟨k, k64, kb⟩ := fl_mask X
    have kS : ∀ v, v < 6 → mm_S k v = X v := fun v hv => (mm_tb k k64 v hv).symm.trans (kb v hv)
    have v : mm_V s d k := by
      constructor
      · exact of_decide_eq_true ((kS s hs).trans xs)
      · have := of_decide_eq_false ((kS d hd).trans xd)
        rcases me_b01 k d with z | z
        · exact z
        · exact absurd z this
    have := h1 k k64 v
    rw [← fl_out_c (X := mm_S k) (Z := X) (fun v hv => kS v hv), cut]
    exact this
  refine ⟨low, ?_⟩
  rcases h2 with z | ⟨k, k1, k2, k3⟩
  · have l := low (fun v => decide (v = s)) (decide_eq_true rfl) (decide_eq_false (fun e => hsd e.symm))
    rw [cut] at l
    have : aa_sm (fun c => if decide (c / 6 = s) ≠ decide (c % 6 = s) ∧ mm_Fb F c = true then rm c else 0) 36 ≤ 36 * 100 := by
      refine aa_sm_bd fun c hc => ?_
      split
      · exact hrb c hc
      · omega
    omega
  · refine ⟨mm_S k, decide_eq_true k2.1, decide_eq_false (fun y => by have := k2.2; omega), ?_⟩
    rw [cut]
    exact k3
theorem mm_Y {post : Int32 → Prop} (hcode : ∀ c, c < 36 → ¬ th c = 0 → c / 6 < c % 6) (hs : s < 6) (hd : d < 6) (hsd : s ≠ d) (m32 : m < 32) (hY : tn_YO le pa) (hB : tn_v bw B 8 100) (hR : tn_v pr R 8 3) (hK : tn_v ca K 36 100)
    (h : ∀ M, fl_Spec (mm_r (tn_O th up cl (tn_ov le pa) B R K (m / 8) (nI (m % 8)) 1 8) (mj_rm (tn_ov le pa) B R K (m / 8))) s d M → post (nI M)) : wpY_flow post (yn, yl, yk, th, co, ca, cl, up, ex, ed, bw, pr, av, le, pa, pt, bs) (nI (6 * s + d)) (nI m) := by
  unfold wpY_flow
  refine rl_f0 hs hd hsd (br_t rfl (rl_s0 m32 (br_t rfl (Exists.intro 65 (mm_24 hs hd m32 hY hB hR hK rfl rfl (fun M h1 h2 => h M (mm_Sp hs hd hsd (fun c hc f => hcode c hc f.1.1) (fun c hc => ?_) h1 h2)) 64 0 100000 rfl (Nat.le_refl _) (fun k hk => absurd hk (Nat.not_lt_zero k)) (Or.inl rfl))))))
  have := (hK c hc).2
  unfold mj_rm
  omega
theorem mm_flow {Q : Int32 → SX → Int32 → Prop} (hR : rl_R th up co ca cl ex pl fi la bw pr av cn pa ed le us) (v1 v2 : Int32) (h : ∀ r op' rs' cf' qu', Q r (gc, gk, gb, th, up, co, ca, cl, ex, pl, fi, la, bw, pr, av, cn, pa, us, fo, op', ct, lk, dn, gp, rs', cf', qu', en, lo, ab, tr) r) : wpX_flow (fun r u => wpY_flow (fun r' => Q r u r') (yn, yl, yk, th, co, ca, cl, up, ex, ed, bw, pr, av, le, pa, pt, bs) v1 v2) (gc, gk, gb, th, up, co, ca, cl, ex, pl, fi, la, bw, pr, av, cn, pa, us, fo, op, ct, lk, dn, gp, rs, cf, qu, en, lo, ab, tr) v1 v2 := by
  by_cases he : rl_ends v1
  · obtain ⟨s, d, s6, d6, sd, rfl⟩ := he
    by_cases hm : rl_lim 32 v2
    · obtain ⟨m, m32, rfl⟩ := hm
      obtain ⟨w, K, B, R, f, g, ⟨h1, h2, h3, h4, h5, h6, h7, h8, h9⟩, hN, hM⟩ := hR
      refine mm_X s6 d6 sd m32 (tn_XOof h9) h4 h5 h3 (fun tot op' rs' cf' qu' sp => mm_Y h1 s6 d6 sd m32 (tn_YOof h9) h4 h5 h3 (fun M sp' => ?_))
      rw [fl_uniq sp' sp]
      exact h _ op' rs' cf' qu'
    · have yb : ∀ (post : Int32 → Prop), post (-1) → wpY_flow post (yn, yl, yk, th, co, ca, cl, up, ex, ed, bw, pr, av, le, pa, pt, bs) (nI (6 * s + d)) v2 := fun post k => by unfold wpY_flow; exact rl_f0 s6 d6 sd (br_t rfl (rl_s1 hm (br_f (by decide) k)))
      have xb : ∀ (post : Int32 → SX → Prop), post (-1) (gc, gk, gb, th, up, co, ca, cl, ex, pl, fi, la, bw, pr, av, cn, pa, us, fo, op, ct, lk, dn, gp, rs, cf, qu, en, lo, ab, tr) → wpX_flow post (gc, gk, gb, th, up, co, ca, cl, ex, pl, fi, la, bw, pr, av, cn, pa, us, fo, op, ct, lk, dn, gp, rs, cf, qu, en, lo, ab, tr) (nI (6 * s + d)) v2 := fun post k => by unfold wpX_flow; exact rl_e1 s6 d6 sd (br_f (by decide) (rl_t0 hm (br_t rfl k)))
      exact xb _ (yb _ (h _ _ _ _ _))
  · have yb : ∀ (post : Int32 → Prop), post (-1) → wpY_flow post (yn, yl, yk, th, co, ca, cl, up, ex, ed, bw, pr, av, le, pa, pt, bs) v1 v2 := fun post k => by unfold wpY_flow; exact rl_f1 he (br_f (by decide) k)
    have xb : ∀ (post : Int32 → SX → Prop), post (-1) (gc, gk, gb, th, up, co, ca, cl, ex, pl, fi, la, bw, pr, av, cn, pa, us, fo, op, ct, lk, dn, gp, rs, cf, qu, en, lo, ab, tr) → wpX_flow post (gc, gk, gb, th, up, co, ca, cl, ex, pl, fi, la, bw, pr, av, cn, pa, us, fo, op, ct, lk, dn, gp, rs, cf, qu, en, lo, ab, tr) v1 v2 := fun post k => by unfold wpX_flow; exact rl_e0 he (br_t rfl k)
    exact xb _ (yb _ (h _ _ _ _ _))
end MM
end
section
section VC
/-! the owed statements -/
theorem i_vc_link {k : Nat} {u : SX} {v : SY} (I : i_Rel k u v) (hk : k + 5 ≤ 2560) (v1 : Int32) (v2 : Int32) (v3 : Int32) : wpX_link (fun r u' => wpY_link (fun r' v' => r' = r ∧ i_Rel (k + 5) u' v') v v1 v2 v3) u v1 v2 v3 := by
  refine rl_el (k := k) (P := fun u v => wpX_link (fun r u' => wpY_link (fun r' v' => r' = r ∧ i_Rel (k + 5) u' v') v v1 v2 v3) u v1 v2 v3) ?_ I
  intro gc gk gb th up co ca cl ex pl fi la bw pr av cn pa us fo op ct lk dn gp rs cf qu en lo ab tr yn yl yk ed le pt bs hR
  obtain ⟨r, th2, up2, co2, ca2, cl2, pl2, cn2, pa2, us2, le2, h, hX, hY⟩ := mb_link (gc := gc) (gk := gk) (gb := gb) (fo := fo) (op := op) (ct := ct) (lk := lk) (dn := dn) (gp := gp) (rs := rs) (cf := cf) (qu := qu) (en := en) (lo := lo) (ab := ab) (tr := tr) (yn := yn) (yl := yl) (yk := yk) (pt := pt) (bs := bs) hR v1 v2 v3
  exact hX _ (fun _ _ _ _ _ _ _ => hY _ (fun _ _ _ _ _ => And.intro rfl (rl_in h)))
theorem i_vc_unlink {k : Nat} {u : SX} {v : SY} (I : i_Rel k u v) (hk : k + 5 ≤ 2560) (v1 : Int32) : wpX_unlink (fun r u' => wpY_unlink (fun r' v' => r' = r ∧ i_Rel (k + 5) u' v') v v1) u v1 := by
  refine rl_el (k := k) (P := fun u v => wpX_unlink (fun r u' => wpY_unlink (fun r' v' => r' = r ∧ i_Rel (k + 5) u' v') v v1) u v1) ?_ I
  intro gc gk gb th up co ca cl ex pl fi la bw pr av cn pa us fo op ct lk dn gp rs cf qu en lo ab tr yn yl yk ed le pt bs hR
  obtain ⟨r, th2, pl2, cn2, pa2, us2, le2, h, hX, hY⟩ := mb_unlink (gc := gc) (gk := gk) (gb := gb) (fo := fo) (op := op) (ct := ct) (lk := lk) (dn := dn) (gp := gp) (rs := rs) (cf := cf) (qu := qu) (en := en) (lo := lo) (ab := ab) (tr := tr) (yn := yn) (yl := yl) (yk := yk) (pt := pt) (bs := bs) hR v1
  exact hX _ (fun _ _ _ _ _ _ _ => hY _ (fun _ _ _ _ _ => And.intro rfl (rl_in h)))
theorem i_vc_change {k : Nat} {u : SX} {v : SY} (I : i_Rel k u v) (hk : k + 5 ≤ 2560) (v1 : Int32) (v2 : Int32) (v3 : Int32) : wpX_change (fun r u' => wpY_change (fun r' v' => r' = r ∧ i_Rel (k + 5) u' v') v v1 v2 v3) u v1 v2 v3 := by
  refine rl_el (k := k) (P := fun u v => wpX_change (fun r u' => wpY_change (fun r' v' => r' = r ∧ i_Rel (k + 5) u' v') v v1 v2 v3) u v1 v2 v3) ?_ I
  intro gc gk gb th up co ca cl ex pl fi la bw pr av cn pa us fo op ct lk dn gp rs cf qu en lo ab tr yn yl yk ed le pt bs hR
  obtain ⟨r, up2, co2, ca2, cl2, pl2, cn2, pa2, us2, le2, h, hX, hY⟩ := mc_change (gc := gc) (gk := gk) (gb := gb) (fo := fo) (op := op) (ct := ct) (lk := lk) (dn := dn) (gp := gp) (rs := rs) (cf := cf) (qu := qu) (en := en) (lo := lo) (ab := ab) (tr := tr) (yn := yn) (yl := yl) (yk := yk) (pt := pt) (bs := bs) hR v1 v2 v3
  exact hX _ (fun _ _ _ _ _ _ _ => hY _ (fun _ _ _ _ _ => And.intro rfl (rl_in h)))
theorem i_vc_look {k : Nat} {u : SX} {v : SY} (I : i_Rel k u v) (hk : k + 5 ≤ 2560) (v1 : Int32) (v2 : Int32) : wpX_look (fun r => wpY_look (fun r' => r' = r ∧ i_Rel (k + 5) u v) v v1 v2) u v1 v2 := by
  refine rl_el (k := k) (P := fun u v => wpX_look (fun r => wpY_look (fun r' => r' = r ∧ i_Rel (k + 5) u v) v v1 v2) u v1 v2) ?_ I
  intro gc gk gb th up co ca cl ex pl fi la bw pr av cn pa us fo op ct lk dn gp rs cf qu en lo ab tr yn yl yk ed le pt bs hR
  obtain ⟨r, hX, hY⟩ := ma_look (gc := gc) (gk := gk) (gb := gb) (fo := fo) (op := op) (ct := ct) (lk := lk) (dn := dn) (gp := gp) (rs := rs) (cf := cf) (qu := qu) (en := en) (lo := lo) (ab := ab) (tr := tr) (yn := yn) (yl := yl) (yk := yk) (pt := pt) (bs := bs) hR v1 v2
  exact hX _ (hY _ (And.intro rfl (rl_in hR)))
theorem i_vc_room {k : Nat} {u : SX} {v : SY} (I : i_Rel k u v) (hk : k + 5 ≤ 2560) (v1 : Int32) (v2 : Int32) : wpX_room (fun r => wpY_room (fun r' => r' = r ∧ i_Rel (k + 5) u v) v v1 v2) u v1 v2 := by
  refine rl_el (k := k) (P := fun u v => wpX_room (fun r => wpY_room (fun r' => r' = r ∧ i_Rel (k + 5) u v) v v1 v2) u v1 v2) ?_ I
  intro gc gk gb th up co ca cl ex pl fi la bw pr av cn pa us fo op ct lk dn gp rs cf qu en lo ab tr yn yl yk ed le pt bs hR
  obtain ⟨r, hX, hY⟩ := ma_room (gc := gc) (gk := gk) (gb := gb) (fo := fo) (op := op) (ct := ct) (lk := lk) (dn := dn) (gp := gp) (rs := rs) (cf := cf) (qu := qu) (en := en) (lo := lo) (ab := ab) (tr := tr) (yn := yn) (yl := yl) (yk := yk) (pt := pt) (bs := bs) hR v1 v2
  exact hX _ (hY _ (And.intro rfl (rl_in hR)))
theorem i_vc_want {k : Nat} {u : SX} {v : SY} (I : i_Rel k u v) (hk : k + 5 ≤ 2560) (v1 : Int32) (v2 : Int32) (v3 : Int32) (v4 : Int32) : wpX_want (fun r u' => wpY_want (fun r' v' => r' = r ∧ i_Rel (k + 5) u' v') v v1 v2 v3 v4) u v1 v2 v3 v4 := by
  refine rl_el (k := k) (P := fun u v => wpX_want (fun r u' => wpY_want (fun r' v' => r' = r ∧ i_Rel (k + 5) u' v') v v1 v2 v3 v4) u v1 v2 v3 v4) ?_ I
  intro gc gk gb th up co ca cl ex pl fi la bw pr av cn pa us fo op ct lk dn gp rs cf qu en lo ab tr yn yl yk ed le pt bs hR
  obtain ⟨r, ex2, fi2, la2, bw2, pr2, av2, pl2, cn2, pa2, us2, ed2, le2, h, hX, hY⟩ := mc_want (gc := gc) (gk := gk) (gb := gb) (fo := fo) (op := op) (ct := ct) (lk := lk) (dn := dn) (gp := gp) (rs := rs) (cf := cf) (qu := qu) (en := en) (lo := lo) (ab := ab) (tr := tr) (yn := yn) (yl := yl) (yk := yk) (pt := pt) (bs := bs) hR v1 v2 v3 v4
  exact hX _ (fun _ _ _ _ _ _ _ => hY _ (fun _ _ _ _ _ => And.intro rfl (rl_in h)))
theorem i_vc_release {k : Nat} {u : SX} {v : SY} (I : i_Rel k u v) (hk : k + 5 ≤ 2560) (v1 : Int32) : wpX_release (fun r u' => wpY_release (fun r' v' => r' = r ∧ i_Rel (k + 5) u' v') v v1) u v1 := by
  refine rl_el (k := k) (P := fun u v => wpX_release (fun r u' => wpY_release (fun r' v' => r' = r ∧ i_Rel (k + 5) u' v') v v1) u v1) ?_ I
  intro gc gk gb th up co ca cl ex pl fi la bw pr av cn pa us fo op ct lk dn gp rs cf qu en lo ab tr yn yl yk ed le pt bs hR
  obtain ⟨r, ex2, pl2, cn2, pa2, us2, le2, h, hX, hY⟩ := mc_release (gc := gc) (gk := gk) (gb := gb) (fo := fo) (op := op) (ct := ct) (lk := lk) (dn := dn) (gp := gp) (rs := rs) (cf := cf) (qu := qu) (en := en) (lo := lo) (ab := ab) (tr := tr) (yn := yn) (yl := yl) (yk := yk) (pt := pt) (bs := bs) hR v1
  exact hX _ (fun _ _ _ _ _ _ _ => hY _ (fun _ _ _ _ _ => And.intro rfl (rl_in h)))
theorem i_vc_improve {k : Nat} {u : SX} {v : SY} (I : i_Rel k u v) (hk : k + 5 ≤ 2560) (v1 : Int32) : wpX_improve (fun r u' => wpY_improve (fun r' v' => r' = r ∧ i_Rel (k + 5) u' v') v v1) u v1 := by
  refine rl_el (k := k) (P := fun u v => wpX_improve (fun r u' => wpY_improve (fun r' v' => r' = r ∧ i_Rel (k + 5) u' v') v v1) u v1) ?_ I
  intro gc gk gb th up co ca cl ex pl fi la bw pr av cn pa us fo op ct lk dn gp rs cf qu en lo ab tr yn yl yk ed le pt bs hR
  obtain ⟨r, pl2, cn2, pa2, us2, le2, h, hX, hY⟩ := md_improve (gc := gc) (gk := gk) (gb := gb) (fo := fo) (op := op) (ct := ct) (lk := lk) (dn := dn) (gp := gp) (rs := rs) (cf := cf) (qu := qu) (en := en) (lo := lo) (ab := ab) (tr := tr) (yn := yn) (yl := yl) (yk := yk) (pt := pt) (bs := bs) hR v1
  exact hX _ (fun _ _ _ _ _ _ _ => hY _ (fun _ _ _ _ _ => And.intro rfl (rl_in h)))
theorem i_vc_state {k : Nat} {u : SX} {v : SY} (I : i_Rel k u v) (hk : k + 5 ≤ 2560) (v1 : Int32) : wpX_state (fun r => wpY_state (fun r' => r' = r ∧ i_Rel (k + 5) u v) v v1) u v1 := by
  refine rl_el (k := k) (P := fun u v => wpX_state (fun r => wpY_state (fun r' => r' = r ∧ i_Rel (k + 5) u v) v v1) u v1) ?_ I
  intro gc gk gb th up co ca cl ex pl fi la bw pr av cn pa us fo op ct lk dn gp rs cf qu en lo ab tr yn yl yk ed le pt bs hR
  obtain ⟨r, hX, hY⟩ := ma_state (gc := gc) (gk := gk) (gb := gb) (fo := fo) (op := op) (ct := ct) (lk := lk) (dn := dn) (gp := gp) (rs := rs) (cf := cf) (qu := qu) (en := en) (lo := lo) (ab := ab) (tr := tr) (yn := yn) (yl := yl) (yk := yk) (pt := pt) (bs := bs) hR v1
  exact hX _ (hY _ (And.intro rfl (rl_in hR)))
theorem i_vc_node {k : Nat} {u : SX} {v : SY} (I : i_Rel k u v) (hk : k + 5 ≤ 2560) (v1 : Int32) (v2 : Int32) : wpX_node (fun r => wpY_node (fun r' => r' = r ∧ i_Rel (k + 5) u v) v v1 v2) u v1 v2 := by
  refine rl_el (k := k) (P := fun u v => wpX_node (fun r => wpY_node (fun r' => r' = r ∧ i_Rel (k + 5) u v) v v1 v2) u v1 v2) ?_ I
  intro gc gk gb th up co ca cl ex pl fi la bw pr av cn pa us fo op ct lk dn gp rs cf qu en lo ab tr yn yl yk ed le pt bs hR
  obtain ⟨r, hX, hY⟩ := ma_node (gc := gc) (gk := gk) (gb := gb) (fo := fo) (op := op) (ct := ct) (lk := lk) (dn := dn) (gp := gp) (rs := rs) (cf := cf) (qu := qu) (en := en) (lo := lo) (ab := ab) (tr := tr) (yn := yn) (yl := yl) (yk := yk) (pt := pt) (bs := bs) hR v1 v2
  exact hX _ (hY _ (And.intro rfl (rl_in hR)))
theorem i_vc_cost {k : Nat} {u : SX} {v : SY} (I : i_Rel k u v) (hk : k + 5 ≤ 2560) (v1 : Int32) : wpX_cost (fun r => wpY_cost (fun r' => r' = r ∧ i_Rel (k + 5) u v) v v1) u v1 := by
  refine rl_el (k := k) (P := fun u v => wpX_cost (fun r => wpY_cost (fun r' => r' = r ∧ i_Rel (k + 5) u v) v v1) u v1) ?_ I
  intro gc gk gb th up co ca cl ex pl fi la bw pr av cn pa us fo op ct lk dn gp rs cf qu en lo ab tr yn yl yk ed le pt bs hR
  obtain ⟨r, hX, hY⟩ := ma_cost (gc := gc) (gk := gk) (gb := gb) (fo := fo) (op := op) (ct := ct) (lk := lk) (dn := dn) (gp := gp) (rs := rs) (cf := cf) (qu := qu) (en := en) (lo := lo) (ab := ab) (tr := tr) (yn := yn) (yl := yl) (yk := yk) (pt := pt) (bs := bs) hR v1
  exact hX _ (hY _ (And.intro rfl (rl_in hR)))
theorem i_vc_over {k : Nat} {u : SX} {v : SY} (I : i_Rel k u v) (hk : k + 5 ≤ 2560) (v1 : Int32) : wpX_over (fun r => wpY_over (fun r' => r' = r ∧ i_Rel (k + 5) u v) v v1) u v1 := by
  refine rl_el (k := k) (P := fun u v => wpX_over (fun r => wpY_over (fun r' => r' = r ∧ i_Rel (k + 5) u v) v v1) u v1) ?_ I
  intro gc gk gb th up co ca cl ex pl fi la bw pr av cn pa us fo op ct lk dn gp rs cf qu en lo ab tr yn yl yk ed le pt bs hR
  obtain ⟨r, hX, hY⟩ := ma_over (gc := gc) (gk := gk) (gb := gb) (fo := fo) (op := op) (ct := ct) (lk := lk) (dn := dn) (gp := gp) (rs := rs) (cf := cf) (qu := qu) (en := en) (lo := lo) (ab := ab) (tr := tr) (yn := yn) (yl := yl) (yk := yk) (pt := pt) (bs := bs) hR v1
  exact hX _ (hY _ (And.intro rfl (rl_in hR)))
theorem i_vc_quote {k : Nat} {u : SX} {v : SY} (I : i_Rel k u v) (hk : k + 5 ≤ 2560) (v1 : Int32) (v2 : Int32) (v3 : Int32) : wpX_quote (fun r u' => wpY_quote (fun r' v' => r' = r ∧ i_Rel (k + 5) u' v') v v1 v2 v3) u v1 v2 v3 := by
  refine rl_el (k := k) (P := fun u v => wpX_quote (fun r u' => wpY_quote (fun r' v' => r' = r ∧ i_Rel (k + 5) u' v') v v1 v2 v3) u v1 v2 v3) ?_ I
  intro gc gk gb th up co ca cl ex pl fi la bw pr av cn pa us fo op ct lk dn gp rs cf qu en lo ab tr yn yl yk ed le pt bs hR
  obtain ⟨r, hX, hY⟩ := md_quote (gc := gc) (gk := gk) (gb := gb) (fo := fo) (op := op) (ct := ct) (lk := lk) (dn := dn) (gp := gp) (rs := rs) (cf := cf) (qu := qu) (en := en) (lo := lo) (ab := ab) (tr := tr) (yn := yn) (yl := yl) (yk := yk) (pt := pt) (bs := bs) hR v1 v2 v3
  exact hX _ (fun _ _ _ _ _ _ _ => hY _ (fun _ _ _ _ _ => And.intro rfl (rl_in hR)))
theorem i_vc_widest {k : Nat} {u : SX} {v : SY} (I : i_Rel k u v) (hk : k + 5 ≤ 2560) (v1 : Int32) (v2 : Int32) : wpX_widest (fun r u' => wpY_widest (fun r' v' => r' = r ∧ i_Rel (k + 5) u' v') v v1 v2) u v1 v2 := by
  refine rl_el (k := k) (P := fun u v => wpX_widest (fun r u' => wpY_widest (fun r' v' => r' = r ∧ i_Rel (k + 5) u' v') v v1 v2) u v1 v2) ?_ I
  intro gc gk gb th up co ca cl ex pl fi la bw pr av cn pa us fo op ct lk dn gp rs cf qu en lo ab tr yn yl yk ed le pt bs hR
  exact mj_widest (Q := fun r u' r' v' => r' = r ∧ i_Rel (k + 5) u' v') hR v1 v2 (fun _ _ _ _ _ => And.intro rfl (rl_in hR))
theorem i_vc_flow {k : Nat} {u : SX} {v : SY} (I : i_Rel k u v) (hk : k + 5 ≤ 2560) (v1 : Int32) (v2 : Int32) : wpX_flow (fun r u' => wpY_flow (fun r' => r' = r ∧ i_Rel (k + 5) u' v) v v1 v2) u v1 v2 := by
  refine rl_el (k := k) (P := fun u v => wpX_flow (fun r u' => wpY_flow (fun r' => r' = r ∧ i_Rel (k + 5) u' v) v v1 v2) u v1 v2) ?_ I
  intro gc gk gb th up co ca cl ex pl fi la bw pr av cn pa us fo op ct lk dn gp rs cf qu en lo ab tr yn yl yk ed le pt bs hR
  exact mm_flow (Q := fun r u' r' => r' = r ∧ i_Rel (k + 5) u' (yn, yl, yk, th, co, ca, cl, up, ex, ed, bw, pr, av, le, pa, pt, bs)) hR v1 v2 (fun _ _ _ _ _ => And.intro rfl (rl_in hR))
theorem i_vc_bridge {k : Nat} {u : SX} {v : SY} (I : i_Rel k u v) (hk : k + 5 ≤ 2560) (v1 : Int32) : wpX_bridge (fun r u' => wpY_bridge (fun r' => r' = r ∧ i_Rel (k + 5) u' v) v v1) u v1 := by
  refine rl_el (k := k) (P := fun u v => wpX_bridge (fun r u' => wpY_bridge (fun r' => r' = r ∧ i_Rel (k + 5) u' v) v v1) u v1) ?_ I
  intro gc gk gb th up co ca cl ex pl fi la bw pr av cn pa us fo op ct lk dn gp rs cf qu en lo ab tr yn yl yk ed le pt bs hR
  obtain ⟨r, hX, hY⟩ := mi_bridge (gc := gc) (gk := gk) (gb := gb) (fo := fo) (op := op) (ct := ct) (lk := lk) (dn := dn) (gp := gp) (rs := rs) (cf := cf) (qu := qu) (en := en) (lo := lo) (ab := ab) (tr := tr) (yn := yn) (yl := yl) (yk := yk) (pt := pt) (bs := bs) hR v1
  exact hX _ (fun _ _ _ _ _ _ => hY _ (And.intro rfl (rl_in hR)))
theorem i_vc_groups {k : Nat} {u : SX} {v : SY} (I : i_Rel k u v) (hk : k + 5 ≤ 2560) : wpX_groups (fun r u' => wpY_groups (fun r' => r' = r ∧ i_Rel (k + 5) u' v) v) u := by
  refine rl_el (k := k) (P := fun u v => wpX_groups (fun r u' => wpY_groups (fun r' => r' = r ∧ i_Rel (k + 5) u' v) v) u) ?_ I
  intro gc gk gb th up co ca cl ex pl fi la bw pr av cn pa us fo op ct lk dn gp rs cf qu en lo ab tr yn yl yk ed le pt bs hR
  obtain ⟨r, hX, hY⟩ := mf_groups (gc := gc) (gk := gk) (gb := gb) (fo := fo) (op := op) (ct := ct) (lk := lk) (dn := dn) (gp := gp) (rs := rs) (cf := cf) (qu := qu) (en := en) (lo := lo) (ab := ab) (tr := tr) (yn := yn) (yl := yl) (yk := yk) (pt := pt) (bs := bs) hR
  exact hX _ (fun _ _ => hY _ (And.intro rfl (rl_in hR)))
end VC
end
