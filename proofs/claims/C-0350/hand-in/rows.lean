section
/-! pure rows to paste: stores, nI and lN arithmetic, masks, shifts, narrowing, branches by naturals (pk_le, pk_lt, pk_eq), loops (lp1 .. lp16: the measure of the state; rp1 ..: recursion), negatives. Take what you need -/
theorem pk_us {f : Nat → Int32} {k : Nat} {x : Int32} : upd f k x k = x := if_pos rfl
theorem pk_un {f : Nat → Int32} {k j : Nat} {x : Int32} (h : j ≠ k) : upd f k x j = f j := if_neg h
theorem pk_uLs {f : Nat → Int64} {k : Nat} {x : Int64} : vp_updL f k x k = x := if_pos rfl
theorem pk_uLn {f : Nat → Int64} {k j : Nat} {x : Int64} (h : j ≠ k) : vp_updL f k x j = f j := if_neg h
theorem pk_sub {a b : Nat} (h : b ≤ a) : nI a - nI b = nI (a - b) := by
  obtain ⟨c, rfl⟩ : ∃ c, a = c + b := ⟨a - b, by omega⟩
  rw [← nI_add, Int32.add_sub_cancel, Nat.add_sub_cancel]
theorem pk_m1 (n : Nat) : nI (n + 1) + (-1) = nI n := by
  rw [← nI_1, Int32.add_assoc, show (1 : Int32) + (-1) = 0 from rfl, Int32.add_zero]
theorem pk_mul (a b : Nat) : nI a * nI b = nI (a * b) := (Int32.ofNat_mul a b).symm
theorem pk_div {a d : Nat} (ha : a < 2 ^ 31) (h0 : 0 < d) (hd : d < 2 ^ 31) : nI a / nI d = nI (a / d) := by
  apply Int32.toInt_inj.mp
  rw [lg_idiv_nonneg (by rw [nI_toInt ha]; omega) (by rw [nI_toInt hd]; omega), nI_toInt ha, nI_toInt hd, nI_toInt (Nat.lt_of_le_of_lt (Nat.div_le_self a d) ha)]
  first | rfl | exact (Int.natCast_ediv _ _).symm
theorem pk_rem {a d : Nat} (ha : a < 2 ^ 31) (h0 : 0 < d) (hd : d < 2 ^ 31) : nI a - nI a / nI d * nI d = nI (a % d) := by
  rw [pk_div ha h0 hd, pk_mul, pk_sub (Nat.div_mul_le_self a d)]
  exact congrArg nI (by have := Nat.div_add_mod' a d; omega)
theorem pk_sub_toInt {a b : Nat} (ha : a < 2 ^ 30) (hb : b < 2 ^ 30) : (nI a - nI b).toInt = (a : Int) - b := by
  rw [Int32.toInt_sub, nI_toInt (by omega), nI_toInt (by omega)]
  exact Int.bmod_eq_of_le (by omega) (by omega)
theorem pk_sneg {a b : Nat} (hb : b < 2 ^ 30) (h : a < b) : nI a - nI b < 0 := by
  rw [Int32.lt_iff_toInt_lt, pk_sub_toInt (by omega) hb, show (0 : Int32).toInt = 0 from by decide]
  omega
theorem pk_ix (x : Int32) {n : Nat} (hn : n < 2 ^ 31) : x < 0 ∨ nI n ≤ x ∨ ∃ j : Nat, j < n ∧ x = nI j := by
  by_cases h : x < 0
  · exact Or.inl h
  · obtain ⟨j, hj, rfl⟩ := nI_of h
    by_cases h2 : j < n
    · exact Or.inr (Or.inr ⟨j, h2, rfl⟩)
    · exact Or.inr (Or.inl (nI_le (by omega) hj))
theorem pk_le {x y : Int32} {A B : Prop} (a b : Nat) (f : a ≤ b → A) (g : b < a → B) (hx : x = nI a := by rfl) (hy : y = nI b := by rfl) (ha : a < 2 ^ 31 := by omega) (hb : b < 2 ^ 31 := by omega) : (x ≤ y → A) ∧ (¬ x ≤ y → B) := by
  subst hx hy
  rw [nI_leI ha hb]
  exact ⟨f, fun z => g (by omega)⟩
theorem pk_lt {x y : Int32} {A B : Prop} (a b : Nat) (f : a < b → A) (g : b ≤ a → B) (hx : x = nI a := by rfl) (hy : y = nI b := by rfl) (ha : a < 2 ^ 31 := by omega) (hb : b < 2 ^ 31 := by omega) : (x < y → A) ∧ (¬ x < y → B) := by
  subst hx hy
  rw [nI_ltI ha hb]
  exact ⟨f, fun z => g (by omega)⟩
theorem pk_eq {x y : Int32} {A B : Prop} (a b : Nat) (f : a = b → A) (g : a ≠ b → B) (hx : x = nI a := by rfl) (hy : y = nI b := by rfl) (ha : a < 2 ^ 31 := by omega) (hb : b < 2 ^ 31 := by omega) : (x = y → A) ∧ (¬ x = y → B) := by
  subst hx hy
  rw [nI_eq ha hb]
  exact ⟨f, g⟩
theorem pk_in {x : Int32} (n N : Nat) (h : n < N) (hx : x = nI n := by rfl) (hN : N < 2 ^ 31 := by omega) : vp_in x N := by
  subst hx
  exact vp_in_nI h hN
theorem pk_cl {x : Int32} (n : Nat) (hx : x = nI n := by rfl) (h : n < 2 ^ 31 := by omega) : x.toNatClampNeg = n := by
  subst hx
  exact nI_clamp h
theorem pk_tn {n : Nat} (h : n < 2 ^ 32) : (nI n).toBitVec.toNat = n := Nat.mod_eq_of_lt h
theorem pk_and (x : Int32) {m : Int32} (k : Nat) (hm : m.toBitVec.toNat = 2 ^ k - 1) : x &&& m = nI (x.toBitVec.toNat % 2 ^ k) := by
  apply Int32.toBitVec_inj.mp
  apply BitVec.eq_of_toNat_eq
  rw [Int32.toBitVec_and, BitVec.toNat_and, hm, Nat.and_two_pow_sub_one_eq_mod]
  show _ = (BitVec.ofNat 32 _).toNat
  rw [BitVec.toNat_ofNat]
  exact (Nat.mod_eq_of_lt (Nat.lt_of_le_of_lt (Nat.mod_le _ _) x.toBitVec.isLt)).symm
theorem pk_andN {n : Nat} (h : n < 2 ^ 32) {m : Int32} (k : Nat) (hm : m.toBitVec.toNat = 2 ^ k - 1) : nI n &&& m = nI (n % 2 ^ k) := by
  rw [pk_and _ k hm, pk_tn h]
theorem pk_andE (x : Int32) {m : Int32} (k : Nat) (hm : m.toBitVec.toNat = 2 ^ k - 1) : ∃ j : Nat, j < 2 ^ k ∧ x &&& m = nI j := ⟨_, Nat.mod_lt _ (Nat.two_pow_pos k), pk_and x k hm⟩
theorem pk_andIn (x : Int32) {m : Int32} (k : Nat) (hm : m.toBitVec.toNat = 2 ^ k - 1) (hk : k ≤ 30) : vp_in (x &&& m) (2 ^ k) := by
  obtain ⟨j, hj, e⟩ := pk_andE x k hm
  rw [e]
  exact vp_in_nI hj (Nat.lt_of_le_of_lt (Nat.pow_le_pow_right (by decide) hk) (by decide))
theorem pk_shl (a s : Int32) (k : Nat) (hs : (s.toBitVec.smod 32).toNat = k) : (a <<< s).toBitVec.toNat = a.toBitVec.toNat * 2 ^ k % 2 ^ 32 := by
  show (a.toBitVec <<< (s.toBitVec.smod 32).toNat).toNat = _
  rw [hs, BitVec.toNat_shiftLeft, Nat.shiftLeft_eq]
theorem pk_shlN {n : Nat} (s : Int32) (k : Nat) (hs : (s.toBitVec.smod 32).toNat = k) (h : n * 2 ^ k < 2 ^ 32) : nI n <<< s = nI (n * 2 ^ k) := by
  apply Int32.toBitVec_inj.mp
  apply BitVec.eq_of_toNat_eq
  have hn : n < 2 ^ 32 := Nat.lt_of_le_of_lt (Nat.le_mul_of_pos_right n (Nat.two_pow_pos k)) h
  rw [pk_shl _ _ k hs, pk_tn hn, pk_tn h, Nat.mod_eq_of_lt h]
theorem pk_shr (a s : Int32) (k : Nat) (hs : (s.toBitVec.smod 32).toNat = k) : (a >>> s).toInt = a.toInt >>> k := by
  show (a.toBitVec.sshiftRight (s.toBitVec.smod 32).toNat).toInt = _
  rw [hs, BitVec.toInt_sshiftRight]
  rfl
theorem pk_shrN {n : Nat} (h : n < 2 ^ 31) (s : Int32) (k : Nat) (hs : (s.toBitVec.smod 32).toNat = k) : nI n >>> s = nI (n / 2 ^ k) := by
  apply Int32.toInt_inj.mp
  have h2 : n / 2 ^ k ≤ n := Nat.div_le_self _ _
  rw [pk_shr _ _ k hs, nI_toInt h, nI_toInt (by omega), Int.shiftRight_eq_div_pow]
  rfl
theorem pk_ushr (x s : Int32) (k : Nat) (hs : ((s.toUInt32 &&& Int32.toUInt32 31).toBitVec % 32).toNat = k) : (x.toUInt32 >>> (s.toUInt32 &&& Int32.toUInt32 31)).toInt32.toBitVec.toNat = x.toBitVec.toNat / 2 ^ k := by
  have e : (x.toUInt32 >>> (s.toUInt32 &&& Int32.toUInt32 31)).toInt32.toBitVec = x.toBitVec >>> k := by
    rw [← hs]
    exact UInt32.toBitVec_shiftRight _ _
  rw [e, BitVec.toNat_ushiftRight, Nat.shiftRight_eq_div_pow]
theorem pk_ushrN {n : Nat} (hn : n < 2 ^ 32) (s : Int32) (k : Nat) (hs : ((s.toUInt32 &&& Int32.toUInt32 31).toBitVec % 32).toNat = k) : ((nI n).toUInt32 >>> (s.toUInt32 &&& Int32.toUInt32 31)).toInt32 = nI (n / 2 ^ k) := by
  apply Int32.toBitVec_inj.mp
  apply BitVec.eq_of_toNat_eq
  rw [pk_ushr _ s k hs, pk_tn hn, pk_tn (Nat.lt_of_le_of_lt (Nat.div_le_self _ _) hn)]
theorem pk_nb (z : Int32) : narrow .byte (.int z.toInt8.toInt32) = .int z.toInt8.toInt32 := congrArg Value.int (by simp)
theorem pk_ns (z : Int32) : narrow .short (.int z.toInt16.toInt32) = .int z.toInt16.toInt32 := congrArg Value.int (by simp)
theorem pk_fb (r : Int32) : fits .byte (.int r.toInt8.toInt32) = true := by
  have ⟨a, b⟩ := lg_i2b_range r
  have h1 : (-128 : Int32).toInt = -128 := by decide
  have h2 : (127 : Int32).toInt = 127 := by decide
  simp only [fits, Bool.and_eq_true, decide_eq_true_eq, Int32.le_iff_toInt_le, h1, h2]
  omega
theorem pk_fs (r : Int32) : fits .short (.int r.toInt16.toInt32) = true := by
  have ⟨a, b⟩ := lg_i2s_range r
  have h1 : (-32768 : Int32).toInt = -32768 := by decide
  have h2 : (32767 : Int32).toInt = 32767 := by decide
  simp only [fits, Bool.and_eq_true, decide_eq_true_eq, Int32.le_iff_toInt_le, h1, h2]
  omega
theorem pk_charN {q : Nat} (hq : q < 65536) : narrow .char (.int (nI q)) = .int (nI q) ∧ fits .char (.int (nI q)) = true := by
  constructor
  · have e : (nI q).toUInt32.toUInt16.toUInt32.toInt32 = nI q := by
      apply Int32.toBitVec_inj.mp
      apply BitVec.eq_of_toNat_eq
      show (nI q).toUInt32.toUInt16.toUInt32.toNat = q % 2 ^ 32
      rw [UInt16.toNat_toUInt32, UInt32.toNat_toUInt16, show (nI q).toUInt32.toNat = q % 2 ^ 32 from rfl]
      omega
    exact congrArg Value.int e
  · have a : (0 : Int32) ≤ nI q := nI_pos' (by omega)
    have b : nI q ≤ 65535 := nI_le (b := 65535) (by omega) (by decide)
    show (decide ((0 : Int32) ≤ nI q) && decide (nI q ≤ 65535)) = true
    rw [decide_eq_true a, decide_eq_true b]
    rfl
theorem pk_char (x : Int32) : (x.toUInt32 % 65536).toInt32 = nI (x.toBitVec.toNat % 65536) := by
  apply Int32.toBitVec_inj.mp
  apply BitVec.eq_of_toNat_eq
  rw [pk_tn (by omega)]
  show (x.toUInt32 % 65536).toNat = _
  rw [UInt32.toNat_mod]
  rfl
theorem pk_nc (x : Int32) : narrow .char (.int (x.toUInt32 % 65536).toInt32) = .int (x.toUInt32 % 65536).toInt32 := by
  rw [pk_char]
  exact (pk_charN (Nat.mod_lt _ (by decide))).1
theorem pk_fc (x : Int32) : fits .char (.int (x.toUInt32 % 65536).toInt32) = true := by
  rw [pk_char]
  exact (pk_charN (Nat.mod_lt _ (by decide))).2
theorem pk_vb (z : Int32) : vp_nar .byte z.toInt8.toInt32 = z.toInt8.toInt32 := by rw [vp_nar_byte]; simp
theorem pk_vs (z : Int32) : vp_nar .short z.toInt16.toInt32 = z.toInt16.toInt32 := by rw [vp_nar_short]; simp
theorem pk_vc (z : Int32) : vp_nar .char (z.toUInt32 % 65536).toInt32 = (z.toUInt32 % 65536).toInt32 := Value.int.inj (pk_nc z)
theorem pk_lT {n : Nat} (h : n < 2 ^ 63) : (lN n).toInt = (n : Int) := lg_ofNat_toInt h
theorem pk_lLT {a b : Nat} (ha : a < 2 ^ 63) (hb : b < 2 ^ 63) : lN a < lN b ↔ a < b := by
  rw [Int64.lt_iff_toInt_lt, pk_lT ha, pk_lT hb]; omega
theorem pk_lLE {a b : Nat} (ha : a < 2 ^ 63) (hb : b < 2 ^ 63) : lN a ≤ lN b ↔ a ≤ b := by
  rw [Int64.le_iff_toInt_le, pk_lT ha, pk_lT hb]; omega
theorem pk_lEQ {a b : Nat} (ha : a < 2 ^ 63) (hb : b < 2 ^ 63) : lN a = lN b ↔ a = b := by
  rw [← Int64.toInt_inj, pk_lT ha, pk_lT hb]; omega
theorem pk_lOf {x : Int64} (h : ¬ x < 0) : ∃ k : Nat, k < 2 ^ 63 ∧ x = lN k := by
  rw [Int64.lt_iff_toInt_lt] at h
  have h0 : (0 : Int64).toInt = 0 := by decide
  have hx := Int64.toInt_lt x
  refine ⟨x.toInt.toNat, by omega, Int64.toInt_inj.mp ?_⟩
  rw [pk_lT (by omega)]
  omega
theorem pk_lDiv {a b : Nat} (ha : a < 2 ^ 63) (h0 : 0 < b) (hb : b < 2 ^ 63) : lN a / lN b = lN (a / b) := by
  apply Int64.toInt_inj.mp
  rw [lg_ldiv_nonneg (by rw [pk_lT ha]; omega) (by rw [pk_lT hb]; omega), pk_lT ha, pk_lT hb, pk_lT (Nat.lt_of_le_of_lt (Nat.div_le_self a b) ha)]
  rfl
theorem pk_lRem {a b : Nat} (ha : a < 2 ^ 63) (h0 : 0 < b) (hb : b < 2 ^ 63) : lN a - lN a / lN b * lN b = lN (a % b) := by
  rw [pk_lDiv ha h0 hb, lN_mul, lN_sub (Nat.div_mul_le_self a b)]
  exact congrArg lN (by have := Nat.div_add_mod' a b; omega)
theorem pk_loop {σ : Type} (W : Nat → Nat → σ → Prop) (I : Nat → σ → Prop) (e i0 : Nat) (s : σ) (hi : i0 ≤ e) (h0 : I i0 s) (hx : ∀ n s, I e s → W (n + 1) e s)
    (hs : ∀ n i s, i < e → I i s → (∀ s', I (i + 1) s' → W n (i + 1) s') → W (n + 1) i s) : ∃ n, W n i0 s :=
  ⟨e + 1, loop_i W I e hx hs (e + 1) i0 s hi (by omega) h0⟩
theorem pk_loopD {σ : Type} (W : Nat → Nat → σ → Prop) (I : Nat → σ → Prop) (hx : ∀ n s, I 0 s → W (n + 1) 0 s)
    (hs : ∀ n i s, I (i + 1) s → (∀ s', I i s' → W n i s') → W (n + 1) (i + 1) s) : ∀ (e : Nat) (s : σ), I e s → W (e + 1) e s := by
  intro e
  induction e with
  | zero => exact fun s h => hx 0 s h
  | succ e ih => exact fun s h => hs (e + 1) e s h (fun s' h' => ih s' h')
theorem lp1 {A1 : Type} (W : Nat → A1 → Prop) (I : A1 → Prop) (μ : A1 → Nat) (hs : ∀ (n : Nat) (a1 : A1), I a1 → (∀ (b1 : A1), I b1 → μ b1 < μ a1 → W n b1) → W (n + 1) a1) (a1 : A1) (h : I a1) : ∃ n, W n a1 :=
  loop_m (σ := A1) (fun n s => W n s) (fun s => I s) (fun s => μ s) (fun n s hI hk => hs n s hI (fun b1 h9 hm => hk b1 h9 hm)) a1 h
theorem lp2 {A1 A2 : Type} (W : Nat → A1 → A2 → Prop) (I : A1 → A2 → Prop) (μ : A1 → A2 → Nat) (hs : ∀ (n : Nat) (a1 : A1) (a2 : A2), I a1 a2 → (∀ (b1 : A1) (b2 : A2), I b1 b2 → μ b1 b2 < μ a1 a2 → W n b1 b2) → W (n + 1) a1 a2) (a1 : A1) (a2 : A2) (h : I a1 a2) : ∃ n, W n a1 a2 :=
  loop_m (σ := A1 × A2) (fun n s => W n s.1 s.2) (fun s => I s.1 s.2) (fun s => μ s.1 s.2) (fun n s hI hk => hs n s.1 s.2 hI (fun b1 b2 h9 hm => hk (b1, b2) h9 hm)) (a1, a2) h
theorem lp3 {A1 A2 A3 : Type} (W : Nat → A1 → A2 → A3 → Prop) (I : A1 → A2 → A3 → Prop) (μ : A1 → A2 → A3 → Nat) (hs : ∀ (n : Nat) (a1 : A1) (a2 : A2) (a3 : A3), I a1 a2 a3 → (∀ (b1 : A1) (b2 : A2) (b3 : A3), I b1 b2 b3 → μ b1 b2 b3 < μ a1 a2 a3 → W n b1 b2 b3) → W (n + 1) a1 a2 a3) (a1 : A1) (a2 : A2) (a3 : A3) (h : I a1 a2 a3) : ∃ n, W n a1 a2 a3 :=
  loop_m (σ := A1 × A2 × A3) (fun n s => W n s.1 s.2.1 s.2.2) (fun s => I s.1 s.2.1 s.2.2) (fun s => μ s.1 s.2.1 s.2.2) (fun n s hI hk => hs n s.1 s.2.1 s.2.2 hI (fun b1 b2 b3 h9 hm => hk (b1, b2, b3) h9 hm)) (a1, a2, a3) h
theorem lp4 {A1 A2 A3 A4 : Type} (W : Nat → A1 → A2 → A3 → A4 → Prop) (I : A1 → A2 → A3 → A4 → Prop) (μ : A1 → A2 → A3 → A4 → Nat) (hs : ∀ (n : Nat) (a1 : A1) (a2 : A2) (a3 : A3) (a4 : A4), I a1 a2 a3 a4 → (∀ (b1 : A1) (b2 : A2) (b3 : A3) (b4 : A4), I b1 b2 b3 b4 → μ b1 b2 b3 b4 < μ a1 a2 a3 a4 → W n b1 b2 b3 b4) → W (n + 1) a1 a2 a3 a4) (a1 : A1) (a2 : A2) (a3 : A3) (a4 : A4) (h : I a1 a2 a3 a4) : ∃ n, W n a1 a2 a3 a4 :=
  loop_m (σ := A1 × A2 × A3 × A4) (fun n s => W n s.1 s.2.1 s.2.2.1 s.2.2.2) (fun s => I s.1 s.2.1 s.2.2.1 s.2.2.2) (fun s => μ s.1 s.2.1 s.2.2.1 s.2.2.2) (fun n s hI hk => hs n s.1 s.2.1 s.2.2.1 s.2.2.2 hI (fun b1 b2 b3 b4 h9 hm => hk (b1, b2, b3, b4) h9 hm)) (a1, a2, a3, a4) h
theorem lp5 {A1 A2 A3 A4 A5 : Type} (W : Nat → A1 → A2 → A3 → A4 → A5 → Prop) (I : A1 → A2 → A3 → A4 → A5 → Prop) (μ : A1 → A2 → A3 → A4 → A5 → Nat) (hs : ∀ (n : Nat) (a1 : A1) (a2 : A2) (a3 : A3) (a4 : A4) (a5 : A5), I a1 a2 a3 a4 a5 → (∀ (b1 : A1) (b2 : A2) (b3 : A3) (b4 : A4) (b5 : A5), I b1 b2 b3 b4 b5 → μ b1 b2 b3 b4 b5 < μ a1 a2 a3 a4 a5 → W n b1 b2 b3 b4 b5) → W (n + 1) a1 a2 a3 a4 a5) (a1 : A1) (a2 : A2) (a3 : A3) (a4 : A4) (a5 : A5) (h : I a1 a2 a3 a4 a5) : ∃ n, W n a1 a2 a3 a4 a5 :=
  loop_m (σ := A1 × A2 × A3 × A4 × A5) (fun n s => W n s.1 s.2.1 s.2.2.1 s.2.2.2.1 s.2.2.2.2) (fun s => I s.1 s.2.1 s.2.2.1 s.2.2.2.1 s.2.2.2.2) (fun s => μ s.1 s.2.1 s.2.2.1 s.2.2.2.1 s.2.2.2.2) (fun n s hI hk => hs n s.1 s.2.1 s.2.2.1 s.2.2.2.1 s.2.2.2.2 hI (fun b1 b2 b3 b4 b5 h9 hm => hk (b1, b2, b3, b4, b5) h9 hm)) (a1, a2, a3, a4, a5) h
theorem lp6 {A1 A2 A3 A4 A5 A6 : Type} (W : Nat → A1 → A2 → A3 → A4 → A5 → A6 → Prop) (I : A1 → A2 → A3 → A4 → A5 → A6 → Prop) (μ : A1 → A2 → A3 → A4 → A5 → A6 → Nat) (hs : ∀ (n : Nat) (a1 : A1) (a2 : A2) (a3 : A3) (a4 : A4) (a5 : A5) (a6 : A6), I a1 a2 a3 a4 a5 a6 → (∀ (b1 : A1) (b2 : A2) (b3 : A3) (b4 : A4) (b5 : A5) (b6 : A6), I b1 b2 b3 b4 b5 b6 → μ b1 b2 b3 b4 b5 b6 < μ a1 a2 a3 a4 a5 a6 → W n b1 b2 b3 b4 b5 b6) → W (n + 1) a1 a2 a3 a4 a5 a6) (a1 : A1) (a2 : A2) (a3 : A3) (a4 : A4) (a5 : A5) (a6 : A6) (h : I a1 a2 a3 a4 a5 a6) : ∃ n, W n a1 a2 a3 a4 a5 a6 :=
  loop_m (σ := A1 × A2 × A3 × A4 × A5 × A6) (fun n s => W n s.1 s.2.1 s.2.2.1 s.2.2.2.1 s.2.2.2.2.1 s.2.2.2.2.2) (fun s => I s.1 s.2.1 s.2.2.1 s.2.2.2.1 s.2.2.2.2.1 s.2.2.2.2.2) (fun s => μ s.1 s.2.1 s.2.2.1 s.2.2.2.1 s.2.2.2.2.1 s.2.2.2.2.2) (fun n s hI hk => hs n s.1 s.2.1 s.2.2.1 s.2.2.2.1 s.2.2.2.2.1 s.2.2.2.2.2 hI (fun b1 b2 b3 b4 b5 b6 h9 hm => hk (b1, b2, b3, b4, b5, b6) h9 hm)) (a1, a2, a3, a4, a5, a6) h
theorem lp7 {A1 A2 A3 A4 A5 A6 A7 : Type} (W : Nat → A1 → A2 → A3 → A4 → A5 → A6 → A7 → Prop) (I : A1 → A2 → A3 → A4 → A5 → A6 → A7 → Prop) (μ : A1 → A2 → A3 → A4 → A5 → A6 → A7 → Nat) (hs : ∀ (n : Nat) (a1 : A1) (a2 : A2) (a3 : A3) (a4 : A4) (a5 : A5) (a6 : A6) (a7 : A7), I a1 a2 a3 a4 a5 a6 a7 → (∀ (b1 : A1) (b2 : A2) (b3 : A3) (b4 : A4) (b5 : A5) (b6 : A6) (b7 : A7), I b1 b2 b3 b4 b5 b6 b7 → μ b1 b2 b3 b4 b5 b6 b7 < μ a1 a2 a3 a4 a5 a6 a7 → W n b1 b2 b3 b4 b5 b6 b7) → W (n + 1) a1 a2 a3 a4 a5 a6 a7) (a1 : A1) (a2 : A2) (a3 : A3) (a4 : A4) (a5 : A5) (a6 : A6) (a7 : A7) (h : I a1 a2 a3 a4 a5 a6 a7) : ∃ n, W n a1 a2 a3 a4 a5 a6 a7 :=
  loop_m (σ := A1 × A2 × A3 × A4 × A5 × A6 × A7) (fun n s => W n s.1 s.2.1 s.2.2.1 s.2.2.2.1 s.2.2.2.2.1 s.2.2.2.2.2.1 s.2.2.2.2.2.2) (fun s => I s.1 s.2.1 s.2.2.1 s.2.2.2.1 s.2.2.2.2.1 s.2.2.2.2.2.1 s.2.2.2.2.2.2) (fun s => μ s.1 s.2.1 s.2.2.1 s.2.2.2.1 s.2.2.2.2.1 s.2.2.2.2.2.1 s.2.2.2.2.2.2) (fun n s hI hk => hs n s.1 s.2.1 s.2.2.1 s.2.2.2.1 s.2.2.2.2.1 s.2.2.2.2.2.1 s.2.2.2.2.2.2 hI (fun b1 b2 b3 b4 b5 b6 b7 h9 hm => hk (b1, b2, b3, b4, b5, b6, b7) h9 hm)) (a1, a2, a3, a4, a5, a6, a7) h
theorem lp8 {A1 A2 A3 A4 A5 A6 A7 A8 : Type} (W : Nat → A1 → A2 → A3 → A4 → A5 → A6 → A7 → A8 → Prop) (I : A1 → A2 → A3 → A4 → A5 → A6 → A7 → A8 → Prop) (μ : A1 → A2 → A3 → A4 → A5 → A6 → A7 → A8 → Nat) (hs : ∀ (n : Nat) (a1 : A1) (a2 : A2) (a3 : A3) (a4 : A4) (a5 : A5) (a6 : A6) (a7 : A7) (a8 : A8), I a1 a2 a3 a4 a5 a6 a7 a8 → (∀ (b1 : A1) (b2 : A2) (b3 : A3) (b4 : A4) (b5 : A5) (b6 : A6) (b7 : A7) (b8 : A8), I b1 b2 b3 b4 b5 b6 b7 b8 → μ b1 b2 b3 b4 b5 b6 b7 b8 < μ a1 a2 a3 a4 a5 a6 a7 a8 → W n b1 b2 b3 b4 b5 b6 b7 b8) → W (n + 1) a1 a2 a3 a4 a5 a6 a7 a8) (a1 : A1) (a2 : A2) (a3 : A3) (a4 : A4) (a5 : A5) (a6 : A6) (a7 : A7) (a8 : A8) (h : I a1 a2 a3 a4 a5 a6 a7 a8) : ∃ n, W n a1 a2 a3 a4 a5 a6 a7 a8 :=
  loop_m (σ := A1 × A2 × A3 × A4 × A5 × A6 × A7 × A8) (fun n s => W n s.1 s.2.1 s.2.2.1 s.2.2.2.1 s.2.2.2.2.1 s.2.2.2.2.2.1 s.2.2.2.2.2.2.1 s.2.2.2.2.2.2.2) (fun s => I s.1 s.2.1 s.2.2.1 s.2.2.2.1 s.2.2.2.2.1 s.2.2.2.2.2.1 s.2.2.2.2.2.2.1 s.2.2.2.2.2.2.2) (fun s => μ s.1 s.2.1 s.2.2.1 s.2.2.2.1 s.2.2.2.2.1 s.2.2.2.2.2.1 s.2.2.2.2.2.2.1 s.2.2.2.2.2.2.2) (fun n s hI hk => hs n s.1 s.2.1 s.2.2.1 s.2.2.2.1 s.2.2.2.2.1 s.2.2.2.2.2.1 s.2.2.2.2.2.2.1 s.2.2.2.2.2.2.2 hI (fun b1 b2 b3 b4 b5 b6 b7 b8 h9 hm => hk (b1, b2, b3, b4, b5, b6, b7, b8) h9 hm)) (a1, a2, a3, a4, a5, a6, a7, a8) h
theorem lp9 {A1 A2 A3 A4 A5 A6 A7 A8 A9 : Type} (W : Nat → A1 → A2 → A3 → A4 → A5 → A6 → A7 → A8 → A9 → Prop) (I : A1 → A2 → A3 → A4 → A5 → A6 → A7 → A8 → A9 → Prop) (μ : A1 → A2 → A3 → A4 → A5 → A6 → A7 → A8 → A9 → Nat) (hs : ∀ (n : Nat) (a1 : A1) (a2 : A2) (a3 : A3) (a4 : A4) (a5 : A5) (a6 : A6) (a7 : A7) (a8 : A8) (a9 : A9), I a1 a2 a3 a4 a5 a6 a7 a8 a9 → (∀ (b1 : A1) (b2 : A2) (b3 : A3) (b4 : A4) (b5 : A5) (b6 : A6) (b7 : A7) (b8 : A8) (b9 : A9), I b1 b2 b3 b4 b5 b6 b7 b8 b9 → μ b1 b2 b3 b4 b5 b6 b7 b8 b9 < μ a1 a2 a3 a4 a5 a6 a7 a8 a9 → W n b1 b2 b3 b4 b5 b6 b7 b8 b9) → W (n + 1) a1 a2 a3 a4 a5 a6 a7 a8 a9) (a1 : A1) (a2 : A2) (a3 : A3) (a4 : A4) (a5 : A5) (a6 : A6) (a7 : A7) (a8 : A8) (a9 : A9) (h : I a1 a2 a3 a4 a5 a6 a7 a8 a9) : ∃ n, W n a1 a2 a3 a4 a5 a6 a7 a8 a9 :=
  loop_m (σ := A1 × A2 × A3 × A4 × A5 × A6 × A7 × A8 × A9) (fun n s => W n s.1 s.2.1 s.2.2.1 s.2.2.2.1 s.2.2.2.2.1 s.2.2.2.2.2.1 s.2.2.2.2.2.2.1 s.2.2.2.2.2.2.2.1 s.2.2.2.2.2.2.2.2) (fun s => I s.1 s.2.1 s.2.2.1 s.2.2.2.1 s.2.2.2.2.1 s.2.2.2.2.2.1 s.2.2.2.2.2.2.1 s.2.2.2.2.2.2.2.1 s.2.2.2.2.2.2.2.2) (fun s => μ s.1 s.2.1 s.2.2.1 s.2.2.2.1 s.2.2.2.2.1 s.2.2.2.2.2.1 s.2.2.2.2.2.2.1 s.2.2.2.2.2.2.2.1 s.2.2.2.2.2.2.2.2) (fun n s hI hk => hs n s.1 s.2.1 s.2.2.1 s.2.2.2.1 s.2.2.2.2.1 s.2.2.2.2.2.1 s.2.2.2.2.2.2.1 s.2.2.2.2.2.2.2.1 s.2.2.2.2.2.2.2.2 hI (fun b1 b2 b3 b4 b5 b6 b7 b8 b9 h9 hm => hk (b1, b2, b3, b4, b5, b6, b7, b8, b9) h9 hm)) (a1, a2, a3, a4, a5, a6, a7, a8, a9) h
theorem lp10 {A1 A2 A3 A4 A5 A6 A7 A8 A9 A10 : Type} (W : Nat → A1 → A2 → A3 → A4 → A5 → A6 → A7 → A8 → A9 → A10 → Prop) (I : A1 → A2 → A3 → A4 → A5 → A6 → A7 → A8 → A9 → A10 → Prop) (μ : A1 → A2 → A3 → A4 → A5 → A6 → A7 → A8 → A9 → A10 → Nat) (hs : ∀ (n : Nat) (a1 : A1) (a2 : A2) (a3 : A3) (a4 : A4) (a5 : A5) (a6 : A6) (a7 : A7) (a8 : A8) (a9 : A9) (a10 : A10), I a1 a2 a3 a4 a5 a6 a7 a8 a9 a10 → (∀ (b1 : A1) (b2 : A2) (b3 : A3) (b4 : A4) (b5 : A5) (b6 : A6) (b7 : A7) (b8 : A8) (b9 : A9) (b10 : A10), I b1 b2 b3 b4 b5 b6 b7 b8 b9 b10 → μ b1 b2 b3 b4 b5 b6 b7 b8 b9 b10 < μ a1 a2 a3 a4 a5 a6 a7 a8 a9 a10 → W n b1 b2 b3 b4 b5 b6 b7 b8 b9 b10) → W (n + 1) a1 a2 a3 a4 a5 a6 a7 a8 a9 a10) (a1 : A1) (a2 : A2) (a3 : A3) (a4 : A4) (a5 : A5) (a6 : A6) (a7 : A7) (a8 : A8) (a9 : A9) (a10 : A10) (h : I a1 a2 a3 a4 a5 a6 a7 a8 a9 a10) : ∃ n, W n a1 a2 a3 a4 a5 a6 a7 a8 a9 a10 :=
  loop_m (σ := A1 × A2 × A3 × A4 × A5 × A6 × A7 × A8 × A9 × A10) (fun n s => W n s.1 s.2.1 s.2.2.1 s.2.2.2.1 s.2.2.2.2.1 s.2.2.2.2.2.1 s.2.2.2.2.2.2.1 s.2.2.2.2.2.2.2.1 s.2.2.2.2.2.2.2.2.1 s.2.2.2.2.2.2.2.2.2) (fun s => I s.1 s.2.1 s.2.2.1 s.2.2.2.1 s.2.2.2.2.1 s.2.2.2.2.2.1 s.2.2.2.2.2.2.1 s.2.2.2.2.2.2.2.1 s.2.2.2.2.2.2.2.2.1 s.2.2.2.2.2.2.2.2.2) (fun s => μ s.1 s.2.1 s.2.2.1 s.2.2.2.1 s.2.2.2.2.1 s.2.2.2.2.2.1 s.2.2.2.2.2.2.1 s.2.2.2.2.2.2.2.1 s.2.2.2.2.2.2.2.2.1 s.2.2.2.2.2.2.2.2.2) (fun n s hI hk => hs n s.1 s.2.1 s.2.2.1 s.2.2.2.1 s.2.2.2.2.1 s.2.2.2.2.2.1 s.2.2.2.2.2.2.1 s.2.2.2.2.2.2.2.1 s.2.2.2.2.2.2.2.2.1 s.2.2.2.2.2.2.2.2.2 hI (fun b1 b2 b3 b4 b5 b6 b7 b8 b9 b10 h9 hm => hk (b1, b2, b3, b4, b5, b6, b7, b8, b9, b10) h9 hm)) (a1, a2, a3, a4, a5, a6, a7, a8, a9, a10) h
theorem lp11 {A1 A2 A3 A4 A5 A6 A7 A8 A9 A10 A11 : Type} (W : Nat → A1 → A2 → A3 → A4 → A5 → A6 → A7 → A8 → A9 → A10 → A11 → Prop) (I : A1 → A2 → A3 → A4 → A5 → A6 → A7 → A8 → A9 → A10 → A11 → Prop) (μ : A1 → A2 → A3 → A4 → A5 → A6 → A7 → A8 → A9 → A10 → A11 → Nat) (hs : ∀ (n : Nat) (a1 : A1) (a2 : A2) (a3 : A3) (a4 : A4) (a5 : A5) (a6 : A6) (a7 : A7) (a8 : A8) (a9 : A9) (a10 : A10) (a11 : A11), I a1 a2 a3 a4 a5 a6 a7 a8 a9 a10 a11 → (∀ (b1 : A1) (b2 : A2) (b3 : A3) (b4 : A4) (b5 : A5) (b6 : A6) (b7 : A7) (b8 : A8) (b9 : A9) (b10 : A10) (b11 : A11), I b1 b2 b3 b4 b5 b6 b7 b8 b9 b10 b11 → μ b1 b2 b3 b4 b5 b6 b7 b8 b9 b10 b11 < μ a1 a2 a3 a4 a5 a6 a7 a8 a9 a10 a11 → W n b1 b2 b3 b4 b5 b6 b7 b8 b9 b10 b11) → W (n + 1) a1 a2 a3 a4 a5 a6 a7 a8 a9 a10 a11) (a1 : A1) (a2 : A2) (a3 : A3) (a4 : A4) (a5 : A5) (a6 : A6) (a7 : A7) (a8 : A8) (a9 : A9) (a10 : A10) (a11 : A11) (h : I a1 a2 a3 a4 a5 a6 a7 a8 a9 a10 a11) : ∃ n, W n a1 a2 a3 a4 a5 a6 a7 a8 a9 a10 a11 :=
  loop_m (σ := A1 × A2 × A3 × A4 × A5 × A6 × A7 × A8 × A9 × A10 × A11) (fun n s => W n s.1 s.2.1 s.2.2.1 s.2.2.2.1 s.2.2.2.2.1 s.2.2.2.2.2.1 s.2.2.2.2.2.2.1 s.2.2.2.2.2.2.2.1 s.2.2.2.2.2.2.2.2.1 s.2.2.2.2.2.2.2.2.2.1 s.2.2.2.2.2.2.2.2.2.2) (fun s => I s.1 s.2.1 s.2.2.1 s.2.2.2.1 s.2.2.2.2.1 s.2.2.2.2.2.1 s.2.2.2.2.2.2.1 s.2.2.2.2.2.2.2.1 s.2.2.2.2.2.2.2.2.1 s.2.2.2.2.2.2.2.2.2.1 s.2.2.2.2.2.2.2.2.2.2) (fun s => μ s.1 s.2.1 s.2.2.1 s.2.2.2.1 s.2.2.2.2.1 s.2.2.2.2.2.1 s.2.2.2.2.2.2.1 s.2.2.2.2.2.2.2.1 s.2.2.2.2.2.2.2.2.1 s.2.2.2.2.2.2.2.2.2.1 s.2.2.2.2.2.2.2.2.2.2) (fun n s hI hk => hs n s.1 s.2.1 s.2.2.1 s.2.2.2.1 s.2.2.2.2.1 s.2.2.2.2.2.1 s.2.2.2.2.2.2.1 s.2.2.2.2.2.2.2.1 s.2.2.2.2.2.2.2.2.1 s.2.2.2.2.2.2.2.2.2.1 s.2.2.2.2.2.2.2.2.2.2 hI (fun b1 b2 b3 b4 b5 b6 b7 b8 b9 b10 b11 h9 hm => hk (b1, b2, b3, b4, b5, b6, b7, b8, b9, b10, b11) h9 hm)) (a1, a2, a3, a4, a5, a6, a7, a8, a9, a10, a11) h
theorem lp12 {A1 A2 A3 A4 A5 A6 A7 A8 A9 A10 A11 A12 : Type} (W : Nat → A1 → A2 → A3 → A4 → A5 → A6 → A7 → A8 → A9 → A10 → A11 → A12 → Prop) (I : A1 → A2 → A3 → A4 → A5 → A6 → A7 → A8 → A9 → A10 → A11 → A12 → Prop) (μ : A1 → A2 → A3 → A4 → A5 → A6 → A7 → A8 → A9 → A10 → A11 → A12 → Nat) (hs : ∀ (n : Nat) (a1 : A1) (a2 : A2) (a3 : A3) (a4 : A4) (a5 : A5) (a6 : A6) (a7 : A7) (a8 : A8) (a9 : A9) (a10 : A10) (a11 : A11) (a12 : A12), I a1 a2 a3 a4 a5 a6 a7 a8 a9 a10 a11 a12 → (∀ (b1 : A1) (b2 : A2) (b3 : A3) (b4 : A4) (b5 : A5) (b6 : A6) (b7 : A7) (b8 : A8) (b9 : A9) (b10 : A10) (b11 : A11) (b12 : A12), I b1 b2 b3 b4 b5 b6 b7 b8 b9 b10 b11 b12 → μ b1 b2 b3 b4 b5 b6 b7 b8 b9 b10 b11 b12 < μ a1 a2 a3 a4 a5 a6 a7 a8 a9 a10 a11 a12 → W n b1 b2 b3 b4 b5 b6 b7 b8 b9 b10 b11 b12) → W (n + 1) a1 a2 a3 a4 a5 a6 a7 a8 a9 a10 a11 a12) (a1 : A1) (a2 : A2) (a3 : A3) (a4 : A4) (a5 : A5) (a6 : A6) (a7 : A7) (a8 : A8) (a9 : A9) (a10 : A10) (a11 : A11) (a12 : A12) (h : I a1 a2 a3 a4 a5 a6 a7 a8 a9 a10 a11 a12) : ∃ n, W n a1 a2 a3 a4 a5 a6 a7 a8 a9 a10 a11 a12 :=
  loop_m (σ := A1 × A2 × A3 × A4 × A5 × A6 × A7 × A8 × A9 × A10 × A11 × A12) (fun n s => W n s.1 s.2.1 s.2.2.1 s.2.2.2.1 s.2.2.2.2.1 s.2.2.2.2.2.1 s.2.2.2.2.2.2.1 s.2.2.2.2.2.2.2.1 s.2.2.2.2.2.2.2.2.1 s.2.2.2.2.2.2.2.2.2.1 s.2.2.2.2.2.2.2.2.2.2.1 s.2.2.2.2.2.2.2.2.2.2.2) (fun s => I s.1 s.2.1 s.2.2.1 s.2.2.2.1 s.2.2.2.2.1 s.2.2.2.2.2.1 s.2.2.2.2.2.2.1 s.2.2.2.2.2.2.2.1 s.2.2.2.2.2.2.2.2.1 s.2.2.2.2.2.2.2.2.2.1 s.2.2.2.2.2.2.2.2.2.2.1 s.2.2.2.2.2.2.2.2.2.2.2) (fun s => μ s.1 s.2.1 s.2.2.1 s.2.2.2.1 s.2.2.2.2.1 s.2.2.2.2.2.1 s.2.2.2.2.2.2.1 s.2.2.2.2.2.2.2.1 s.2.2.2.2.2.2.2.2.1 s.2.2.2.2.2.2.2.2.2.1 s.2.2.2.2.2.2.2.2.2.2.1 s.2.2.2.2.2.2.2.2.2.2.2) (fun n s hI hk => hs n s.1 s.2.1 s.2.2.1 s.2.2.2.1 s.2.2.2.2.1 s.2.2.2.2.2.1 s.2.2.2.2.2.2.1 s.2.2.2.2.2.2.2.1 s.2.2.2.2.2.2.2.2.1 s.2.2.2.2.2.2.2.2.2.1 s.2.2.2.2.2.2.2.2.2.2.1 s.2.2.2.2.2.2.2.2.2.2.2 hI (fun b1 b2 b3 b4 b5 b6 b7 b8 b9 b10 b11 b12 h9 hm => hk (b1, b2, b3, b4, b5, b6, b7, b8, b9, b10, b11, b12) h9 hm)) (a1, a2, a3, a4, a5, a6, a7, a8, a9, a10, a11, a12) h
theorem lp13 {A1 A2 A3 A4 A5 A6 A7 A8 A9 A10 A11 A12 A13 : Type} (W : Nat → A1 → A2 → A3 → A4 → A5 → A6 → A7 → A8 → A9 → A10 → A11 → A12 → A13 → Prop) (I : A1 → A2 → A3 → A4 → A5 → A6 → A7 → A8 → A9 → A10 → A11 → A12 → A13 → Prop) (μ : A1 → A2 → A3 → A4 → A5 → A6 → A7 → A8 → A9 → A10 → A11 → A12 → A13 → Nat) (hs : ∀ (n : Nat) (a1 : A1) (a2 : A2) (a3 : A3) (a4 : A4) (a5 : A5) (a6 : A6) (a7 : A7) (a8 : A8) (a9 : A9) (a10 : A10) (a11 : A11) (a12 : A12) (a13 : A13), I a1 a2 a3 a4 a5 a6 a7 a8 a9 a10 a11 a12 a13 → (∀ (b1 : A1) (b2 : A2) (b3 : A3) (b4 : A4) (b5 : A5) (b6 : A6) (b7 : A7) (b8 : A8) (b9 : A9) (b10 : A10) (b11 : A11) (b12 : A12) (b13 : A13), I b1 b2 b3 b4 b5 b6 b7 b8 b9 b10 b11 b12 b13 → μ b1 b2 b3 b4 b5 b6 b7 b8 b9 b10 b11 b12 b13 < μ a1 a2 a3 a4 a5 a6 a7 a8 a9 a10 a11 a12 a13 → W n b1 b2 b3 b4 b5 b6 b7 b8 b9 b10 b11 b12 b13) → W (n + 1) a1 a2 a3 a4 a5 a6 a7 a8 a9 a10 a11 a12 a13) (a1 : A1) (a2 : A2) (a3 : A3) (a4 : A4) (a5 : A5) (a6 : A6) (a7 : A7) (a8 : A8) (a9 : A9) (a10 : A10) (a11 : A11) (a12 : A12) (a13 : A13) (h : I a1 a2 a3 a4 a5 a6 a7 a8 a9 a10 a11 a12 a13) : ∃ n, W n a1 a2 a3 a4 a5 a6 a7 a8 a9 a10 a11 a12 a13 :=
  loop_m (σ := A1 × A2 × A3 × A4 × A5 × A6 × A7 × A8 × A9 × A10 × A11 × A12 × A13) (fun n s => W n s.1 s.2.1 s.2.2.1 s.2.2.2.1 s.2.2.2.2.1 s.2.2.2.2.2.1 s.2.2.2.2.2.2.1 s.2.2.2.2.2.2.2.1 s.2.2.2.2.2.2.2.2.1 s.2.2.2.2.2.2.2.2.2.1 s.2.2.2.2.2.2.2.2.2.2.1 s.2.2.2.2.2.2.2.2.2.2.2.1 s.2.2.2.2.2.2.2.2.2.2.2.2) (fun s => I s.1 s.2.1 s.2.2.1 s.2.2.2.1 s.2.2.2.2.1 s.2.2.2.2.2.1 s.2.2.2.2.2.2.1 s.2.2.2.2.2.2.2.1 s.2.2.2.2.2.2.2.2.1 s.2.2.2.2.2.2.2.2.2.1 s.2.2.2.2.2.2.2.2.2.2.1 s.2.2.2.2.2.2.2.2.2.2.2.1 s.2.2.2.2.2.2.2.2.2.2.2.2) (fun s => μ s.1 s.2.1 s.2.2.1 s.2.2.2.1 s.2.2.2.2.1 s.2.2.2.2.2.1 s.2.2.2.2.2.2.1 s.2.2.2.2.2.2.2.1 s.2.2.2.2.2.2.2.2.1 s.2.2.2.2.2.2.2.2.2.1 s.2.2.2.2.2.2.2.2.2.2.1 s.2.2.2.2.2.2.2.2.2.2.2.1 s.2.2.2.2.2.2.2.2.2.2.2.2) (fun n s hI hk => hs n s.1 s.2.1 s.2.2.1 s.2.2.2.1 s.2.2.2.2.1 s.2.2.2.2.2.1 s.2.2.2.2.2.2.1 s.2.2.2.2.2.2.2.1 s.2.2.2.2.2.2.2.2.1 s.2.2.2.2.2.2.2.2.2.1 s.2.2.2.2.2.2.2.2.2.2.1 s.2.2.2.2.2.2.2.2.2.2.2.1 s.2.2.2.2.2.2.2.2.2.2.2.2 hI (fun b1 b2 b3 b4 b5 b6 b7 b8 b9 b10 b11 b12 b13 h9 hm => hk (b1, b2, b3, b4, b5, b6, b7, b8, b9, b10, b11, b12, b13) h9 hm)) (a1, a2, a3, a4, a5, a6, a7, a8, a9, a10, a11, a12, a13) h
theorem lp14 {A1 A2 A3 A4 A5 A6 A7 A8 A9 A10 A11 A12 A13 A14 : Type} (W : Nat → A1 → A2 → A3 → A4 → A5 → A6 → A7 → A8 → A9 → A10 → A11 → A12 → A13 → A14 → Prop) (I : A1 → A2 → A3 → A4 → A5 → A6 → A7 → A8 → A9 → A10 → A11 → A12 → A13 → A14 → Prop) (μ : A1 → A2 → A3 → A4 → A5 → A6 → A7 → A8 → A9 → A10 → A11 → A12 → A13 → A14 → Nat) (hs : ∀ (n : Nat) (a1 : A1) (a2 : A2) (a3 : A3) (a4 : A4) (a5 : A5) (a6 : A6) (a7 : A7) (a8 : A8) (a9 : A9) (a10 : A10) (a11 : A11) (a12 : A12) (a13 : A13) (a14 : A14), I a1 a2 a3 a4 a5 a6 a7 a8 a9 a10 a11 a12 a13 a14 → (∀ (b1 : A1) (b2 : A2) (b3 : A3) (b4 : A4) (b5 : A5) (b6 : A6) (b7 : A7) (b8 : A8) (b9 : A9) (b10 : A10) (b11 : A11) (b12 : A12) (b13 : A13) (b14 : A14), I b1 b2 b3 b4 b5 b6 b7 b8 b9 b10 b11 b12 b13 b14 → μ b1 b2 b3 b4 b5 b6 b7 b8 b9 b10 b11 b12 b13 b14 < μ a1 a2 a3 a4 a5 a6 a7 a8 a9 a10 a11 a12 a13 a14 → W n b1 b2 b3 b4 b5 b6 b7 b8 b9 b10 b11 b12 b13 b14) → W (n + 1) a1 a2 a3 a4 a5 a6 a7 a8 a9 a10 a11 a12 a13 a14) (a1 : A1) (a2 : A2) (a3 : A3) (a4 : A4) (a5 : A5) (a6 : A6) (a7 : A7) (a8 : A8) (a9 : A9) (a10 : A10) (a11 : A11) (a12 : A12) (a13 : A13) (a14 : A14) (h : I a1 a2 a3 a4 a5 a6 a7 a8 a9 a10 a11 a12 a13 a14) : ∃ n, W n a1 a2 a3 a4 a5 a6 a7 a8 a9 a10 a11 a12 a13 a14 :=
  loop_m (σ := A1 × A2 × A3 × A4 × A5 × A6 × A7 × A8 × A9 × A10 × A11 × A12 × A13 × A14) (fun n s => W n s.1 s.2.1 s.2.2.1 s.2.2.2.1 s.2.2.2.2.1 s.2.2.2.2.2.1 s.2.2.2.2.2.2.1 s.2.2.2.2.2.2.2.1 s.2.2.2.2.2.2.2.2.1 s.2.2.2.2.2.2.2.2.2.1 s.2.2.2.2.2.2.2.2.2.2.1 s.2.2.2.2.2.2.2.2.2.2.2.1 s.2.2.2.2.2.2.2.2.2.2.2.2.1 s.2.2.2.2.2.2.2.2.2.2.2.2.2) (fun s => I s.1 s.2.1 s.2.2.1 s.2.2.2.1 s.2.2.2.2.1 s.2.2.2.2.2.1 s.2.2.2.2.2.2.1 s.2.2.2.2.2.2.2.1 s.2.2.2.2.2.2.2.2.1 s.2.2.2.2.2.2.2.2.2.1 s.2.2.2.2.2.2.2.2.2.2.1 s.2.2.2.2.2.2.2.2.2.2.2.1 s.2.2.2.2.2.2.2.2.2.2.2.2.1 s.2.2.2.2.2.2.2.2.2.2.2.2.2) (fun s => μ s.1 s.2.1 s.2.2.1 s.2.2.2.1 s.2.2.2.2.1 s.2.2.2.2.2.1 s.2.2.2.2.2.2.1 s.2.2.2.2.2.2.2.1 s.2.2.2.2.2.2.2.2.1 s.2.2.2.2.2.2.2.2.2.1 s.2.2.2.2.2.2.2.2.2.2.1 s.2.2.2.2.2.2.2.2.2.2.2.1 s.2.2.2.2.2.2.2.2.2.2.2.2.1 s.2.2.2.2.2.2.2.2.2.2.2.2.2) (fun n s hI hk => hs n s.1 s.2.1 s.2.2.1 s.2.2.2.1 s.2.2.2.2.1 s.2.2.2.2.2.1 s.2.2.2.2.2.2.1 s.2.2.2.2.2.2.2.1 s.2.2.2.2.2.2.2.2.1 s.2.2.2.2.2.2.2.2.2.1 s.2.2.2.2.2.2.2.2.2.2.1 s.2.2.2.2.2.2.2.2.2.2.2.1 s.2.2.2.2.2.2.2.2.2.2.2.2.1 s.2.2.2.2.2.2.2.2.2.2.2.2.2 hI (fun b1 b2 b3 b4 b5 b6 b7 b8 b9 b10 b11 b12 b13 b14 h9 hm => hk (b1, b2, b3, b4, b5, b6, b7, b8, b9, b10, b11, b12, b13, b14) h9 hm)) (a1, a2, a3, a4, a5, a6, a7, a8, a9, a10, a11, a12, a13, a14) h
theorem lp15 {A1 A2 A3 A4 A5 A6 A7 A8 A9 A10 A11 A12 A13 A14 A15 : Type} (W : Nat → A1 → A2 → A3 → A4 → A5 → A6 → A7 → A8 → A9 → A10 → A11 → A12 → A13 → A14 → A15 → Prop) (I : A1 → A2 → A3 → A4 → A5 → A6 → A7 → A8 → A9 → A10 → A11 → A12 → A13 → A14 → A15 → Prop) (μ : A1 → A2 → A3 → A4 → A5 → A6 → A7 → A8 → A9 → A10 → A11 → A12 → A13 → A14 → A15 → Nat) (hs : ∀ (n : Nat) (a1 : A1) (a2 : A2) (a3 : A3) (a4 : A4) (a5 : A5) (a6 : A6) (a7 : A7) (a8 : A8) (a9 : A9) (a10 : A10) (a11 : A11) (a12 : A12) (a13 : A13) (a14 : A14) (a15 : A15), I a1 a2 a3 a4 a5 a6 a7 a8 a9 a10 a11 a12 a13 a14 a15 → (∀ (b1 : A1) (b2 : A2) (b3 : A3) (b4 : A4) (b5 : A5) (b6 : A6) (b7 : A7) (b8 : A8) (b9 : A9) (b10 : A10) (b11 : A11) (b12 : A12) (b13 : A13) (b14 : A14) (b15 : A15), I b1 b2 b3 b4 b5 b6 b7 b8 b9 b10 b11 b12 b13 b14 b15 → μ b1 b2 b3 b4 b5 b6 b7 b8 b9 b10 b11 b12 b13 b14 b15 < μ a1 a2 a3 a4 a5 a6 a7 a8 a9 a10 a11 a12 a13 a14 a15 → W n b1 b2 b3 b4 b5 b6 b7 b8 b9 b10 b11 b12 b13 b14 b15) → W (n + 1) a1 a2 a3 a4 a5 a6 a7 a8 a9 a10 a11 a12 a13 a14 a15) (a1 : A1) (a2 : A2) (a3 : A3) (a4 : A4) (a5 : A5) (a6 : A6) (a7 : A7) (a8 : A8) (a9 : A9) (a10 : A10) (a11 : A11) (a12 : A12) (a13 : A13) (a14 : A14) (a15 : A15) (h : I a1 a2 a3 a4 a5 a6 a7 a8 a9 a10 a11 a12 a13 a14 a15) : ∃ n, W n a1 a2 a3 a4 a5 a6 a7 a8 a9 a10 a11 a12 a13 a14 a15 :=
  loop_m (σ := A1 × A2 × A3 × A4 × A5 × A6 × A7 × A8 × A9 × A10 × A11 × A12 × A13 × A14 × A15) (fun n s => W n s.1 s.2.1 s.2.2.1 s.2.2.2.1 s.2.2.2.2.1 s.2.2.2.2.2.1 s.2.2.2.2.2.2.1 s.2.2.2.2.2.2.2.1 s.2.2.2.2.2.2.2.2.1 s.2.2.2.2.2.2.2.2.2.1 s.2.2.2.2.2.2.2.2.2.2.1 s.2.2.2.2.2.2.2.2.2.2.2.1 s.2.2.2.2.2.2.2.2.2.2.2.2.1 s.2.2.2.2.2.2.2.2.2.2.2.2.2.1 s.2.2.2.2.2.2.2.2.2.2.2.2.2.2) (fun s => I s.1 s.2.1 s.2.2.1 s.2.2.2.1 s.2.2.2.2.1 s.2.2.2.2.2.1 s.2.2.2.2.2.2.1 s.2.2.2.2.2.2.2.1 s.2.2.2.2.2.2.2.2.1 s.2.2.2.2.2.2.2.2.2.1 s.2.2.2.2.2.2.2.2.2.2.1 s.2.2.2.2.2.2.2.2.2.2.2.1 s.2.2.2.2.2.2.2.2.2.2.2.2.1 s.2.2.2.2.2.2.2.2.2.2.2.2.2.1 s.2.2.2.2.2.2.2.2.2.2.2.2.2.2) (fun s => μ s.1 s.2.1 s.2.2.1 s.2.2.2.1 s.2.2.2.2.1 s.2.2.2.2.2.1 s.2.2.2.2.2.2.1 s.2.2.2.2.2.2.2.1 s.2.2.2.2.2.2.2.2.1 s.2.2.2.2.2.2.2.2.2.1 s.2.2.2.2.2.2.2.2.2.2.1 s.2.2.2.2.2.2.2.2.2.2.2.1 s.2.2.2.2.2.2.2.2.2.2.2.2.1 s.2.2.2.2.2.2.2.2.2.2.2.2.2.1 s.2.2.2.2.2.2.2.2.2.2.2.2.2.2) (fun n s hI hk => hs n s.1 s.2.1 s.2.2.1 s.2.2.2.1 s.2.2.2.2.1 s.2.2.2.2.2.1 s.2.2.2.2.2.2.1 s.2.2.2.2.2.2.2.1 s.2.2.2.2.2.2.2.2.1 s.2.2.2.2.2.2.2.2.2.1 s.2.2.2.2.2.2.2.2.2.2.1 s.2.2.2.2.2.2.2.2.2.2.2.1 s.2.2.2.2.2.2.2.2.2.2.2.2.1 s.2.2.2.2.2.2.2.2.2.2.2.2.2.1 s.2.2.2.2.2.2.2.2.2.2.2.2.2.2 hI (fun b1 b2 b3 b4 b5 b6 b7 b8 b9 b10 b11 b12 b13 b14 b15 h9 hm => hk (b1, b2, b3, b4, b5, b6, b7, b8, b9, b10, b11, b12, b13, b14, b15) h9 hm)) (a1, a2, a3, a4, a5, a6, a7, a8, a9, a10, a11, a12, a13, a14, a15) h
theorem lp16 {A1 A2 A3 A4 A5 A6 A7 A8 A9 A10 A11 A12 A13 A14 A15 A16 : Type} (W : Nat → A1 → A2 → A3 → A4 → A5 → A6 → A7 → A8 → A9 → A10 → A11 → A12 → A13 → A14 → A15 → A16 → Prop) (I : A1 → A2 → A3 → A4 → A5 → A6 → A7 → A8 → A9 → A10 → A11 → A12 → A13 → A14 → A15 → A16 → Prop) (μ : A1 → A2 → A3 → A4 → A5 → A6 → A7 → A8 → A9 → A10 → A11 → A12 → A13 → A14 → A15 → A16 → Nat) (hs : ∀ (n : Nat) (a1 : A1) (a2 : A2) (a3 : A3) (a4 : A4) (a5 : A5) (a6 : A6) (a7 : A7) (a8 : A8) (a9 : A9) (a10 : A10) (a11 : A11) (a12 : A12) (a13 : A13) (a14 : A14) (a15 : A15) (a16 : A16), I a1 a2 a3 a4 a5 a6 a7 a8 a9 a10 a11 a12 a13 a14 a15 a16 → (∀ (b1 : A1) (b2 : A2) (b3 : A3) (b4 : A4) (b5 : A5) (b6 : A6) (b7 : A7) (b8 : A8) (b9 : A9) (b10 : A10) (b11 : A11) (b12 : A12) (b13 : A13) (b14 : A14) (b15 : A15) (b16 : A16), I b1 b2 b3 b4 b5 b6 b7 b8 b9 b10 b11 b12 b13 b14 b15 b16 → μ b1 b2 b3 b4 b5 b6 b7 b8 b9 b10 b11 b12 b13 b14 b15 b16 < μ a1 a2 a3 a4 a5 a6 a7 a8 a9 a10 a11 a12 a13 a14 a15 a16 → W n b1 b2 b3 b4 b5 b6 b7 b8 b9 b10 b11 b12 b13 b14 b15 b16) → W (n + 1) a1 a2 a3 a4 a5 a6 a7 a8 a9 a10 a11 a12 a13 a14 a15 a16) (a1 : A1) (a2 : A2) (a3 : A3) (a4 : A4) (a5 : A5) (a6 : A6) (a7 : A7) (a8 : A8) (a9 : A9) (a10 : A10) (a11 : A11) (a12 : A12) (a13 : A13) (a14 : A14) (a15 : A15) (a16 : A16) (h : I a1 a2 a3 a4 a5 a6 a7 a8 a9 a10 a11 a12 a13 a14 a15 a16) : ∃ n, W n a1 a2 a3 a4 a5 a6 a7 a8 a9 a10 a11 a12 a13 a14 a15 a16 :=
  loop_m (σ := A1 × A2 × A3 × A4 × A5 × A6 × A7 × A8 × A9 × A10 × A11 × A12 × A13 × A14 × A15 × A16) (fun n s => W n s.1 s.2.1 s.2.2.1 s.2.2.2.1 s.2.2.2.2.1 s.2.2.2.2.2.1 s.2.2.2.2.2.2.1 s.2.2.2.2.2.2.2.1 s.2.2.2.2.2.2.2.2.1 s.2.2.2.2.2.2.2.2.2.1 s.2.2.2.2.2.2.2.2.2.2.1 s.2.2.2.2.2.2.2.2.2.2.2.1 s.2.2.2.2.2.2.2.2.2.2.2.2.1 s.2.2.2.2.2.2.2.2.2.2.2.2.2.1 s.2.2.2.2.2.2.2.2.2.2.2.2.2.2.1 s.2.2.2.2.2.2.2.2.2.2.2.2.2.2.2) (fun s => I s.1 s.2.1 s.2.2.1 s.2.2.2.1 s.2.2.2.2.1 s.2.2.2.2.2.1 s.2.2.2.2.2.2.1 s.2.2.2.2.2.2.2.1 s.2.2.2.2.2.2.2.2.1 s.2.2.2.2.2.2.2.2.2.1 s.2.2.2.2.2.2.2.2.2.2.1 s.2.2.2.2.2.2.2.2.2.2.2.1 s.2.2.2.2.2.2.2.2.2.2.2.2.1 s.2.2.2.2.2.2.2.2.2.2.2.2.2.1 s.2.2.2.2.2.2.2.2.2.2.2.2.2.2.1 s.2.2.2.2.2.2.2.2.2.2.2.2.2.2.2) (fun s => μ s.1 s.2.1 s.2.2.1 s.2.2.2.1 s.2.2.2.2.1 s.2.2.2.2.2.1 s.2.2.2.2.2.2.1 s.2.2.2.2.2.2.2.1 s.2.2.2.2.2.2.2.2.1 s.2.2.2.2.2.2.2.2.2.1 s.2.2.2.2.2.2.2.2.2.2.1 s.2.2.2.2.2.2.2.2.2.2.2.1 s.2.2.2.2.2.2.2.2.2.2.2.2.1 s.2.2.2.2.2.2.2.2.2.2.2.2.2.1 s.2.2.2.2.2.2.2.2.2.2.2.2.2.2.1 s.2.2.2.2.2.2.2.2.2.2.2.2.2.2.2) (fun n s hI hk => hs n s.1 s.2.1 s.2.2.1 s.2.2.2.1 s.2.2.2.2.1 s.2.2.2.2.2.1 s.2.2.2.2.2.2.1 s.2.2.2.2.2.2.2.1 s.2.2.2.2.2.2.2.2.1 s.2.2.2.2.2.2.2.2.2.1 s.2.2.2.2.2.2.2.2.2.2.1 s.2.2.2.2.2.2.2.2.2.2.2.1 s.2.2.2.2.2.2.2.2.2.2.2.2.1 s.2.2.2.2.2.2.2.2.2.2.2.2.2.1 s.2.2.2.2.2.2.2.2.2.2.2.2.2.2.1 s.2.2.2.2.2.2.2.2.2.2.2.2.2.2.2 hI (fun b1 b2 b3 b4 b5 b6 b7 b8 b9 b10 b11 b12 b13 b14 b15 b16 h9 hm => hk (b1, b2, b3, b4, b5, b6, b7, b8, b9, b10, b11, b12, b13, b14, b15, b16) h9 hm)) (a1, a2, a3, a4, a5, a6, a7, a8, a9, a10, a11, a12, a13, a14, a15, a16) h
theorem pk_least (P : Nat → Prop) (h : ∃ k, P k) : ∃ k, P k ∧ ∀ j, j < k → ¬ P j := by
  obtain ⟨k, hk⟩ := h
  induction k using Nat.strongRecOn with
  | ind k ih =>
    by_cases e : ∃ j, j < k ∧ P j
    · obtain ⟨j, hj, pj⟩ := e
      exact ih j hj pj
    · exact ⟨k, hk, fun j hj pj => e ⟨j, hj, pj⟩⟩
theorem rp1 {ρ A1 : Type} (W : Nat → (ρ → Prop) → A1 → Prop) (ok : A1 → Prop) (μ : A1 → Nat) (val : A1 → ρ)
    (hs : ∀ (d : Nat) (post : ρ → Prop) (a1 : A1), ok a1 → post (val a1) → (∀ (post' : ρ → Prop) (b1 : A1), ok b1 → μ b1 < μ a1 → post' (val b1) → W d post' b1) → W (d + 1) post a1) :
    ∀ (d : Nat) (post : ρ → Prop) (a1 : A1), ok a1 → μ a1 < d → post (val a1) → W d post a1 := by
  intro d
  induction d with
  | zero => intro post a1 _ h; omega
  | succ d ih =>
    intro post a1 ho hm hp
    exact hs d post a1 ho hp (fun post' b1 ho' hm' hp' => ih post' b1 ho' (by omega) hp')
theorem rp2 {ρ A1 A2 : Type} (W : Nat → (ρ → Prop) → A1 → A2 → Prop) (ok : A1 → A2 → Prop) (μ : A1 → A2 → Nat) (val : A1 → A2 → ρ)
    (hs : ∀ (d : Nat) (post : ρ → Prop) (a1 : A1) (a2 : A2), ok a1 a2 → post (val a1 a2) → (∀ (post' : ρ → Prop) (b1 : A1) (b2 : A2), ok b1 b2 → μ b1 b2 < μ a1 a2 → post' (val b1 b2) → W d post' b1 b2) → W (d + 1) post a1 a2) :
    ∀ (d : Nat) (post : ρ → Prop) (a1 : A1) (a2 : A2), ok a1 a2 → μ a1 a2 < d → post (val a1 a2) → W d post a1 a2 := by
  intro d
  induction d with
  | zero => intro post a1 a2 _ h; omega
  | succ d ih =>
    intro post a1 a2 ho hm hp
    exact hs d post a1 a2 ho hp (fun post' b1 b2 ho' hm' hp' => ih post' b1 b2 ho' (by omega) hp')
theorem rp3 {ρ A1 A2 A3 : Type} (W : Nat → (ρ → Prop) → A1 → A2 → A3 → Prop) (ok : A1 → A2 → A3 → Prop) (μ : A1 → A2 → A3 → Nat) (val : A1 → A2 → A3 → ρ)
    (hs : ∀ (d : Nat) (post : ρ → Prop) (a1 : A1) (a2 : A2) (a3 : A3), ok a1 a2 a3 → post (val a1 a2 a3) → (∀ (post' : ρ → Prop) (b1 : A1) (b2 : A2) (b3 : A3), ok b1 b2 b3 → μ b1 b2 b3 < μ a1 a2 a3 → post' (val b1 b2 b3) → W d post' b1 b2 b3) → W (d + 1) post a1 a2 a3) :
    ∀ (d : Nat) (post : ρ → Prop) (a1 : A1) (a2 : A2) (a3 : A3), ok a1 a2 a3 → μ a1 a2 a3 < d → post (val a1 a2 a3) → W d post a1 a2 a3 := by
  intro d
  induction d with
  | zero => intro post a1 a2 a3 _ h; omega
  | succ d ih =>
    intro post a1 a2 a3 ho hm hp
    exact hs d post a1 a2 a3 ho hp (fun post' b1 b2 b3 ho' hm' hp' => ih post' b1 b2 b3 ho' (by omega) hp')
theorem rp4 {ρ A1 A2 A3 A4 : Type} (W : Nat → (ρ → Prop) → A1 → A2 → A3 → A4 → Prop) (ok : A1 → A2 → A3 → A4 → Prop) (μ : A1 → A2 → A3 → A4 → Nat) (val : A1 → A2 → A3 → A4 → ρ)
    (hs : ∀ (d : Nat) (post : ρ → Prop) (a1 : A1) (a2 : A2) (a3 : A3) (a4 : A4), ok a1 a2 a3 a4 → post (val a1 a2 a3 a4) → (∀ (post' : ρ → Prop) (b1 : A1) (b2 : A2) (b3 : A3) (b4 : A4), ok b1 b2 b3 b4 → μ b1 b2 b3 b4 < μ a1 a2 a3 a4 → post' (val b1 b2 b3 b4) → W d post' b1 b2 b3 b4) → W (d + 1) post a1 a2 a3 a4) :
    ∀ (d : Nat) (post : ρ → Prop) (a1 : A1) (a2 : A2) (a3 : A3) (a4 : A4), ok a1 a2 a3 a4 → μ a1 a2 a3 a4 < d → post (val a1 a2 a3 a4) → W d post a1 a2 a3 a4 := by
  intro d
  induction d with
  | zero => intro post a1 a2 a3 a4 _ h; omega
  | succ d ih =>
    intro post a1 a2 a3 a4 ho hm hp
    exact hs d post a1 a2 a3 a4 ho hp (fun post' b1 b2 b3 b4 ho' hm' hp' => ih post' b1 b2 b3 b4 ho' (by omega) hp')
theorem rp5 {ρ A1 A2 A3 A4 A5 : Type} (W : Nat → (ρ → Prop) → A1 → A2 → A3 → A4 → A5 → Prop) (ok : A1 → A2 → A3 → A4 → A5 → Prop) (μ : A1 → A2 → A3 → A4 → A5 → Nat) (val : A1 → A2 → A3 → A4 → A5 → ρ)
    (hs : ∀ (d : Nat) (post : ρ → Prop) (a1 : A1) (a2 : A2) (a3 : A3) (a4 : A4) (a5 : A5), ok a1 a2 a3 a4 a5 → post (val a1 a2 a3 a4 a5) → (∀ (post' : ρ → Prop) (b1 : A1) (b2 : A2) (b3 : A3) (b4 : A4) (b5 : A5), ok b1 b2 b3 b4 b5 → μ b1 b2 b3 b4 b5 < μ a1 a2 a3 a4 a5 → post' (val b1 b2 b3 b4 b5) → W d post' b1 b2 b3 b4 b5) → W (d + 1) post a1 a2 a3 a4 a5) :
    ∀ (d : Nat) (post : ρ → Prop) (a1 : A1) (a2 : A2) (a3 : A3) (a4 : A4) (a5 : A5), ok a1 a2 a3 a4 a5 → μ a1 a2 a3 a4 a5 < d → post (val a1 a2 a3 a4 a5) → W d post a1 a2 a3 a4 a5 := by
  intro d
  induction d with
  | zero => intro post a1 a2 a3 a4 a5 _ h; omega
  | succ d ih =>
    intro post a1 a2 a3 a4 a5 ho hm hp
    exact hs d post a1 a2 a3 a4 a5 ho hp (fun post' b1 b2 b3 b4 b5 ho' hm' hp' => ih post' b1 b2 b3 b4 b5 ho' (by omega) hp')
theorem rp6 {ρ A1 A2 A3 A4 A5 A6 : Type} (W : Nat → (ρ → Prop) → A1 → A2 → A3 → A4 → A5 → A6 → Prop) (ok : A1 → A2 → A3 → A4 → A5 → A6 → Prop) (μ : A1 → A2 → A3 → A4 → A5 → A6 → Nat) (val : A1 → A2 → A3 → A4 → A5 → A6 → ρ)
    (hs : ∀ (d : Nat) (post : ρ → Prop) (a1 : A1) (a2 : A2) (a3 : A3) (a4 : A4) (a5 : A5) (a6 : A6), ok a1 a2 a3 a4 a5 a6 → post (val a1 a2 a3 a4 a5 a6) → (∀ (post' : ρ → Prop) (b1 : A1) (b2 : A2) (b3 : A3) (b4 : A4) (b5 : A5) (b6 : A6), ok b1 b2 b3 b4 b5 b6 → μ b1 b2 b3 b4 b5 b6 < μ a1 a2 a3 a4 a5 a6 → post' (val b1 b2 b3 b4 b5 b6) → W d post' b1 b2 b3 b4 b5 b6) → W (d + 1) post a1 a2 a3 a4 a5 a6) :
    ∀ (d : Nat) (post : ρ → Prop) (a1 : A1) (a2 : A2) (a3 : A3) (a4 : A4) (a5 : A5) (a6 : A6), ok a1 a2 a3 a4 a5 a6 → μ a1 a2 a3 a4 a5 a6 < d → post (val a1 a2 a3 a4 a5 a6) → W d post a1 a2 a3 a4 a5 a6 := by
  intro d
  induction d with
  | zero => intro post a1 a2 a3 a4 a5 a6 _ h; omega
  | succ d ih =>
    intro post a1 a2 a3 a4 a5 a6 ho hm hp
    exact hs d post a1 a2 a3 a4 a5 a6 ho hp (fun post' b1 b2 b3 b4 b5 b6 ho' hm' hp' => ih post' b1 b2 b3 b4 b5 b6 ho' (by omega) hp')
theorem rec_p {σ ρ : Type} (W : Nat → (ρ → Prop) → σ → Prop) (ok : σ → Prop) (μ : σ → Nat) (val : σ → ρ)
    (hs : ∀ d s post, ok s → post (val s) → (∀ s' post', ok s' → μ s' < μ s → post' (val s') → W d post' s') → W (d + 1) post s) :
    ∀ d s post, ok s → μ s < d → post (val s) → W d post s := by
  intro d
  induction d with
  | zero => intro s post _ h; omega
  | succ d ih =>
    intro s post ho hm hp
    exact hs d s post ho hp (fun s' post' ho' hm' hp' => ih s' post' ho' (by omega) hp')
theorem rec_q {σ ρ : Type} (W : Nat → (ρ → Prop) → σ → Prop) (ok : σ → Prop) (μ : σ → Nat) (Q : σ → ρ → Prop)
    (hs : ∀ d s post, ok s → (∀ r, Q s r → post r) → (∀ s' post', ok s' → μ s' < μ s → (∀ r, Q s' r → post' r) → W d post' s') → W (d + 1) post s) :
    ∀ d s post, ok s → μ s < d → (∀ r, Q s r → post r) → W d post s := by
  intro d
  induction d with
  | zero => intro s post _ h; omega
  | succ d ih =>
    intro s post ho hm hp
    exact hs d s post ho hp (fun s' post' ho' hm' hp' => ih s' post' ho' (by omega) hp')
def bx_sum (f : Nat → Int32) : Nat → Int32
  | 0 => 0
  | n + 1 => bx_sum f n + f n
theorem ek_u {A : Prop} {B : Nat → Prop} {k N : Nat} (hk : k < N) (h : B k) : (some k = none → A) ∧ (∀ y : Nat, some k = some y → (y < N ∧ B y)) :=
  ⟨fun z => absurd z (Option.some_ne_none k), fun _ e => (by cases e; exact ⟨hk, h⟩)⟩
theorem ek_nu {A : Prop} {B : Nat → Prop} (h : A) : ((none : Option Nat) = none → A) ∧ (∀ y : Nat, (none : Option Nat) = some y → B y) :=
  ⟨fun _ => h, fun _ e => (by cases e)⟩
theorem ek_if {c d A B : Prop} (e : c ↔ d) (f : d → A) (g : ¬ d → B) : (c → A) ∧ (¬ c → B) :=
  ⟨fun z => f (e.mp z), fun z => g (fun y => z (e.mpr y))⟩
theorem ek_v {α : Sort _} {P : α → Prop} {a b : α} (e : a = b) (h : P b) : P a := e ▸ h
theorem co_some {x : Option Nat} {A : Prop} {B : Nat → Prop} (i : Nat) (h : B i) (hx : x = some i := by rfl) : (x = none → A) ∧ (∀ y : Nat, x = some y → B y) := by
  subst hx
  exact ⟨fun e => (nomatch e), fun y e => Option.some.inj e ▸ h⟩
theorem co_none {x : Option Nat} {A : Prop} {B : Nat → Prop} (h : A) (hx : x = none := by rfl) : (x = none → A) ∧ (∀ y : Nat, x = some y → B y) := by
  subst hx
  exact ⟨fun _ => h, fun y e => (nomatch e)⟩
theorem co_any {x : Option Nat} {A : Prop} {B : Nat → Prop} (hn : x = none → A) (hs : ∀ i : Nat, x = some i → B i) : (x = none → A) ∧ (∀ y : Nat, x = some y → B y) := ⟨hn, hs⟩
theorem co_2 {P : Nat → Prop} (h0 : P 0) (h1 : P 1) {i : Nat} (hi : i < 2) : P i :=
  match i, hi with
  | 0, _ => h0
  | 1, _ => h1
theorem co_3 {P : Nat → Prop} (h0 : P 0) (h1 : P 1) (h2 : P 2) {i : Nat} (hi : i < 3) : P i :=
  match i, hi with
  | 0, _ => h0
  | 1, _ => h1
  | 2, _ => h2
theorem co_4 {P : Nat → Prop} (h0 : P 0) (h1 : P 1) (h2 : P 2) (h3 : P 3) {i : Nat} (hi : i < 4) : P i :=
  match i, hi with
  | 0, _ => h0
  | 1, _ => h1
  | 2, _ => h2
  | 3, _ => h3
theorem co_dec {N : Nat} {P : Nat → Prop} [DecidablePred P] (h : (List.range N).all (fun i => decide (P i)) = true) {i : Nat} (hi : i < N) : P i := by
  have := List.all_eq_true.mp h i (List.mem_range.mpr hi)
  exact of_decide_eq_true this
theorem co_tab {α : Type} {l : List α} {d : α} {P : α → Prop} (h : ∀ a, a ∈ l → P a) {i : Nat} (hi : i < l.length) : P (l.getD i d) := by
  rw [List.getD_eq_getElem?_getD, List.getElem?_eq_getElem hi]
  exact h _ (List.getElem_mem hi)
theorem pk_mu {x : Int32} {L : Nat} (h0 : ¬ x < 0) (h : ¬ nI L ≤ x) (hL : L < 2 ^ 31) : ∃ j : Nat, j < L ∧ x = nI j ∧ x + 1 = nI (j + 1) ∧ x.toNatClampNeg = j ∧ L - (x + 1).toNatClampNeg < L - x.toNatClampNeg := by
  obtain ⟨j, hj, rfl⟩ := nI_of h0
  have hl : j < L := Nat.not_le.mp fun q => h (nI_le q hj)
  refine ⟨j, hl, rfl, nI_1 j, nI_clamp hj, ?_⟩
  rw [nI_1, nI_clamp (by omega), nI_clamp hj]
  omega
theorem op_s {α : Type} {r : Option α} {A : Prop} {B : α → Prop} {y : α} (h : r = some y) (b : B y) : (r = none → A) ∧ ∀ z, r = some z → B z :=
  ⟨fun e => (by rw [h] at e; cases e), fun z e => (by rw [h] at e; cases e; exact b)⟩
def l_holds {α : Type} (a : Nat → Option Nat) (LP : List Nat) (p : Nat → α) (c : Nat) (b : Nat → α) : Prop :=
  ∀ j, j < c → ∃ y, a j = some y ∧ y ∈ LP ∧ p y = b j
theorem l_holds_0 {α : Type} {a : Nat → Option Nat} {LP : List Nat} {p b : Nat → α} : l_holds a LP p 0 b := fun j h => absurd h (Nat.not_lt_zero j)
theorem l_in_new (LP : List Nat) (q : Nat) : q ∈ LP ++ [q] := List.mem_append.mpr (Or.inr (List.mem_singleton.mpr rfl))
def l_sum (b : Nat → Int32) : Nat → Int32
  | 0 => 0
  | k + 1 => l_sum b k + b k
theorem sb_shr0 (x : Int32) : x >>> ((0 : Int32) &&& 31) = x := by
  rw [show ((0 : Int32) &&& 31) = 0 by decide]
  simp
theorem sb_shl0 (x : Int32) : x <<< ((0 : Int32) &&& 31) = x := by
  rw [show ((0 : Int32) &&& 31) = 0 by decide]
  simp
theorem sb_cl0 : (0 : Int32).toNatClampNeg = 0 := by decide
theorem sb_m1 {p : Nat} (h : 0 < p) : nI p + (-1) = nI (p - 1) := by
  obtain ⟨q, rfl⟩ : ∃ q, p = q + 1 := ⟨p - 1, by omega⟩
  exact pk_m1 q
def sb_b (c : Nat) : Int32 := (nI c).toInt8.toInt32
theorem sb_byte : ∀ c, c < 256 → sb_b c &&& 255 = nI c ∧ ((nI c).toUInt32 % 65536).toInt32 = nI c ∧ nI c ≤ 255 := by decide +kernel
def sb_Fit (a : Nat → Int32) : Prop := ∀ j, fits .byte (.int (a j)) = true
def sb_Lat (t : Nat → Nat) (n : Nat) (a : Nat → Int32) : Prop := ∀ j, j < n → t j < 256 ∧ a j = sb_b (t j)
theorem sb_fitB (c : Nat) : fits .byte (.int (sb_b c)) = true := pk_fb _
theorem sb_fit0 : sb_Fit (fun _ => 0) := fun _ => by
  show fits .byte (.int 0) = true
  decide
theorem sb_fitU {a : Nat → Int32} {k : Nat} {x : Int32} (h : sb_Fit a) (hx : fits .byte (.int x) = true) : sb_Fit (upd a k x) := by
  intro j
  by_cases e : j = k
  · subst e
    rw [pk_us]
    exact hx
  · rw [pk_un e]
    exact h j
def sb_cat (t : Nat → Nat) (n : Nat) (s : Nat → Nat) : Nat → Nat := fun j => if j < n then t j else s (j - n)
theorem sb_cat_lo {t s : Nat → Nat} {n j : Nat} (h : j < n) : sb_cat t n s j = t j := if_pos h
theorem sb_cat_hi {t s : Nat → Nat} {n j : Nat} : sb_cat t n s (n + j) = s j := by
  show (if n + j < n then t (n + j) else s (n + j - n)) = s j
  rw [if_neg (by omega), Nat.add_sub_cancel_left]
theorem sb_latPut {t s : Nat → Nat} {n w : Nat} {a a' : Nat → Int32} (h : sb_Lat t n a) (hk : ∀ j, j < n → a' j = a j) (hs : ∀ i, i < w → s i < 256 ∧ a' (n + i) = sb_b (s i)) : sb_Lat (sb_cat t n s) (n + w) a' := by
  intro j hj
  by_cases e : j < n
  · rw [sb_cat_lo e, hk j e]
    exact h j e
  · obtain ⟨i, rfl⟩ : ∃ i, j = n + i := ⟨j - n, by omega⟩
    rw [sb_cat_hi]
    exact hs i (by omega)
theorem sb_latKeep {t : Nat → Nat} {n : Nat} {a a' : Nat → Int32} (h : sb_Lat t n a) (hk : ∀ j, j < n → a' j = a j) : sb_Lat t n a' := fun j hj => by
  rw [hk j hj]
  exact h j hj
def sb_cap (q m : Nat) : Nat := if q ≤ m then m else if 2 * m + 2 < q then q else 2 * m + 2
def sb_Room (q m mc ms : Nat) : Prop := q ≤ m ∨ (1 ≤ mc ∧ sb_cap q m ≤ ms ∧ sb_cap q m ≤ 65536)
theorem sb_cap_ge (q m : Nat) : q ≤ sb_cap q m := by
  unfold sb_cap
  split
  · omega
  · split <;> omega
theorem sb_cap_gem (q m : Nat) : m ≤ sb_cap q m := by
  unfold sb_cap
  split
  · omega
  · split <;> omega
theorem sb_cap_le {q m mc ms : Nat} (hm : m ≤ 65536) (hr : sb_Room q m mc ms) : sb_cap q m ≤ 65536 := by
  rcases hr with h | h
  · rw [sb_cap, if_pos h]
    exact hm
  · exact h.2.2
theorem sb_at {P : Int32 → Prop} {x y : Int32} (e : x = y) (h : P y) : P x := e ▸ h
def sb_dg (w : Nat) : Nat := if w < 10 then 1 else if w < 100 then 2 else if w < 1000 then 3 else if w < 10000 then 4 else if w < 100000 then 5 else if w < 1000000 then 6 else if w < 10000000 then 7 else if w < 100000000 then 8 else if w < 1000000000 then 9 else 10
def sb_dec (v : Nat) : Nat → Nat := fun i => 48 + v / 10 ^ (sb_dg v - 1 - i) % 10
theorem sb_dg_in (w : Nat) : 1 ≤ sb_dg w ∧ sb_dg w ≤ 10 := by
  unfold sb_dg
  constructor <;> (repeat' split) <;> omega
theorem sb_dg100 {w : Nat} (h : 100 ≤ w) (hw : w < 2 ^ 31) : sb_dg w = sb_dg (w / 100) + 2 := by
  rw [sb_dg, sb_dg, if_neg (show ¬ w < 10 by omega), if_neg (show ¬ w < 100 by omega)]
  by_cases h3 : w < 1000
  · rw [if_pos h3, if_pos (show w / 100 < 10 by omega)]
  rw [if_neg h3, if_neg (show ¬ w / 100 < 10 by omega)]
  by_cases h4 : w < 10000
  · rw [if_pos h4, if_pos (show w / 100 < 100 by omega)]
  rw [if_neg h4, if_neg (show ¬ w / 100 < 100 by omega)]
  by_cases h5 : w < 100000
  · rw [if_pos h5, if_pos (show w / 100 < 1000 by omega)]
  rw [if_neg h5, if_neg (show ¬ w / 100 < 1000 by omega)]
  by_cases h6 : w < 1000000
  · rw [if_pos h6, if_pos (show w / 100 < 10000 by omega)]
  rw [if_neg h6, if_neg (show ¬ w / 100 < 10000 by omega)]
  by_cases h7 : w < 10000000
  · rw [if_pos h7, if_pos (show w / 100 < 100000 by omega)]
  rw [if_neg h7, if_neg (show ¬ w / 100 < 100000 by omega)]
  by_cases h8 : w < 100000000
  · rw [if_pos h8, if_pos (show w / 100 < 1000000 by omega)]
  rw [if_neg h8, if_neg (show ¬ w / 100 < 1000000 by omega)]
  by_cases h9 : w < 1000000000
  · rw [if_pos h9, if_pos (show w / 100 < 10000000 by omega)]
  rw [if_neg h9, if_neg (show ¬ w / 100 < 10000000 by omega)]
  rw [if_pos (show w / 100 < 100000000 by omega)]
theorem sb_negT {w : Nat} (h : w < 2 ^ 31) : (-nI w).toInt = -(w : Int) := by
  rw [Int32.toInt_neg, nI_toInt h]
  exact Int.bmod_eq_of_le (by omega) (by omega)
theorem sb_nle {a b : Nat} (ha : a < 2 ^ 31) (hb : b < 2 ^ 31) : -nI a ≤ -nI b ↔ b ≤ a := by
  rw [Int32.le_iff_toInt_le, sb_negT ha, sb_negT hb]
  omega
theorem sb_nlt {a b : Nat} (ha : a < 2 ^ 31) (hb : b < 2 ^ 31) : -nI a < -nI b ↔ b < a := by
  rw [Int32.lt_iff_toInt_lt, sb_negT ha, sb_negT hb]
  omega
theorem sb_cmp {A B : Prop} {x : Int32} (v c : Nat) (f : c ≤ v → A) (g : v < c → B) (hv : v < 2 ^ 31) (hx : x = -nI c := by rfl) (hc : c < 2 ^ 31 := by omega) : (-nI v ≤ x → A) ∧ (¬ -nI v ≤ x → B) := by
  subst hx
  rw [sb_nle hv hc]
  exact ⟨f, fun z => g (by omega)⟩
theorem sb_ndiv {w : Nat} (hw : w < 2 ^ 31) : (-nI w) / 100 = -nI (w / 100) := by
  apply Int32.toInt_inj.mp
  have h100 : (100 : Int32).toInt = 100 := by decide
  rw [Int32.toInt_div, sb_negT hw, h100, sb_negT (by omega), Int.neg_tdiv, Int.tdiv_eq_ediv_of_nonneg (by omega), Int.bmod_eq_of_le (by omega) (by omega)]
  omega
theorem sb_nrem {w : Nat} (hw : w < 2 ^ 31) : (-nI (w / 100)) * 100 - (-nI w) = nI (w % 100) := by
  have h := pk_rem (a := w) (d := 100) hw (by decide) (by decide)
  rw [pk_div hw (by decide) (by decide)] at h
  rw [← h]
  show (-nI (w / 100)) * nI 100 - (-nI w) = nI w - nI (w / 100) * nI 100
  rw [Int32.neg_mul, Int32.sub_neg, Int32.add_comm, ← Int32.sub_eq_add_neg]
end
section
/-! rows on bits, shifts and unsigned numbers, to paste: each family out of a closed proof of our own, whole with what it rests on; each by itself clean at Lean in its own claim (generation 39, form 5). Take a family whole -/
/-! ===== Int32 by its bits: bt x i ===== -/
def bt (x : Int32) (i : Nat) : Bool := x.toBitVec.getLsbD i
theorem b_ext {x y : Int32} (h : ∀ i, i < 32 → bt x i = bt y i) : x = y := Int32.toBitVec_inj.mp (BitVec.eq_of_getLsbD_eq (fun i hi => h i hi))
theorem b_or (x y : Int32) (i : Nat) : bt (x ||| y) i = (bt x i || bt y i) := by unfold bt; rw [Int32.toBitVec_or, BitVec.getLsbD_or]
theorem b_and (x y : Int32) (i : Nat) : bt (x &&& y) i = (bt x i && bt y i) := by unfold bt; rw [Int32.toBitVec_and, BitVec.getLsbD_and]
theorem b_xor (x y : Int32) (i : Nat) : bt (x ^^^ y) i = (bt x i ^^ bt y i) := by unfold bt; rw [Int32.toBitVec_xor, BitVec.getLsbD_xor]
theorem b_big {x : Int32} {i : Nat} (h : 32 ≤ i) : bt x i = false := BitVec.getLsbD_of_ge _ _ h
theorem b_255 (i : Nat) : bt 255 i = decide (i < 8) := by
  rcases Nat.lt_or_ge i 32 with h | h
  · exact (by decide +kernel : ∀ i, i < 32 → bt 255 i = decide (i < 8)) i h
  · rw [b_big h, decide_eq_false (by omega)]
theorem b_65535 (i : Nat) : bt 65535 i = decide (i < 16) := by
  rcases Nat.lt_or_ge i 32 with h | h
  · exact (by decide +kernel : ∀ i, i < 32 → bt 65535 i = decide (i < 16)) i h
  · rw [b_big h, decide_eq_false (by omega)]
theorem b_m1 : ∀ i, i < 32 → bt (-1) i = true := by decide +kernel
theorem b_0 (i : Nat) : bt 0 i = false := BitVec.getLsbD_zero
theorem s_l : ∀ n, n < 32 → ((nI n &&& 31).toBitVec.smod 32).toNat = n := by decide +kernel
theorem s_u : ∀ n, n < 32 → (((nI n).toUInt32 &&& Int32.toUInt32 31).toBitVec % 32).toNat = n := by decide +kernel
theorem b_shl (n : Nat) (hn : n < 32) (x : Int32) {i : Nat} (hi : i < 32) : bt (x <<< (nI n &&& 31)) i = (decide (n ≤ i) && bt x (i - n)) := by
  unfold bt
  rw [Int32.toBitVec_shiftLeft]
  show (x.toBitVec <<< ((nI n &&& 31).toBitVec.smod 32).toNat).getLsbD i = _
  rw [s_l n hn, BitVec.getLsbD_shiftLeft]
  rcases Nat.lt_or_ge i n with h | h
  · simp [h, Nat.not_le.mpr h]
  · simp [hi, h, Nat.not_lt.mpr h]
theorem b_ushr (n : Nat) (hn : n < 32) (x : Int32) (i : Nat) : bt ((x.toUInt32 >>> ((nI n).toUInt32 &&& Int32.toUInt32 31)).toInt32) i = bt x (n + i) := by
  show (x.toUInt32 >>> ((nI n).toUInt32 &&& Int32.toUInt32 31)).toBitVec.getLsbD i = x.toUInt32.toBitVec.getLsbD (n + i)
  rw [UInt32.toBitVec_shiftRight]
  show (x.toUInt32.toBitVec >>> (((nI n).toUInt32 &&& Int32.toUInt32 31).toBitVec % 32).toNat).getLsbD i = _
  rw [s_u n hn, BitVec.getLsbD_ushiftRight]
theorem b_sshr (n : Nat) (hn : n < 32) (x : Int32) {i : Nat} (hi : i < 32) : bt (x >>> (nI n &&& 31)) i = if n + i < 32 then bt x (n + i) else bt x 31 := by
  unfold bt
  rw [Int32.toBitVec_shiftRight]
  show (x.toBitVec.sshiftRight ((nI n &&& 31).toBitVec.smod 32).toNat).getLsbD i = _
  rw [s_l n hn, BitVec.getLsbD_sshiftRight, BitVec.msb_eq_getLsbD_last]
  simp [hi]
theorem b_shl8 (x : Int32) {i : Nat} (hi : i < 32) : bt (x <<< ((8 : Int32) &&& 31)) i = (decide (8 ≤ i) && bt x (i - 8)) := b_shl 8 (by omega) x hi
theorem b_shl16 (x : Int32) {i : Nat} (hi : i < 32) : bt (x <<< ((16 : Int32) &&& 31)) i = (decide (16 ≤ i) && bt x (i - 16)) := b_shl 16 (by omega) x hi
theorem b_shl24 (x : Int32) {i : Nat} (hi : i < 32) : bt (x <<< ((24 : Int32) &&& 31)) i = (decide (24 ≤ i) && bt x (i - 24)) := b_shl 24 (by omega) x hi
theorem b_sshr8 (x : Int32) {i : Nat} (hi : i < 32) : bt (x >>> ((8 : Int32) &&& 31)) i = if 8 + i < 32 then bt x (8 + i) else bt x 31 := b_sshr 8 (by omega) x hi
/-! ===== nI under and, xor, >>>, one bit, 65535 ===== -/
theorem nx_and (a b : Nat) : nI a &&& nI b = nI (a &&& b) := by
  apply Int32.toBitVec_inj.1
  show BitVec.ofNat 32 a &&& BitVec.ofNat 32 b = BitVec.ofNat 32 (a &&& b)
  apply BitVec.eq_of_getLsbD_eq
  intro i hi
  simp [hi]
theorem nx_xor (a b : Nat) : nI a ^^^ nI b = nI (a ^^^ b) := by
  apply Int32.toBitVec_inj.1
  show BitVec.ofNat 32 a ^^^ BitVec.ofNat 32 b = BitVec.ofNat 32 (a ^^^ b)
  apply BitVec.eq_of_getLsbD_eq
  intro i hi
  simp [hi]
theorem nx_cnt : ∀ j : Fin 32, (UInt32.ofNat j.val &&& Int32.toUInt32 31).toNat % 32 = j.val := by decide +kernel
theorem nx_ush {k j : Nat} (hk : k < 65536) (hj : j < 32) : ((nI k).toUInt32 >>> ((nI j).toUInt32 &&& Int32.toUInt32 31)).toInt32 = nI (k >>> j) := by
  have hs : k >>> j ≤ k := by
    rw [Nat.shiftRight_eq_div_pow]
    exact Nat.div_le_self _ _
  have e2 : UInt32.ofNat k >>> (UInt32.ofNat j &&& Int32.toUInt32 31) = UInt32.ofNat (k >>> j) := by
    apply UInt32.toNat_inj.1
    have h1 : (UInt32.ofNat k).toNat = k := Nat.mod_eq_of_lt (by omega)
    have h2 : (UInt32.ofNat (k >>> j)).toNat = k >>> j := Nat.mod_eq_of_lt (by omega)
    rw [UInt32.toNat_shiftRight, nx_cnt ⟨j, hj⟩, h1, h2]
  show (UInt32.ofNat k >>> (UInt32.ofNat j &&& Int32.toUInt32 31)).toInt32 = _
  rw [e2]
  rfl
theorem nx_bit {k j : Nat} (hk : k < 65536) (hj : j < 16) : (((nI k).toUInt32 >>> ((nI j).toUInt32 &&& Int32.toUInt32 31)).toInt32 &&& 1) = 0 ↔ k.testBit j = false := by
  rw [nx_ush hk (by omega)]
  show nI (k >>> j) &&& nI 1 = 0 ↔ _
  rw [nx_and, Nat.and_one_is_mod, ← nI_0, nI_eq (by omega) (by omega), Nat.testBit_eq_decide_div_mod_eq, Nat.shiftRight_eq_div_pow, decide_eq_false_iff_not]
  generalize k / 2 ^ j = z
  omega
theorem nx_mod (k : Nat) : nI k &&& 65535 = nI (k % 65536) := by
  show nI k &&& nI 65535 = _
  rw [nx_and, show (65535 : Nat) = 2 ^ 16 - 1 from rfl, Nat.and_two_pow_sub_one_eq_mod]
theorem nx_m16 {k : Nat} (h : k < 65536) : nI k &&& 65535 = nI k := by rw [nx_mod, Nat.mod_eq_of_lt h]
theorem nx_mask (x : Int32) : ∃ k, k < 65536 ∧ x &&& 65535 = nI k := by
  have e : x = nI x.toBitVec.toNat := by
    apply Int32.toBitVec_inj.1
    show x.toBitVec = BitVec.ofNat 32 x.toBitVec.toNat
    simp
  refine ⟨x.toBitVec.toNat % 65536, Nat.mod_lt _ (by omega), ?_⟩
  rw [← nx_mod, ← e]
/-! ===== Int32 as a set of bits: test, set ===== -/
def nf_M (m : Int32) : Nat := 4294967296 - m.toBitVec.toNat
theorem nf_sh : ∀ l, l < 32 → ((1 : Int32) <<< (nI l &&& 31)).toBitVec = BitVec.twoPow 32 l := by decide +kernel
theorem nf_sl : ∀ l, l < 32 → (((nI l).toUInt32 &&& Int32.toUInt32 31).toBitVec % 32).toNat = l := by decide +kernel
theorem nf_tp : ∀ l, l < 32 → BitVec.twoPow 32 l ≠ 0#32 := by decide +kernel
theorem nf_bit (m : Int32) (l : Nat) (hl : l < 32) : ((m.toUInt32 >>> ((nI l).toUInt32 &&& Int32.toUInt32 31)).toInt32 &&& 1) = 0 ↔ (m &&& ((1 : Int32) <<< (nI l &&& 31))) = 0 := by
  have e : ((m.toUInt32 >>> ((nI l).toUInt32 &&& Int32.toUInt32 31)).toInt32).toBitVec = m.toBitVec >>> l := by
    show m.toBitVec >>> (((nI l).toUInt32 &&& Int32.toUInt32 31).toBitVec % 32) = m.toBitVec >>> l
    rw [BitVec.ushiftRight_eq', nf_sl l hl]
  rw [← Int32.toBitVec_inj, ← Int32.toBitVec_inj, Int32.toBitVec_and, Int32.toBitVec_and, nf_sh l hl, e, BitVec.and_twoPow]
  show (m.toBitVec >>> l &&& 1#32) = 0#32 ↔ _ = 0#32
  rw [BitVec.and_one_eq_setWidth_ofBool_getLsbD, BitVec.getLsbD_ushiftRight, Nat.add_zero]
  cases hb : m.toBitVec.getLsbD l
  · exact ⟨fun _ => by simp, fun _ => by decide⟩
  · exact ⟨fun z => absurd z (by decide), fun z => absurd ((if_pos rfl).symm.trans z) (nf_tp l hl)⟩
theorem nf_gr (m k : Int32) (h : m &&& k = 0) (hk : k ≠ 0) : nf_M (m ||| k) < nf_M m := by
  have hm := m.toBitVec.isLt
  have hm' := (m ||| k).toBitVec.isLt
  have h1 : m.toBitVec.toNat ≤ (m ||| k).toBitVec.toNat := by
    rw [Int32.toBitVec_or, BitVec.toNat_or]
    exact Nat.left_le_or
  have h2 : m.toBitVec.toNat ≠ (m ||| k).toBitVec.toNat := by
    intro e
    have e2 : m = m ||| k := Int32.toBitVec_inj.mp (BitVec.eq_of_toNat_eq e)
    apply hk
    apply Int32.toBitVec_inj.mp
    show k.toBitVec = 0#32
    apply BitVec.eq_of_getLsbD_eq
    intro i hi
    have a : m.toBitVec.getLsbD i = (m.toBitVec.getLsbD i || k.toBitVec.getLsbD i) := by rw [← BitVec.getLsbD_or, ← Int32.toBitVec_or, ← e2]
    have b : (m.toBitVec.getLsbD i && k.toBitVec.getLsbD i) = false := by
      rw [← BitVec.getLsbD_and, ← Int32.toBitVec_and, h]
      exact BitVec.getLsbD_zero
    rw [BitVec.getLsbD_zero]
    revert a b
    cases m.toBitVec.getLsbD i <;> cases k.toBitVec.getLsbD i <;> simp
  unfold nf_M
  omega
/-! ===== a byte read unsigned ===== -/
theorem bp_b (x : Int32) : x.toInt8.toInt32 &&& 255 = x &&& 255 := by
  apply Int32.toBitVec_inj.mp
  rw [Int32.toBitVec_and, Int32.toBitVec_and, Int8.toBitVec_toInt32, Int32.toBitVec_toInt8]
  apply BitVec.eq_of_getLsbD_eq
  intro i hi
  rw [BitVec.getLsbD_and, BitVec.getLsbD_and]
  have hm : ∀ i < 32, 8 ≤ i → (255 : Int32).toBitVec.getLsbD i = false := by decide
  rcases Nat.lt_or_ge i 8 with z | z
  · rw [BitVec.getLsbD_signExtend, BitVec.getLsbD_signExtend, if_pos z, if_pos hi]
    simp only [z, hi, decide_true, Bool.true_and]
  · rw [hm i hi z]; simp
/-! ===== the char cast and 65535 ===== -/
theorem em_w (v : Int32) : ∃ w : Nat, w < 65536 ∧ (v.toUInt32 % 65536).toInt32 = nI w ∧ v &&& 65535 = nI w := by
  have hr := lw_u16_r v
  have h0 : (0 : Int32).toInt = 0 := by decide
  obtain ⟨w, h1, h2⟩ := nI_of (x := lw_u16 v) (by rw [Int32.lt_iff_toInt_lt]; omega)
  have h3 : (v.toUInt32 % 65536).toInt32 = nI w := h2
  rw [h2, nI_toInt h1] at hr
  exact ⟨w, by omega, h3, by rw [← lg_i2c_mask, ← lg_i2c_nf, h3]⟩
/-! ===== Int64 as a set of bits: test, set, clear ===== -/
theorem ts_nf {x : Bool} (h : ¬ x = false) : x = true := by cases x <;> first | rfl | exact absurd rfl h
theorem ts_nt {x : Bool} (h : ¬ x = true) : x = false := by cases x <;> first | rfl | exact absurd rfl h
theorem ts_bit {w : Int64} {s : UInt64} {j : Nat} (hj : j < 64) (hs : s.toNat = j) : ((w.toUInt64 >>> s).toInt64 &&& 1) = 0 ↔ w.toBitVec.getLsbD j = false := by
  have e : (w.toUInt64 >>> s).toInt64.toBitVec = w.toBitVec >>> j := by
    apply BitVec.eq_of_toNat_eq
    show (w.toUInt64 >>> s).toNat = _
    rw [UInt64.toNat_shiftRight, hs, Nat.mod_eq_of_lt hj, BitVec.toNat_ushiftRight]
    rfl
  rw [← Int64.toBitVec_inj, Int64.toBitVec_and, e]
  show w.toBitVec >>> j &&& 1#64 = 0#64 ↔ _
  constructor
  · intro h
    have t := congrArg (fun x => x.getLsbD 0) h
    simpa using t
  · intro h
    apply BitVec.eq_of_getLsbD_eq
    intro i hi
    cases i with
    | zero => simp [h]
    | succ i => simp
theorem ts_or {w m : Int64} {j : Nat} (hj : j < 64) (hm : m.toBitVec = BitVec.twoPow 64 j) : (w ||| m) = w ↔ w.toBitVec.getLsbD j = true := by
  rw [← Int64.toBitVec_inj, Int64.toBitVec_or, hm]
  constructor
  · intro h
    have t := congrArg (fun x => x.getLsbD j) h
    simp only [BitVec.getLsbD_or, BitVec.getLsbD_twoPow] at t
    simpa [hj] using t.symm
  · intro h
    apply BitVec.eq_of_getLsbD_eq
    intro i hi
    rw [BitVec.getLsbD_or, BitVec.getLsbD_twoPow]
    by_cases e : j = i
    · subst e; rw [h, Bool.true_or]
    · simp [e]
theorem ts_and {w m : Int64} {j : Nat} (hj : j < 64) (hm : m.toBitVec = BitVec.twoPow 64 j) : (w &&& (m ^^^ (-1))) = w ↔ w.toBitVec.getLsbD j = false := by
  have ha : (-1 : Int64).toBitVec = BitVec.allOnes 64 := by decide
  rw [← Int64.toBitVec_inj, Int64.toBitVec_and, Int64.toBitVec_xor, hm, ha]
  constructor
  · intro h
    have t := congrArg (fun x => x.getLsbD j) h
    simp only [BitVec.getLsbD_and, BitVec.getLsbD_xor, BitVec.getLsbD_twoPow, BitVec.getLsbD_allOnes] at t
    simpa [hj] using t.symm
  · intro h
    apply BitVec.eq_of_getLsbD_eq
    intro i hi
    rw [BitVec.getLsbD_and, BitVec.getLsbD_xor, BitVec.getLsbD_twoPow, BitVec.getLsbD_allOnes]
    by_cases e : j = i
    · subst e; rw [h, Bool.false_and]
    · simp [e, hi]
/-! ===== lN n to 2^64: shifts, and, or, masks, one bit ===== -/
theorem wb_tb (n : Nat) : (lN n).toBitVec = BitVec.ofNat 64 n := rfl
theorem wb_inj {a b : Int64} (h : a.toBitVec = b.toBitVec) : a = b := Int64.toBitVec_inj.mp h
theorem wb_tn {n : Nat} (h : n < 2 ^ 64) : (lN n).toBitVec.toNat = n := by rw [wb_tb, BitVec.toNat_ofNat, Nat.mod_eq_of_lt h]
theorem wb_of (x : Int64) : ∃ n, n < 2 ^ 64 ∧ x = lN n := ⟨x.toBitVec.toNat, x.toBitVec.isLt, wb_inj (by rw [wb_tb]; simp)⟩
theorem wb_of32 (x : Int32) : ∃ n, n < 2 ^ 32 ∧ x = nI n := ⟨x.toBitVec.toNat, x.toBitVec.isLt, Int32.toBitVec_inj.mp (by show _ = BitVec.ofNat 32 _; simp)⟩
theorem wb_c : ∀ k, k < 64 → ((nI k).toInt64 &&& 63) = lN k := by decide +kernel
theorem wb_cu : ∀ k, k < 64 → ((nI k).toInt64.toUInt64 &&& Int64.toUInt64 63) = UInt64.ofNat k := by decide +kernel
theorem wb_sm : ∀ k, k < 64 → (BitVec.ofNat 64 k).smod 64 = BitVec.ofNat 64 k := by decide +kernel
theorem wb_pw {a b : Nat} (h : a ≤ b) : 2 ^ b = 2 ^ a * 2 ^ (b - a) := by rw [← Nat.pow_add]; congr 1; omega
theorem wb_lt2 {a b : Nat} (h : a < b) : 2 ^ a < 2 ^ b := Nat.pow_lt_pow_right (by decide) h
theorem wb_mod (n : Nat) : lN n = lN (n % 2 ^ 64) := wb_inj (by rw [wb_tb, wb_tb]; apply BitVec.eq_of_toNat_eq; rw [BitVec.toNat_ofNat, BitVec.toNat_ofNat, Nat.mod_mod])
theorem wb_shr {n k : Nat} (hn : n < 2 ^ 64) (hk : k < 64) : ((lN n).toUInt64 >>> ((nI k).toInt64.toUInt64 &&& Int64.toUInt64 63)).toInt64 = lN (n / 2 ^ k) := by
  rw [wb_cu k hk]
  apply wb_inj
  apply BitVec.eq_of_toNat_eq
  show ((lN n).toUInt64 >>> UInt64.ofNat k).toNat = (BitVec.ofNat 64 _).toNat
  have h1 : (UInt64.ofNat k).toNat = k := by
    show (BitVec.ofNat 64 k).toNat = k
    rw [BitVec.toNat_ofNat, Nat.mod_eq_of_lt (by omega)]
  have h2 : (lN n).toUInt64.toNat = n := wb_tn hn
  rw [UInt64.toNat_shiftRight, h1, h2, Nat.mod_eq_of_lt hk, Nat.shiftRight_eq_div_pow, BitVec.toNat_ofNat, Nat.mod_eq_of_lt (Nat.lt_of_le_of_lt (Nat.div_le_self _ _) hn)]
theorem wb_shl (n : Nat) {k : Nat} (hk : k < 64) : lN n <<< ((nI k).toInt64 &&& 63) = lN (n * 2 ^ k) := by
  rw [wb_c k hk]
  apply wb_inj
  rw [Int64.toBitVec_shiftLeft, wb_tb, wb_tb, wb_tb, wb_sm k hk]
  apply BitVec.eq_of_toNat_eq
  rw [BitVec.shiftLeft_eq', BitVec.toNat_shiftLeft, BitVec.toNat_ofNat, BitVec.toNat_ofNat, BitVec.toNat_ofNat, Nat.mod_eq_of_lt (show k < 2 ^ 64 by omega), Nat.shiftLeft_eq, Nat.mul_mod, Nat.mod_mod, ← Nat.mul_mod]
theorem wb_and {a b : Nat} (ha : a < 2 ^ 64) (hb : b < 2 ^ 64) : lN a &&& lN b = lN (a &&& b) := by
  apply wb_inj
  rw [Int64.toBitVec_and, wb_tb, wb_tb, wb_tb]
  apply BitVec.eq_of_toNat_eq
  rw [BitVec.toNat_and, BitVec.toNat_ofNat, BitVec.toNat_ofNat, BitVec.toNat_ofNat, Nat.mod_eq_of_lt ha, Nat.mod_eq_of_lt hb, Nat.mod_eq_of_lt (Nat.and_lt_two_pow _ hb)]
theorem wb_or {a b : Nat} (ha : a < 2 ^ 64) (hb : b < 2 ^ 64) : lN a ||| lN b = lN (a ||| b) := by
  apply wb_inj
  rw [Int64.toBitVec_or, wb_tb, wb_tb, wb_tb]
  apply BitVec.eq_of_toNat_eq
  rw [BitVec.toNat_or, BitVec.toNat_ofNat, BitVec.toNat_ofNat, BitVec.toNat_ofNat, Nat.mod_eq_of_lt ha, Nat.mod_eq_of_lt hb, Nat.mod_eq_of_lt (Nat.or_lt_two_pow ha hb)]
theorem wb_mask {n k : Nat} (hn : n < 2 ^ 64) (hk : k < 64) : lN n &&& lN (2 ^ k - 1) = lN (n % 2 ^ k) := by
  rw [wb_and hn (by have := wb_lt2 hk; omega), Nat.and_two_pow_sub_one_eq_mod]
theorem wb_a1 {n : Nat} (hn : n < 2 ^ 64) : lN n &&& 1 = lN (n % 2) := wb_mask (k := 1) hn (by decide)
theorem wb_bit {n k : Nat} (hn : n < 2 ^ 64) (hk : k < 64) : ((lN n).toUInt64 >>> ((nI k).toInt64.toUInt64 &&& Int64.toUInt64 63)).toInt64 &&& 1 = lN (n / 2 ^ k % 2) := by
  rw [wb_shr hn hk, wb_a1 (Nat.lt_of_le_of_lt (Nat.div_le_self _ _) hn)]
theorem wb_xor {q k : Nat} (hk : k < 63) (h : 2 ^ k ≤ q) (h2 : q < 2 ^ (k + 1)) : lN q ^^^ lN (2 ^ k) = lN (q - 2 ^ k) := by
  obtain ⟨r, rfl⟩ : ∃ r, q = 2 ^ k + r := ⟨q - 2 ^ k, by omega⟩
  have hr : r < 2 ^ k := by rw [Nat.pow_succ] at h2; omega
  have hx : (2 ^ k + r) ^^^ 2 ^ k = r := by
    apply Nat.eq_of_testBit_eq
    intro i
    rw [Nat.testBit_xor, Nat.testBit_two_pow]
    rcases Nat.lt_trichotomy i k with h | h | h
    · rw [Nat.testBit_two_pow_add_gt h]
      simp [show ¬ k = i by omega]
    · subst h
      rw [Nat.testBit_two_pow_add_eq]
      simp
    · have a1 : 2 ^ (k + 1) ≤ 2 ^ i := Nat.pow_le_pow_right (by decide) h
      rw [Nat.testBit_lt_two_pow (show 2 ^ k + r < 2 ^ i by omega), Nat.testBit_lt_two_pow (show r < 2 ^ i by omega)]
      simp [show ¬ k = i by omega]
  have b1 := wb_lt2 (show k + 1 < 64 by omega)
  have b2 := wb_lt2 (show k < 64 by omega)
  apply wb_inj
  rw [Int64.toBitVec_xor, wb_tb, wb_tb, wb_tb]
  apply BitVec.eq_of_toNat_eq
  rw [BitVec.toNat_xor, BitVec.toNat_ofNat, BitVec.toNat_ofNat, BitVec.toNat_ofNat, Nat.mod_eq_of_lt (by omega : 2 ^ k + r < 2 ^ 64), Nat.mod_eq_of_lt b2, hx, Nat.add_sub_cancel_left, Nat.mod_eq_of_lt (by omega)]
/-! ===== lN: masks, 'or' of parts that don't overlap is a sum ===== -/
theorem u_tn {n : Nat} (h : n < 2 ^ 64) : (UInt64.ofNat n).toNat = n := Nat.mod_eq_of_lt h
theorem g_and {a b c : Nat} (ha : a < 2 ^ 64) (hb : b < 2 ^ 64) (hc : a &&& b = c) : lN a &&& lN b = lN c := by
  subst hc
  have h : UInt64.ofNat a &&& UInt64.ofNat b = UInt64.ofNat (a &&& b) := UInt64.toNat_inj.mp (by rw [UInt64.toNat_and, u_tn ha, u_tn hb, u_tn (Nat.and_lt_two_pow a hb)])
  have h2 := congrArg UInt64.toInt64 h
  exact h2
theorem g_and1 {a : Nat} (ha : a < 2 ^ 64) : lN a &&& 1 = lN (a % 2) := g_and (b := 1) ha (by decide) (Nat.and_two_pow_sub_one_eq_mod a 1)
theorem g_mask {a s p : Nat} (hp : 2 ^ s = p) (hs : s < 64) (ha : a < 2 ^ 64) : lN a &&& lN (p - 1) = lN (a % p) := by
  subst hp
  have := Nat.pow_lt_pow_right (show 1 < 2 by decide) hs
  exact g_and ha (by omega) (Nat.and_two_pow_sub_one_eq_mod a s)
theorem g_or {k p a b : Nat} (hp : 2 ^ k = p) (ha : a < p) (h : b * p + a < 2 ^ 64) : lN (b * p) ||| lN a = lN (b * p + a) := by
  subst hp
  have h1 : b * 2 ^ k ||| a = b * 2 ^ k + a := by rw [← Nat.shiftLeft_eq, Nat.shiftLeft_add_eq_or_of_lt ha]
  have h3 : UInt64.ofNat (b * 2 ^ k) ||| UInt64.ofNat a = UInt64.ofNat (b * 2 ^ k + a) := UInt64.toNat_inj.mp (by rw [UInt64.toNat_or, u_tn (by omega), u_tn (by omega), u_tn h, h1])
  have h2 := congrArg UInt64.toInt64 h3
  exact h2
theorem g_or' {k p a b : Nat} (hp : 2 ^ k = p) (ha : a < p) (h : a + b * p < 2 ^ 64) : lN a ||| lN (b * p) = lN (a + b * p) := by
  rw [Int64.or_comm, g_or hp ha (by omega), Nat.add_comm]
theorem g_ushr {a k p : Nat} {y : UInt64} (hy : y = UInt64.ofNat k) (hk : k < 64) (hp : 2 ^ k = p) (ha : a < 2 ^ 64) : ((lN a).toUInt64 >>> y).toInt64 = lN (a / p) := by
  subst hy hp
  have h : UInt64.ofNat a >>> UInt64.ofNat k = UInt64.ofNat (a / 2 ^ k) := UInt64.toNat_inj.mp (by rw [UInt64.toNat_shiftRight, u_tn ha, u_tn (by omega), u_tn (Nat.lt_of_le_of_lt (Nat.div_le_self _ _) ha), Nat.mod_eq_of_lt hk, Nat.shiftRight_eq_div_pow])
  have h2 := congrArg UInt64.toInt64 h
  exact h2
theorem g_shl {a k p : Nat} {y : Int64} (hy : y.toBitVec.smod 64 = BitVec.ofNat 64 k) (hk : k < 64) (hp : 2 ^ k = p) (ha : a < 2 ^ 64) : lN a <<< y = lN (a * p) := by
  subst hp
  apply Int64.toBitVec_inj.mp
  rw [Int64.toBitVec_shiftLeft, hy]
  apply BitVec.eq_of_toNat_eq
  have hb : (lN a).toBitVec.toNat = a := Nat.mod_eq_of_lt ha
  have hk' : (BitVec.ofNat 64 k).toNat = k := Nat.mod_eq_of_lt (by omega)
  have h : ((lN a).toBitVec <<< BitVec.ofNat 64 k).toNat = (a * 2 ^ k) % 2 ^ 64 := by simp only [BitVec.shiftLeft_eq', BitVec.toNat_shiftLeft, hb, hk', Nat.shiftLeft_eq]
  exact h
/-! ===== lN to 2^62 under >> and >>> ===== -/
theorem pf_lI {a : Nat} (h : a < 2 ^ 63) : (lN a).toInt = (a : Int) := lg_ofNat_toInt h
theorem pf_shr {a d : Nat} {D : Int64} (hD : (D.toBitVec.smod 64).toNat = d) (h : a < 2 ^ 62) : lN a >>> D = lN (a / 2 ^ d) := by
  have hd : a / 2 ^ d ≤ a := Nat.div_le_self _ _
  apply Int64.toInt_inj.mp
  have e : (lN a >>> D).toInt = (lN a).toInt >>> d := by
    rw [← hD]
    exact BitVec.toInt_sshiftRight ..
  rw [e, Int.shiftRight_eq_div_pow, pf_lI (by omega), pf_lI (by omega)]
  rfl
theorem pf_ushr {a d : Nat} {D : UInt64} (hD : D.toNat % 64 = d) (h : a < 2 ^ 62) : ((lN a).toUInt64 >>> D).toInt64 = lN (a / 2 ^ d) := by
  have hd : a / 2 ^ d ≤ a := Nat.div_le_self _ _
  have e : (lN a).toUInt64 >>> D = UInt64.ofNat (a / 2 ^ d) := UInt64.toNat_inj.mp (by
    rw [UInt64.toNat_shiftRight, hD, Nat.shiftRight_eq_div_pow, UInt64.toNat_ofNat']
    show (UInt64.ofNat a).toNat / 2 ^ d = _
    rw [UInt64.toNat_ofNat', Nat.mod_eq_of_lt (by omega), Nat.mod_eq_of_lt (by omega)])
  rw [e]
  rfl
theorem pf_andw (x : Int64) : ∃ m, m < 2 ^ 32 ∧ x &&& 4294967295 = lN m := ⟨x.toBitVec.toNat % 2 ^ 32, Nat.mod_lt _ (by decide), Int64.toBitVec_inj.mp (BitVec.eq_of_toNat_eq (by
  show (x.toBitVec &&& 4294967295#64).toNat = (BitVec.ofNat 64 (x.toBitVec.toNat % 2 ^ 32)).toNat
  rw [BitVec.toNat_and, show (4294967295#64).toNat = 2 ^ 32 - 1 from by decide, Nat.and_two_pow_sub_one_eq_mod, BitVec.toNat_ofNat]
  omega))⟩
/-! ===== Int64 as an unsigned number: uN x ===== -/
def uN (x : Int64) : Nat := x.toUInt64.toNat
theorem uN_lt (x : Int64) : uN x < 18446744073709551616 := x.toUInt64.toNat_lt
theorem uN_inj {x y : Int64} (h : uN x = uN y) : x = y := congrArg UInt64.toInt64 (UInt64.toNat_inj.mp h)
theorem uN_add (x y : Int64) : uN (x + y) = (uN x + uN y) % 18446744073709551616 := by
  show (x.toUInt64 + y.toUInt64).toNat = _
  exact UInt64.toNat_add _ _
theorem uN_mul (x y : Int64) : uN (x * y) = (uN x * uN y) % 18446744073709551616 := by
  show (x.toUInt64 * y.toUInt64).toNat = _
  exact UInt64.toNat_mul _ _
theorem uN_shl (x : Int64) : uN (x <<< ((1 : Int32).toInt64 &&& 63)) = (2 * uN x) % 18446744073709551616 := by
  have h : (((1 : Int32).toInt64 &&& 63).toBitVec.smod 64).toNat = 1 := by decide
  show (x.toBitVec <<< (((1 : Int32).toInt64 &&& 63).toBitVec.smod 64).toNat).toNat = _
  rw [h, BitVec.toNat_shiftLeft, Nat.shiftLeft_eq, Nat.mul_comm]
  rfl
theorem uN_shr (x : Int64) (s : UInt64) : uN (x.toUInt64 >>> s).toInt64 = uN x / 2 ^ (s.toNat % 64) := by
  show (x.toUInt64 >>> s).toNat = _
  rw [UInt64.toNat_shiftRight, Nat.shiftRight_eq_div_pow]
  rfl
theorem uN_s32 (x : Int64) : uN (x.toUInt64 >>> ((32 : Int32).toInt64.toUInt64 &&& Int64.toUInt64 63)).toInt64 = uN x / 4294967296 := by
  have h : ((32 : Int32).toInt64.toUInt64 &&& Int64.toUInt64 63).toNat % 64 = 32 := by decide
  rw [uN_shr, h]
theorem uN_s63 (x : Int64) : uN (x.toUInt64 >>> ((63 : Int32).toInt64.toUInt64 &&& Int64.toUInt64 63)).toInt64 = uN x / 9223372036854775808 := by
  have h : ((63 : Int32).toInt64.toUInt64 &&& Int64.toUInt64 63).toNat % 64 = 63 := by decide
  rw [uN_shr, h]
theorem uN_lo (x : Int64) : uN (x &&& 4294967295) = uN x % 4294967296 := by
  show (x.toUInt64 &&& Int64.toUInt64 4294967295).toNat = _
  rw [UInt64.toNat_and]
  exact Nat.and_two_pow_sub_one_eq_mod _ 32
theorem uN_bit (x : Int64) : (x &&& 1) = 0 ↔ uN x % 2 = 0 := by
  have h : uN (x &&& 1) = uN x % 2 := by
    show (x.toUInt64 &&& Int64.toUInt64 1).toNat = _
    rw [UInt64.toNat_and]
    exact Nat.and_two_pow_sub_one_eq_mod _ 1
  rw [← h]
  exact ⟨fun z => by rw [z]; rfl, fun z => uN_inj (z.trans rfl)⟩
theorem uN_or {x y : Int64} (hy : uN y < 2) : uN ((x <<< ((1 : Int32).toInt64 &&& 63)) ||| y) = (2 * uN x) % 18446744073709551616 + uN y := by
  have h1 : uN ((x <<< ((1 : Int32).toInt64 &&& 63)) ||| y) = uN (x <<< ((1 : Int32).toInt64 &&& 63)) ||| uN y := UInt64.toNat_or _ _
  have h2 : (2 * uN x) % 18446744073709551616 = 2 ^ 1 * (uN x % 9223372036854775808) := by omega
  rw [h1, uN_shl, h2]
  exact (Nat.two_pow_add_eq_or_of_lt (i := 1) hy _).symm
theorem nat_xor {a : Nat} (h : a < 18446744073709551616) : a ^^^ 2 ^ 63 = (a + 9223372036854775808) % 18446744073709551616 := by
  have h1 : (a ^^^ 2 ^ 63) % 2 ^ 63 = a % 2 ^ 63 := by rw [Nat.xor_mod_two_pow, Nat.mod_self, Nat.xor_zero]
  have h2 : (a ^^^ 2 ^ 63) / 2 ^ 63 = (a / 2 ^ 63) ^^^ 1 := by rw [Nat.xor_div_two_pow, Nat.div_self (Nat.two_pow_pos 63)]
  have h3 : a / 2 ^ 63 = 0 ∨ a / 2 ^ 63 = 1 := by omega
  generalize a ^^^ 2 ^ 63 = t at h1 h2
  rcases h3 with h3 | h3
  · rw [h3] at h2
    have h2 : t / 2 ^ 63 = 1 := h2
    omega
  · rw [h3] at h2
    have h2 : t / 2 ^ 63 = 0 := h2
    omega
theorem uN_xor (x : Int64) : uN (x ^^^ (-9223372036854775808)) = (uN x + 9223372036854775808) % 18446744073709551616 := by
  rw [← nat_xor (uN_lt x)]
  exact UInt64.toNat_xor _ _
theorem uN_int (x : Int64) : x.toInt = if 2 * uN x < 18446744073709551616 then (uN x : Int) else (uN x : Int) - 18446744073709551616 := BitVec.toInt_eq_toNat_cond _
theorem uN_le (x y : Int64) : (x ^^^ (-9223372036854775808)) ≤ (y ^^^ (-9223372036854775808)) ↔ uN x ≤ uN y := by
  have hx := uN_lt x
  have hy := uN_lt y
  rw [Int64.le_iff_toInt_le, uN_int, uN_int, uN_xor, uN_xor]
  omega
theorem uN_sk (x : Int64) {k : Nat} (hk : k < 64) : uN (x.toUInt64 >>> ((nI k).toInt64.toUInt64 &&& Int64.toUInt64 63)).toInt64 = uN x / 2 ^ k := by
  have h : ((nI k).toInt64.toUInt64 &&& Int64.toUInt64 63).toNat % 64 = k := by
    rw [nI_l (by omega), UInt64.toNat_and]
    have e : (lN k).toUInt64.toNat = k % 2 ^ 64 := rfl
    have e2 : (Int64.toUInt64 63).toNat = 2 ^ 6 - 1 := by decide
    rw [e, e2, Nat.and_two_pow_sub_one_eq_mod]
    omega
  rw [uN_shr, h]
/-! ===== unsigned comparison by xor with the least ===== -/
theorem lN_bv (n : Nat) : (lN n).toBitVec = BitVec.ofNat 64 n := rfl
theorem lN_nat {n : Nat} (h : n < 2 ^ 64) : (lN n).toBitVec.toNat = n := by rw [lN_bv, BitVec.toNat_ofNat]; exact Nat.mod_eq_of_lt h
theorem lN_xor (a b : Nat) : lN a ^^^ lN b = lN (a ^^^ b) := by
  apply Int64.toBitVec_inj.mp; rw [Int64.toBitVec_xor, lN_bv, lN_bv, lN_bv]; apply BitVec.eq_of_getLsbD_eq; intro i hi; simp [BitVec.getLsbD_ofNat, Nat.testBit_xor, hi]
theorem lN_ti {m : Nat} (h : m < 2 ^ 64) : (lN m).toInt = if m < 2 ^ 63 then (m : Int) else (m : Int) - 2 ^ 64 := by
  have c := BitVec.toInt_eq_toNat_cond (lN m).toBitVec
  rw [lN_nat h] at c
  show (lN m).toBitVec.toInt = _
  rw [c]
  split <;> split <;> omega
theorem xor63 {x : Nat} (h : x < 2 ^ 63) : x ^^^ 2 ^ 63 = 2 ^ 63 + x := by
  apply Nat.eq_of_testBit_eq
  intro i
  rw [Nat.testBit_xor, Nat.testBit_two_pow]
  rcases Nat.lt_trichotomy i 63 with z | z | z
  · rw [Nat.testBit_two_pow_add_gt z, decide_eq_false (by omega)]; simp
  · subst z; rw [Nat.testBit_two_pow_add_eq]; simp
  · have hp : 2 ^ 64 ≤ 2 ^ i := Nat.pow_le_pow_right (by decide) z
    rw [Nat.testBit_lt_two_pow (show x < 2 ^ i by omega), Nat.testBit_lt_two_pow (show 2 ^ 63 + x < 2 ^ i by omega), decide_eq_false (by omega)]; rfl
theorem xorS {a : Nat} (h : a < 2 ^ 64) : (lN a ^^^ (-9223372036854775808)).toInt = (a : Int) - 2 ^ 63 := by
  rw [show (-9223372036854775808 : Int64) = lN (2 ^ 63) from by decide +kernel, lN_xor]
  rcases Nat.lt_or_ge a (2 ^ 63) with z | z
  · rw [xor63 z, lN_ti (by omega), if_neg (by omega)]; omega
  · obtain ⟨x, rfl⟩ : ∃ x, a = 2 ^ 63 + x := ⟨a - 2 ^ 63, by omega⟩
    rw [← xor63 (by omega), Nat.xor_assoc, Nat.xor_self, Nat.xor_zero, lN_ti (by omega), if_pos (by omega), xor63 (by omega)]; omega
theorem ultL {a b : Nat} (ha : a < 2 ^ 64) (hb : b < 2 ^ 64) : ((lN b ^^^ (-9223372036854775808)) ≤ (lN a ^^^ (-9223372036854775808))) ↔ b ≤ a := by
  rw [Int64.le_iff_toInt_le, xorS ha, xorS hb]; omega
/-! ===== Int64 masks of n low bits ===== -/
theorem cr_bits (W U M : BitVec 64) : ((W &&& U) &&& (U &&& (M ^^^ BitVec.allOnes 64))) = 0#64 ↔ (W &&& U) &&& M = W &&& U := by
  constructor
  · intro h
    apply BitVec.eq_of_getLsbD_eq
    intro i hi
    have e := congrArg (fun x => BitVec.getLsbD x i) h
    simp only [BitVec.getLsbD_and, BitVec.getLsbD_xor, BitVec.getLsbD_allOnes, BitVec.getLsbD_zero, hi, decide_true] at e ⊢
    revert e
    cases W.getLsbD i <;> cases U.getLsbD i <;> cases M.getLsbD i <;> decide
  · intro h
    apply BitVec.eq_of_getLsbD_eq
    intro i hi
    have e := congrArg (fun x => BitVec.getLsbD x i) h
    simp only [BitVec.getLsbD_and, BitVec.getLsbD_xor, BitVec.getLsbD_allOnes, BitVec.getLsbD_zero, hi, decide_true] at e ⊢
    revert e
    cases W.getLsbD i <;> cases U.getLsbD i <;> cases M.getLsbD i <;> decide
theorem cr_mask (w U m : Int64) (n : Nat) (hm : m.toBitVec.toNat = 2 ^ n - 1) : ((w &&& U) &&& (U &&& (m ^^^ (-1)))) = 0 ↔ (w &&& U).toBitVec.toNat < 2 ^ n := by
  have e0 : (-1 : Int64).toBitVec = BitVec.allOnes 64 := by decide
  have z0 : (0 : Int64).toBitVec = 0#64 := by decide
  rw [← Int64.toBitVec_inj, z0, Int64.toBitVec_and, Int64.toBitVec_and, Int64.toBitVec_and, Int64.toBitVec_xor, e0, cr_bits]
  generalize w.toBitVec &&& U.toBitVec = T
  rw [← BitVec.toNat_inj, BitVec.toNat_and, hm, Nat.and_two_pow_sub_one_eq_mod]
  constructor
  · intro h
    have t := Nat.mod_lt T.toNat (Nat.two_pow_pos n)
    rw [h] at t
    exact t
  · exact Nat.mod_eq_of_lt
theorem cr_shr (t : Int64) (x : UInt64) (n : Nat) (hx : x.toNat % 64 = n) : (t.toUInt64 >>> x).toInt64 = 0 ↔ t.toBitVec.toNat < 2 ^ n := by
  rw [← Int64.toBitVec_inj, ← BitVec.toNat_inj]
  show (t.toUInt64 >>> x).toNat = 0 ↔ t.toUInt64.toNat < 2 ^ n
  rw [UInt64.toNat_shiftRight, hx, Nat.shiftRight_eq_div_pow]
  constructor
  · intro h
    have d : t.toUInt64.toNat / 2 ^ n < 1 := by
      rw [h]
      decide
    have e := (Nat.div_lt_iff_lt_mul (Nat.two_pow_pos n)).mp d
    rw [Nat.one_mul] at e
    exact e
  · exact Nat.div_eq_of_lt
theorem cr_amt (s : Int64) : ∃ n, n < 64 ∧ s &&& 63 = lN n ∧ (s.toUInt64 &&& Int64.toUInt64 63).toNat % 64 = n := by
  have e : (s.toUInt64 &&& Int64.toUInt64 63).toNat = s.toUInt64.toNat % 2 ^ 6 := by
    rw [UInt64.toNat_and, show (Int64.toUInt64 63).toNat = 2 ^ 6 - 1 from by decide, Nat.and_two_pow_sub_one_eq_mod]
  refine ⟨s.toUInt64.toNat % 2 ^ 6, by omega, ?_, by omega⟩
  rw [← Int64.toBitVec_inj, ← BitVec.toNat_inj]
  show (s.toUInt64 &&& Int64.toUInt64 63).toNat = (BitVec.ofNat 64 (s.toUInt64.toNat % 2 ^ 6)).toNat
  rw [e, BitVec.toNat_ofNat]
  omega
end
section
/-! bits of longs, counts, sets of states -/
def od_b (x : Int64) (i : Nat) : Bool := x.toBitVec.getLsbD i
theorem od_bx {x y : Int64} (h : ∀ i, i < 64 → od_b x i = od_b y i) : x = y := Int64.toBitVec_inj.mp (BitVec.eq_of_getLsbD_eq (fun i hi => h i hi))
theorem od_bxT {x y : Int64} (h : ∀ i, i < 64 → (od_b x i = true ↔ od_b y i = true)) : x = y := by
  apply od_bx
  intro i hi
  have := h i hi
  cases hx : od_b x i <;> cases hy : od_b y i <;> simp_all
theorem od_band (x y : Int64) (i : Nat) : od_b (x &&& y) i = (od_b x i && od_b y i) := by unfold od_b; rw [Int64.toBitVec_and, BitVec.getLsbD_and]
theorem od_bor (x y : Int64) (i : Nat) : od_b (x ||| y) i = (od_b x i || od_b y i) := by unfold od_b; rw [Int64.toBitVec_or, BitVec.getLsbD_or]
theorem od_m1v : (-1 : Int64).toBitVec = BitVec.allOnes 64 := by decide
theorem od_bnot (x : Int64) {i : Nat} (hi : i < 64) : od_b (x ^^^ (-1)) i = !od_b x i := by
  unfold od_b
  rw [Int64.toBitVec_xor, od_m1v, BitVec.getLsbD_xor, BitVec.getLsbD_allOnes]
  simp [hi]
theorem od_b0 (i : Nat) : od_b 0 i = false := BitVec.getLsbD_zero
theorem od_bm1 {i : Nat} (hi : i < 64) : od_b (-1) i = true := by
  unfold od_b
  rw [od_m1v, BitVec.getLsbD_allOnes]
  simp [hi]
def od_1 (k : Nat) : Int64 := (1 : Int64) <<< ((nI k).toInt64 &&& 63)
theorem od_1t : ∀ k, k < 64 → (od_1 k).toBitVec = BitVec.twoPow 64 k := by decide +kernel
theorem od_b1 {k i : Nat} (hk : k < 64) : od_b (od_1 k) i = decide (i = k) := by
  unfold od_b
  rw [od_1t k hk, BitVec.getLsbD_twoPow]
  simp [hk, eq_comm]
theorem od_cu {k : Nat} (hk : k < 64) : ((nI k).toInt64.toUInt64 &&& Int64.toUInt64 63).toNat = k := by
  rw [wb_cu k hk, u_tn (by omega)]
theorem od_t0 {x : Int64} {k : Nat} (hk : k < 64) : (((x.toUInt64 >>> ((nI k).toInt64.toUInt64 &&& Int64.toUInt64 63)).toInt64) &&& 1) = 0 ↔ od_b x k = false := ts_bit hk (od_cu hk)
theorem od_tv (x : Int64) {k : Nat} (hk : k < 64) : (((x.toUInt64 >>> ((nI k).toInt64.toUInt64 &&& Int64.toUInt64 63)).toInt64) &&& 1) = if od_b x k = true then 1 else 0 := by
  obtain ⟨n, hn, rfl⟩ := wb_of x
  have h := od_t0 (x := lN n) hk
  rw [wb_bit hn hk] at h ⊢
  have h2 : n / 2 ^ k % 2 = 0 ∨ n / 2 ^ k % 2 = 1 := by
    generalize n / 2 ^ k = z
    omega
  rcases h2 with e | e
  · rw [e] at h ⊢
    have := h.mp rfl
    rw [this]
    rfl
  · rw [e] at h ⊢
    cases hb : od_b (lN n) k
    · exact absurd (h.mpr hb) (by decide)
    · rfl
theorem od_t1 {x : Int64} {k : Nat} (hk : k < 64) : (((x.toUInt64 >>> ((nI k).toInt64.toUInt64 &&& Int64.toUInt64 63)).toInt64) &&& 1) = 1 ↔ od_b x k = true := by
  rw [od_tv x hk]
  cases od_b x k
  · exact ⟨fun h => absurd h (by decide), fun h => absurd h (by decide)⟩
  · exact ⟨fun _ => rfl, fun _ => rfl⟩
theorem od_sh0 {s : Nat} (hs : s < 64) : (0 : Int64) <<< ((nI s).toInt64 &&& 63) = 0 := by
  have := wb_shl 0 hs
  rw [Nat.zero_mul] at this
  exact this
theorem od_bput (g acc : Int64) {t s i : Nat} (ht : t < 64) (hs : s < 64) : od_b (acc ||| ((((g.toUInt64 >>> ((nI t).toInt64.toUInt64 &&& Int64.toUInt64 63)).toInt64) &&& 1) <<< ((nI s).toInt64 &&& 63))) i = (od_b acc i || (decide (i = s) && od_b g t)) := by
  rw [od_bor, od_tv g ht]
  cases od_b g t
  · rw [if_neg (by decide), od_sh0 hs, od_b0]
    simp
  · rw [if_pos rfl]
    show (od_b acc i || od_b (od_1 s) i) = _
    rw [od_b1 hs]
    simp
theorem od_btN (x : Int64) (i : Nat) : od_b x i = x.toBitVec.toNat.testBit i := (BitVec.testBit_toNat x.toBitVec).symm
theorem od_clr {x : Int64} {m : Nat} (hm : m < 64) (h1 : od_b x m = true) (h0 : ∀ i, i < m → od_b x i = false) (i : Nat) : od_b (x &&& (x - 1)) i = (od_b x i && !decide (i = m)) := by
  have hn := x.toBitVec.isLt
  have hmod : x.toBitVec.toNat % 2 ^ (m + 1) = 2 ^ m := by
    apply Nat.eq_of_testBit_eq
    intro j
    rw [Nat.testBit_mod_two_pow, Nat.testBit_two_pow, ← od_btN]
    rcases Nat.lt_trichotomy j m with h | h | h
    · rw [h0 j h, decide_eq_false (show ¬ m = j by omega)]; simp
    · subst h; rw [h1]; simp
    · rw [decide_eq_false (show ¬ j < m + 1 by omega), decide_eq_false (show ¬ m = j by omega)]; simp
  have hp : 0 < 2 ^ m := Nat.two_pow_pos m
  have hd := Nat.div_add_mod x.toBitVec.toNat (2 ^ (m + 1))
  rw [hmod] at hd
  have hs : (x - 1).toBitVec.toNat = 2 ^ (m + 1) * (x.toBitVec.toNat / 2 ^ (m + 1)) + (2 ^ m - 1) := by
    have e : (x - 1).toBitVec.toNat = (2 ^ 64 - 1 + x.toBitVec.toNat) % 2 ^ 64 := by
      rw [Int64.toBitVec_sub, BitVec.toNat_sub]
      rfl
    rw [e]
    generalize 2 ^ (m + 1) * (x.toBitVec.toNat / 2 ^ (m + 1)) = A at hd ⊢
    generalize 2 ^ m = B at hd hp ⊢
    omega
  have hlt : 2 ^ m < 2 ^ (m + 1) := wb_lt2 (Nat.lt_succ_self m)
  have ea : od_b x i = if i < m + 1 then (2 ^ m).testBit i else (x.toBitVec.toNat / 2 ^ (m + 1)).testBit (i - (m + 1)) := by
    rw [od_btN, ← Nat.testBit_two_pow_mul_add _ hlt, hd]
  have eb : od_b (x - 1) i = if i < m + 1 then (2 ^ m - 1).testBit i else (x.toBitVec.toNat / 2 ^ (m + 1)).testBit (i - (m + 1)) := by
    rw [od_btN, ← Nat.testBit_two_pow_mul_add _ (show 2 ^ m - 1 < 2 ^ (m + 1) by omega), hs]
  rw [od_band, ea, eb]
  by_cases c : i < m + 1
  · rw [if_pos c, if_pos c, Nat.testBit_two_pow, Nat.testBit_two_pow_sub_one]
    rcases Nat.lt_or_ge i m with h | h
    · rw [decide_eq_false (show ¬ m = i by omega)]; simp
    · rw [decide_eq_false (show ¬ i < m by omega), decide_eq_true (show i = m by omega)]; simp
  · rw [if_neg c, if_neg c, decide_eq_false (show ¬ i = m by omega)]
    cases (x.toBitVec.toNat / 2 ^ (m + 1)).testBit (i - (m + 1)) <;> rfl
theorem od_low {x : Int64} (h : x ≠ 0) : ∃ m, m < 64 ∧ od_b x m = true ∧ ∀ i, i < m → od_b x i = false := by
  have e : ∃ k, k < 64 ∧ od_b x k = true := by
    apply Classical.byContradiction
    intro n
    apply h
    apply od_bx
    intro i hi
    rw [od_b0]
    cases c : od_b x i
    · rfl
    · exact absurd ⟨i, hi, c⟩ n
  obtain ⟨k, ⟨h1, h2⟩, h3⟩ := pk_least (fun k => k < 64 ∧ od_b x k = true) e
  refine ⟨k, h1, h2, fun i hi => ?_⟩
  cases c : od_b x i
  · rfl
  · exact absurd ⟨by omega, c⟩ (h3 i hi)
theorem od_ne0 {x : Int64} {i : Nat} (h : od_b x i = true) : x ≠ 0 := by
  intro e
  rw [e, od_b0] at h
  exact absurd h (by decide)
theorem od_is0 {x : Int64} (h : ∀ i, i < 64 → od_b x i = false) : x = 0 := od_bx (fun i hi => by rw [od_b0]; exact h i hi)
/-! counts -/
def od_cn (f : Nat → Bool) : Nat → Nat
  | 0 => 0
  | n + 1 => od_cn f n + (if f n = true then 1 else 0)
theorem od_cn_congr {f g : Nat → Bool} : ∀ {n : Nat}, (∀ i, i < n → f i = g i) → od_cn f n = od_cn g n
  | 0, _ => rfl
  | n + 1, h => by
    show od_cn f n + _ = od_cn g n + _
    rw [od_cn_congr (fun i hi => h i (by omega)), h n (by omega)]
theorem od_cn_le (f : Nat → Bool) : ∀ n : Nat, od_cn f n ≤ n
  | 0 => Nat.le_refl 0
  | n + 1 => by
    have := od_cn_le f n
    show od_cn f n + _ ≤ n + 1
    split <;> omega
theorem od_cn_mono {f g : Nat → Bool} : ∀ {n : Nat}, (∀ i, i < n → f i = true → g i = true) → od_cn f n ≤ od_cn g n
  | 0, _ => Nat.le_refl 0
  | n + 1, h => by
    have := od_cn_mono (f := f) (g := g) (n := n) (fun i hi => h i (by omega))
    show od_cn f n + _ ≤ od_cn g n + _
    by_cases c : f n = true
    · rw [if_pos c, if_pos (h n (by omega) c)]; omega
    · rw [if_neg c]; omega
theorem od_cn_lt {f g : Nat → Bool} : ∀ {n : Nat}, (∀ i, i < n → f i = true → g i = true) → (∃ j, j < n ∧ g j = true ∧ f j = false) → od_cn f n < od_cn g n
  | 0, _, ⟨j, hj, _⟩ => absurd hj (Nat.not_lt_zero j)
  | n + 1, h, ⟨j, hj, h1, h2⟩ => by
    show od_cn f n + _ < od_cn g n + _
    by_cases c : j = n
    · subst c
      have := od_cn_mono (f := f) (g := g) (n := j) (fun i hi => h i (by omega))
      rw [if_pos h1, if_neg (by rw [h2]; decide)]; omega
    · have := od_cn_lt (f := f) (g := g) (n := n) (fun i hi => h i (by omega)) ⟨j, by omega, h1, h2⟩
      by_cases c : f n = true
      · rw [if_pos c, if_pos (h n (by omega) c)]; omega
      · rw [if_neg c]; omega
theorem od_cn_clr {f g : Nat → Bool} {m : Nat} (hf : f m = true) : ∀ {n : Nat}, (∀ i, i < n → g i = (f i && !decide (i = m))) → od_cn g n + (if m < n then 1 else 0) = od_cn f n
  | 0, _ => by simp [od_cn]
  | n + 1, h => by
    have e := od_cn_clr hf (n := n) (fun i hi => h i (by omega))
    have e2 := h n (by omega)
    show od_cn g n + (if g n = true then 1 else 0) + _ = od_cn f n + _
    rw [e2]
    rcases Nat.lt_trichotomy m n with c | c | c
    · rw [if_pos c] at e
      rw [if_pos (show m < n + 1 by omega), decide_eq_false (show ¬ n = m by omega)]
      simp only [Bool.not_false, Bool.and_true]
      omega
    · subst c
      rw [if_neg (by omega)] at e
      rw [if_pos (show m < m + 1 by omega), hf]
      simp
      omega
    · rw [if_neg (by omega)] at e
      rw [if_neg (show ¬ m < n + 1 by omega), decide_eq_false (show ¬ n = m by omega)]
      simp only [Bool.not_false, Bool.and_true]
      omega
theorem od_cn_z {f : Nat → Bool} : ∀ {n : Nat}, od_cn f n = 0 → ∀ i, i < n → f i = false
  | 0, _, i, hi => absurd hi (Nat.not_lt_zero i)
  | n + 1, h, i, hi => by
    have h' : od_cn f n + (if f n = true then 1 else 0) = 0 := h
    by_cases c : f n = true
    · rw [if_pos c] at h'; omega
    · rw [if_neg c] at h'
      by_cases e : i = n
      · subst e
        cases z : f i
        · rfl
        · exact absurd z c
      · exact od_cn_z (n := n) (by omega) i (by omega)
theorem od_cn_0 {f : Nat → Bool} {n : Nat} (h : ∀ i, i < n → f i = false) : od_cn f n = 0 := by
  have e : od_cn f n = od_cn (fun _ => false) n := od_cn_congr h
  rw [e]
  clear e h
  induction n with
  | zero => rfl
  | succ n ih => show od_cn _ n + 0 = 0; omega
/-! a long by its bits -/
def od_mkN (f : Nat → Bool) : Nat → Int64
  | 0 => 0
  | n + 1 => od_mkN f n ||| (if f n = true then od_1 n else 0)
theorem od_mkNb (f : Nat → Bool) : ∀ n, n ≤ 64 → ∀ i, od_b (od_mkN f n) i = (decide (i < n) && f i)
  | 0, _, i => by show od_b 0 i = _; rw [od_b0]; simp
  | n + 1, h, i => by
    show od_b (od_mkN f n ||| _) i = _
    rw [od_bor, od_mkNb f n (by omega) i]
    by_cases c : f n = true
    · rw [if_pos c, od_b1 (by omega)]
      by_cases e : i = n
      · subst e; simp [c]
      · have : decide (i < n + 1) = decide (i < n) := by
          by_cases z : i < n
          · rw [decide_eq_true z, decide_eq_true (by omega)]
          · rw [decide_eq_false z, decide_eq_false (by omega)]
        rw [this]; simp [e]
    · rw [if_neg c, od_b0]
      by_cases e : i = n
      · subst e
        have : f i = false := by cases z : f i; rfl; exact absurd z c
        rw [this]; simp
      · have : decide (i < n + 1) = decide (i < n) := by
          by_cases z : i < n
          · rw [decide_eq_true z, decide_eq_true (by omega)]
          · rw [decide_eq_false z, decide_eq_false (by omega)]
        rw [this]; simp
def od_mk (f : Nat → Bool) : Int64 := od_mkN f 64
theorem od_mkb (f : Nat → Bool) {i : Nat} (hi : i < 64) : od_b (od_mk f) i = f i := by
  unfold od_mk
  rw [od_mkNb f 64 (Nat.le_refl _), decide_eq_true hi, Bool.true_and]
noncomputable def od_d (P : Prop) : Bool := @decide P (Classical.propDecidable P)
theorem od_dT {P : Prop} : od_d P = true ↔ P := @decide_eq_true_iff P (Classical.propDecidable P)
theorem od_dF {P : Prop} : od_d P = false ↔ ¬ P := @decide_eq_false_iff_not P (Classical.propDecidable P)
theorem od_bT {b : Bool} (h : ¬ b = true) : b = false := by cases b; rfl; exact absurd rfl h
/-! inclusion -/
def od_sub (a b : Int64) : Prop := ∀ s, s < 64 → od_b a s = true → od_b b s = true
theorem od_sub_r (a : Int64) : od_sub a a := fun _ _ h => h
theorem od_sub_t {a b c : Int64} (h : od_sub a b) (g : od_sub b c) : od_sub a c := fun s hs x => g s hs (h s hs x)
theorem od_sub_a {a b : Int64} (h : od_sub a b) (g : od_sub b a) : a = b := od_bxT (fun i hi => ⟨h i hi, g i hi⟩)
def od_le (m : Nat) (a b : Int64) : Prop := if m < 2 then od_sub a b else od_sub b a
theorem od_le_r (m : Nat) (a : Int64) : od_le m a a := by unfold od_le; split <;> exact od_sub_r a
theorem od_le_t {m : Nat} {a b c : Int64} (h : od_le m a b) (g : od_le m b c) : od_le m a c := by
  unfold od_le at *
  split at h
  · rename_i z; rw [if_pos z] at g ⊢; exact od_sub_t h g
  · rename_i z; rw [if_neg z] at g ⊢; exact od_sub_t g h
theorem od_le_a {m : Nat} {a b : Int64} (h : od_le m a b) (g : od_le m b a) : a = b := by
  unfold od_le at *
  split at h
  · rename_i z; rw [if_pos z] at g; exact od_sub_a h g
  · rename_i z; rw [if_neg z] at g; exact od_sub_a g h
def od_bot (m : Nat) : Int64 := if m < 2 then 0 else -1
theorem od_bot_le (m : Nat) (a : Int64) : od_le m (od_bot m) a := by
  unfold od_le od_bot
  split
  · intro s _ h
    rw [od_b0] at h
    exact absurd h (by decide)
  · intro s hs _
    exact od_bm1 hs
/-- how far a set still is from the end of its way -/
def od_mu (m : Nat) (a : Int64) : Nat := if m < 2 then 64 - od_cn (od_b a) 64 else od_cn (od_b a) 64
theorem od_sub_cn {a b : Int64} (h : od_sub a b) (n : a ≠ b) : od_cn (od_b a) 64 < od_cn (od_b b) 64 := by
  apply od_cn_lt h
  apply Classical.byContradiction
  intro z
  apply n
  apply od_sub_a h
  intro s hs c
  cases e : od_b a s
  · exact absurd ⟨s, hs, c, e⟩ z
  · rfl
theorem od_mu_lt {m : Nat} {a b : Int64} (h : od_le m a b) (n : a ≠ b) : od_mu m b < od_mu m a := by
  unfold od_le at h
  unfold od_mu
  split at h
  · rename_i z
    rw [if_pos z, if_pos z]
    have := od_sub_cn h n
    have := od_cn_le (od_b b) 64
    omega
  · rename_i z
    rw [if_neg z, if_neg z]
    exact od_sub_cn h (fun e => n e.symm)
end
section
/-! the meaning of a program, read off the reference's tables -/
def od_mp (e : Int64) (f l : Int32) (m : Nat) (g : Int64) : Prop := (∃ t, t < 64 ∧ od_b e t = true ∧ od_b g t = true) ∨ (m % 2 = 1 ∧ f ≠ 0) ∨ (2 ≤ m ∧ l ≠ 0)
noncomputable def od_M (en : Nat → Int64) (fa nl : Nat → Int32) (p m : Nat) (g : Int64) : Int64 := od_mk (fun s => od_d (od_mp (en (64 * p + s)) (fa (64 * p + s)) (nl (64 * p + s)) m g))
theorem od_Mb {en : Nat → Int64} {fa nl : Nat → Int32} {p m : Nat} {g : Int64} {s : Nat} (hs : s < 64) : od_b (od_M en fa nl p m g) s = true ↔ od_mp (en (64 * p + s)) (fa (64 * p + s)) (nl (64 * p + s)) m g := by
  unfold od_M
  rw [od_mkb _ hs]
  exact od_dT
theorem od_mp_mono {e : Int64} {f l : Int32} {m : Nat} {g g' : Int64} (h : od_sub g g') (x : od_mp e f l m g) : od_mp e f l m g' := by
  rcases x with ⟨t, ht, h1, h2⟩ | x | x
  · exact Or.inl ⟨t, ht, h1, h t ht h2⟩
  · exact Or.inr (Or.inl x)
  · exact Or.inr (Or.inr x)
theorem od_M_sub (en : Nat → Int64) (fa nl : Nat → Int32) (p m : Nat) {g g' : Int64} (h : od_sub g g') : od_sub (od_M en fa nl p m g) (od_M en fa nl p m g') := by
  intro s hs x
  rw [od_Mb hs] at x ⊢
  exact od_mp_mono h x
theorem od_M_mono (en : Nat → Int64) (fa nl : Nat → Int32) (p m k : Nat) {g g' : Int64} (h : od_le k g g') : od_le k (od_M en fa nl p m g) (od_M en fa nl p m g') := by
  unfold od_le at *
  split at h
  · rename_i z; rw [if_pos z]; exact od_M_sub en fa nl p m h
  · rename_i z; rw [if_neg z]; exact od_M_sub en fa nl p m h
theorem od_M_congr {en en' : Nat → Int64} {fa nl fa' nl' : Nat → Int32} {p : Nat} (h : ∀ s, s < 64 → en' (64 * p + s) = en (64 * p + s) ∧ fa' (64 * p + s) = fa (64 * p + s) ∧ nl' (64 * p + s) = nl (64 * p + s)) : od_M en' fa' nl' p = od_M en fa nl p := by
  funext m g
  apply od_bxT
  intro s hs
  obtain ⟨h1, h2, h3⟩ := h s hs
  rw [od_Mb hs, od_Mb hs, h1, h2, h3]
/-! single steps -/
def od_tf (s x v : Int32) : Int32 := (s &&& (((3 : Int32) <<< ((2 * x) &&& 31)) ^^^ (-1))) ||| (v <<< ((2 * x) &&& 31))
def od_to (s x v : Nat) : Nat := (od_tf (nI s) (nI x) (nI v)).toNatClampNeg
theorem od_to_ok : ∀ x, x < 3 → ∀ v, v < 4 → ∀ s, s < 64 → od_to s x v < 64 ∧ od_tf (nI s) (nI x) (nI v) = nI (od_to s x v) := by decide +kernel
def od_vi (s y : Nat) : Int32 := if y = 3 then 0 else (nI s >>> ((2 * nI y) &&& 31)) &&& 3
def od_v (s y z : Nat) : Nat := ((od_vi s y + nI z) &&& 3).toNatClampNeg
theorem od_v_ok : ∀ y, y < 4 → ∀ z, z < 4 → ∀ s, s < 64 → od_v s y z < 4 ∧ (od_vi s y + nI z) &&& 3 = nI (od_v s y z) := by decide +kernel
def od_lf (wh : Nat → Int64) (K x y z m : Nat) (g : Int64) : Int64 :=
  if K = 1 then (if m % 2 = 1 then -1 else 0)
  else if K = 2 then od_mk (fun s => od_b g (od_to s x (od_v s y z)))
  else if K = 3 then od_mk (fun s => (od_b g (od_to s x 0) || od_b g (od_to s x 1)) || (od_b g (od_to s x 2) || od_b g (od_to s x 3)))
  else if K = 4 then g &&& wh x
  else if K = 5 then (g &&& wh x) ||| (if m % 2 = 1 then wh x ^^^ (-1) else 0)
  else g
/-- one round of a loop -/
def od_ph (c r g : Int64) : Int64 := (c &&& r) ||| ((c ^^^ (-1)) &&& g)
theorem od_phb (c r g : Int64) {s : Nat} (hs : s < 64) : od_b (od_ph c r g) s = if od_b c s = true then od_b r s else od_b g s := by
  unfold od_ph
  rw [od_bor, od_band, od_band, od_bnot c hs]
  cases od_b c s <;> simp
theorem od_ph_sub {c r g r' g' : Int64} (h : od_sub r r') (h' : od_sub g g') : od_sub (od_ph c r g) (od_ph c r' g') := by
  intro s hs x
  rw [od_phb _ _ _ hs] at x ⊢
  cases z : od_b c s
  · rw [z, if_neg (by decide)] at x
    rw [if_neg (by decide)]
    exact h' s hs x
  · rw [z, if_pos rfl] at x
    rw [if_pos rfl]
    exact h s hs x
theorem od_ph_le {k : Nat} {c r g r' g' : Int64} (h : od_le k r r') (h' : od_le k g g') : od_le k (od_ph c r g) (od_ph c r' g') := by
  unfold od_le at *
  split at h
  · rename_i z; rw [if_pos z] at h' ⊢; exact od_ph_sub h h'
  · rename_i z; rw [if_neg z] at h' ⊢; exact od_ph_sub h h'
/-- the law of one program: its kind K, its operands (x y z, as stored ax ay az), its weight -/
def od_L (nc : Nat) (wh : Nat → Int64) (W : Nat → Nat) (M : Nat → Nat → Int64 → Int64) (p K x y z : Nat) (ax ay az : Int32) : Prop :=
  (K < 6 → W p = 1 ∧ (K = 2 → ax = nI x ∧ ay = nI y ∧ az = nI z ∧ x < 3 ∧ y < 4 ∧ z < 4) ∧ (K = 3 → ax = nI x ∧ x < 3) ∧ (K = 4 ∨ K = 5 → ax = nI x ∧ x < nc) ∧ ∀ m g, m < 4 → M p m g = od_lf wh K x y z m g)
  ∧ (K = 6 → ax = nI x ∧ ay = nI y ∧ x < p ∧ y < p ∧ W p = 1 + W x + W y ∧ ∀ m g, m < 4 → M p m g = M x m (M y m g))
  ∧ (K = 7 → ax = nI x ∧ ay = nI y ∧ az = nI z ∧ x < nc ∧ y < p ∧ z < p ∧ W p = 1 + W y + W z ∧ ∀ m g, m < 4 → M p m g = od_ph (wh x) (M y m g) (M z m g))
  ∧ (K = 8 → ax = nI x ∧ ay = nI y ∧ x < p ∧ y < p ∧ W p = 1 + W x + W y ∧ ∀ m g, m < 4 → M p m g = M y m g ||| M x m g)
  ∧ (K = 9 → ax = nI x ∧ ay = nI y ∧ x < nc ∧ y < p ∧ W p = 1 + W y ∧ ∀ m g, m < 4 → (M p m g = od_ph (wh x) (M y m (M p m g)) g ∧ ∀ S, od_le m (od_ph (wh x) (M y m S) g) S → od_le m (M p m g) S))
theorem od_lf_congr {wh wh' : Nat → Int64} {K x : Nat} (y z m : Nat) (g : Int64) (h : K = 4 ∨ K = 5 → wh' x = wh x) : od_lf wh' K x y z m g = od_lf wh K x y z m g := by
  unfold od_lf
  by_cases h4 : K = 4
  · rw [h (Or.inl h4)]
  · by_cases h5 : K = 5
    · rw [h (Or.inr h5)]
    · rw [if_neg h4, if_neg h5, if_neg h4, if_neg h5]
theorem od_L_congr {nc nc' : Nat} {wh wh' : Nat → Int64} {W W' : Nat → Nat} {M M' : Nat → Nat → Int64 → Int64} {p K x y z : Nat} {ax ay az : Int32} (hn : nc ≤ nc') (hw : ∀ c, c < nc → wh' c = wh c) (hW : ∀ q, q ≤ p → W' q = W q) (hM : ∀ q, q ≤ p → M' q = M q) (h : od_L nc wh W M p K x y z ax ay az) : od_L nc' wh' W' M' p K x y z ax ay az := by
  obtain ⟨h0, h6, h7, h8, h9⟩ := h
  refine ⟨fun k => ?_, fun k => ?_, fun k => ?_, fun k => ?_, fun k => ?_⟩
  · obtain ⟨a, b, c, d, e⟩ := h0 k
    refine ⟨by rw [hW p (Nat.le_refl p)]; exact a, b, c, fun q => ⟨(d q).1, by have := (d q).2; omega⟩, fun m g hm => ?_⟩
    rw [hM p (Nat.le_refl p), e m g hm]
    exact (od_lf_congr y z m g (fun q => hw x (d q).2)).symm
  · obtain ⟨a, b, c, d, e, f⟩ := h6 k
    refine ⟨a, b, c, d, by rw [hW p (Nat.le_refl p), hW x (by omega), hW y (by omega)]; exact e, fun m g hm => ?_⟩
    rw [hM p (Nat.le_refl p), hM x (by omega), hM y (by omega), f m g hm]
  · obtain ⟨a, b, b', c, d, d', e, f⟩ := h7 k
    refine ⟨a, b, b', by omega, d, d', by rw [hW p (Nat.le_refl p), hW y (by omega), hW z (by omega)]; exact e, fun m g hm => ?_⟩
    rw [hM p (Nat.le_refl p), hM y (by omega), hM z (by omega), hw x c, f m g hm]
  · obtain ⟨a, b, c, d, e, f⟩ := h8 k
    refine ⟨a, b, c, d, by rw [hW p (Nat.le_refl p), hW x (by omega), hW y (by omega)]; exact e, fun m g hm => ?_⟩
    rw [hM p (Nat.le_refl p), hM x (by omega), hM y (by omega), f m g hm]
  · obtain ⟨a, b, c, d, e, f⟩ := h9 k
    refine ⟨a, b, by omega, d, by rw [hW p (Nat.le_refl p), hW y (by omega)]; exact e, fun m g hm => ?_⟩
    rw [hM p (Nat.le_refl p), hM y (by omega), hw x c]
    exact f m g hm
/-- an array's number -/
def od_n (a : Nat → Int32) (p : Nat) : Nat := (a p).toNatClampNeg
/-- a program as the component keeps it -/
def od_P (nc : Nat) (wh : Nat → Int64) (ko px py pz wo : Nat → Int32) (M : Nat → Nat → Int64 → Int64) (p : Nat) : Prop :=
  ko p = nI (od_n ko p) ∧ od_n ko p < 10 ∧ wo p = nI (od_n wo p) ∧ 1 ≤ od_n wo p ∧ od_n wo p ≤ 20 ∧ od_L nc wh (od_n wo) M p (od_n ko p) (od_n px p) (od_n py p) (od_n pz p) (px p) (py p) (pz p)
end
section
/-! loops that go on from where they were: what holds of isBegun and reached -/
section
variable {nc np m : Nat} {wh : Nat → Int64} {ko px py pz wo : Nat → Int32} {M : Nat → Nat → Int64 → Int64}
def od_wm (wh : Nat → Int64) (ko px py pz wo : Nat → Int32) (M : Nat → Nat → Int64 → Int64) (m : Nat) (ib : Nat → Int32) (re : Nat → Int64) : Nat → Nat → Nat → Int64 → Prop
  | 0, _, _, _ => True
  | f + 1, p, b, g =>
    (od_n ko p = 6 → od_wm wh ko px py pz wo M m ib re f (od_n py p) (b + 1 + od_n wo (od_n px p)) g ∧ od_wm wh ko px py pz wo M m ib re f (od_n px p) (b + 1) (M (od_n py p) m g))
    ∧ (od_n ko p = 7 → od_wm wh ko px py pz wo M m ib re f (od_n py p) (b + 1) g ∧ od_wm wh ko px py pz wo M m ib re f (od_n pz p) (b + 1 + od_n wo (od_n py p)) g)
    ∧ (od_n ko p = 8 → od_wm wh ko px py pz wo M m ib re f (od_n px p) (b + 1) g ∧ od_wm wh ko px py pz wo M m ib re f (od_n py p) (b + 1 + od_n wo (od_n px p)) g)
    ∧ (od_n ko p = 9 → od_le m (if ib b = 0 then od_bot m else re b) (M p m g) ∧ od_le m (if ib b = 0 then od_bot m else re b) (od_ph (wh (od_n px p)) (M (od_n py p) m (if ib b = 0 then od_bot m else re b)) g) ∧ od_wm wh ko px py pz wo M m ib re f (od_n py p) (b + 1) (if ib b = 0 then od_bot m else re b))
theorem od_wm_fr (hP : ∀ p, p < np → od_P nc wh ko px py pz wo M p) {ib ib' : Nat → Int32} {re re' : Nat → Int64} : ∀ f p b g, p < np → (∀ k, b ≤ k → k < b + od_n wo p → ib' k = ib k ∧ re' k = re k) → od_wm wh ko px py pz wo M m ib re f p b g → od_wm wh ko px py pz wo M m ib' re' f p b g := by
  intro f
  induction f with
  | zero => intro p b g _ _ _; trivial
  | succ f ih =>
    intro p b g hp hk h
    obtain ⟨_, _, _, hw1, _, h0, h6, h7, h8, h9⟩ := hP p hp
    obtain ⟨w6, w7, w8, w9⟩ := h
    refine ⟨fun k => ?_, fun k => ?_, fun k => ?_, fun k => ?_⟩
    · obtain ⟨_, _, hx, hy, hw, _⟩ := h6 k
      exact ⟨ih _ _ _ (by omega) (fun j h1 h2 => hk j (by omega) (by omega)) (w6 k).1, ih _ _ _ (by omega) (fun j h1 h2 => hk j (by omega) (by omega)) (w6 k).2⟩
    · obtain ⟨_, _, _, _, hx, hy, hw, _⟩ := h7 k
      exact ⟨ih _ _ _ (by omega) (fun j h1 h2 => hk j (by omega) (by omega)) (w7 k).1, ih _ _ _ (by omega) (fun j h1 h2 => hk j (by omega) (by omega)) (w7 k).2⟩
    · obtain ⟨_, _, hx, hy, hw, _⟩ := h8 k
      exact ⟨ih _ _ _ (by omega) (fun j h1 h2 => hk j (by omega) (by omega)) (w8 k).1, ih _ _ _ (by omega) (fun j h1 h2 => hk j (by omega) (by omega)) (w8 k).2⟩
    · obtain ⟨_, _, _, hy, hw, _⟩ := h9 k
      obtain ⟨e1, e2⟩ := hk b (Nat.le_refl b) (by omega)
      rw [e1, e2]
      exact ⟨(w9 k).1, (w9 k).2.1, ih _ _ _ (by omega) (fun j h1 h2 => hk j (by omega) (by omega)) (w9 k).2.2⟩
theorem od_wm_mono (hP : ∀ p, p < np → od_P nc wh ko px py pz wo M p) (hM : ∀ p g g', od_le m g g' → od_le m (M p m g) (M p m g')) {ib : Nat → Int32} {re : Nat → Int64} : ∀ f p b g g', p < np → od_le m g g' → od_wm wh ko px py pz wo M m ib re f p b g → od_wm wh ko px py pz wo M m ib re f p b g' := by
  intro f
  induction f with
  | zero => intro p b g g' _ _ _; trivial
  | succ f ih =>
    intro p b g g' hp hg h
    obtain ⟨_, _, _, hw1, _, h0, h6, h7, h8, h9⟩ := hP p hp
    obtain ⟨w6, w7, w8, w9⟩ := h
    refine ⟨fun k => ?_, fun k => ?_, fun k => ?_, fun k => ?_⟩
    · obtain ⟨_, _, hx, hy, hw, _⟩ := h6 k
      exact ⟨ih _ _ _ _ (by omega) hg (w6 k).1, ih _ _ _ _ (by omega) (hM _ _ _ hg) (w6 k).2⟩
    · obtain ⟨_, _, _, _, hx, hy, hw, _⟩ := h7 k
      exact ⟨ih _ _ _ _ (by omega) hg (w7 k).1, ih _ _ _ _ (by omega) hg (w7 k).2⟩
    · obtain ⟨_, _, hx, hy, hw, _⟩ := h8 k
      exact ⟨ih _ _ _ _ (by omega) hg (w8 k).1, ih _ _ _ _ (by omega) hg (w8 k).2⟩
    · exact ⟨od_le_t (w9 k).1 (hM _ _ _ hg), od_le_t (w9 k).2.1 (od_ph_le (od_le_r m _) hg), (w9 k).2.2⟩
theorem od_wm_0 (hP : ∀ p, p < np → od_P nc wh ko px py pz wo M p) {ib : Nat → Int32} {re : Nat → Int64} : ∀ f p b g, p < np → (∀ k, b ≤ k → k < b + od_n wo p → ib k = 0) → od_wm wh ko px py pz wo M m ib re f p b g := by
  intro f
  induction f with
  | zero => intro p b g _ _; trivial
  | succ f ih =>
    intro p b g hp hk
    obtain ⟨_, _, _, hw1, _, h0, h6, h7, h8, h9⟩ := hP p hp
    refine ⟨fun k => ?_, fun k => ?_, fun k => ?_, fun k => ?_⟩
    · obtain ⟨_, _, hx, hy, hw, _⟩ := h6 k
      exact ⟨ih _ _ _ (by omega) (fun j h1 h2 => hk j (by omega) (by omega)), ih _ _ _ (by omega) (fun j h1 h2 => hk j (by omega) (by omega))⟩
    · obtain ⟨_, _, _, _, hx, hy, hw, _⟩ := h7 k
      exact ⟨ih _ _ _ (by omega) (fun j h1 h2 => hk j (by omega) (by omega)), ih _ _ _ (by omega) (fun j h1 h2 => hk j (by omega) (by omega))⟩
    · obtain ⟨_, _, hx, hy, hw, _⟩ := h8 k
      exact ⟨ih _ _ _ (by omega) (fun j h1 h2 => hk j (by omega) (by omega)), ih _ _ _ (by omega) (fun j h1 h2 => hk j (by omega) (by omega))⟩
    · obtain ⟨_, _, _, hy, hw, _⟩ := h9 k
      rw [if_pos (hk b (Nat.le_refl b) (by omega))]
      exact ⟨od_bot_le m _, od_bot_le m _, ih _ _ _ (by omega) (fun j h1 h2 => hk j (by omega) (by omega))⟩
end
end
section
/-! the machine that works a program out, over its step rules alone -/
def od_fr (d : Nat) (na ph nu : Nat → Int32) (go ke : Nat → Int64) (na' ph' nu' : Nat → Int32) (go' ke' : Nat → Int64) : Prop := ∀ k, k < d → na' k = na k ∧ ph' k = ph k ∧ nu' k = nu k ∧ go' k = go k ∧ ke' k = ke k
def od_fo (b e : Nat) (ib : Nat → Int32) (re : Nat → Int64) (ib' : Nat → Int32) (re' : Nat → Int64) : Prop := ∀ k, (k < b ∨ e ≤ k) → ib' k = ib k ∧ re' k = re k
def od_fi (ko px py : Nat → Int32) (p : Nat) : Nat := if od_n ko p = 7 then od_n py p else od_n px p
def od_se (ko py pz : Nat → Int32) (p : Nat) : Nat := if od_n ko p = 7 then od_n pz p else od_n py p
abbrev od_GT : Type := Nat → Int64 → (Nat → Int32) → (Nat → Int32) → (Nat → Int32) → (Nat → Int64) → (Nat → Int64) → (Nat → Int32) → (Nat → Int64) → Prop
def od_EVs (np : Nat) (wh : Nat → Int64) (ko px py pz wo : Nat → Int32) (M : Nat → Nat → Int64 → Int64) (m : Nat) (G : od_GT) (f : Nat) : Prop :=
  ∀ p b d st na ph nu go ke ib re, p < f → p < np → d + od_n wo p ≤ 24 → b + od_n wo p ≤ 24 → na d = nI p → ph d = 0 → nu d = nI b → go d = st → od_wm wh ko px py pz wo M m ib re f p b st → (∀ na' ph' nu' go' ke' ib' re', od_fr d na ph nu go ke na' ph' nu' go' ke' → od_fo b (b + od_n wo p) ib re ib' re' → od_wm wh ko px py pz wo M m ib' re' f p b st → G d (M p m st) na' ph' nu' go' ke' ib' re') → G (d + 1) st na ph nu go ke ib re
def od_rl (np : Nat) (wh : Nat → Int64) (ko px py pz wo : Nat → Int32) (M : Nat → Nat → Int64 → Int64) (m : Nat) (G : od_GT) : Prop := ∀ p d st na ph nu go ke ib re, p < np → od_n ko p < 6 → d < 24 → na d = nI p → ph d = 0 → G d (M p m st) na (upd ph d 1) nu go ke ib re → G (d + 1) st na ph nu go ke ib re
def od_r60 (np : Nat) (wh : Nat → Int64) (ko px py pz wo : Nat → Int32) (M : Nat → Nat → Int64 → Int64) (m : Nat) (G : od_GT) : Prop := ∀ p b d st na ph nu go ke ib re, p < np → od_n ko p = 6 → d + 1 < 24 → b + 1 + od_n wo (od_n px p) < 24 → na d = nI p → ph d = 0 → nu d = nI b → G (d + 2) st (upd na (d + 1) (nI (od_n py p))) (upd (upd ph d 1) (d + 1) 0) (upd nu (d + 1) (nI (b + 1 + od_n wo (od_n px p)))) (vp_updL go (d + 1) st) ke ib re → G (d + 1) st na ph nu go ke ib re
def od_r61 (np : Nat) (wh : Nat → Int64) (ko px py pz wo : Nat → Int32) (M : Nat → Nat → Int64 → Int64) (m : Nat) (G : od_GT) : Prop := ∀ p b d st na ph nu go ke ib re, p < np → od_n ko p = 6 → d + 1 < 24 → b + 1 < 24 → na d = nI p → ph d = 1 → nu d = nI b → G (d + 2) st (upd na (d + 1) (nI (od_n px p))) (upd (upd ph d 2) (d + 1) 0) (upd nu (d + 1) (nI (b + 1))) (vp_updL go (d + 1) st) ke ib re → G (d + 1) st na ph nu go ke ib re
def od_r62 (np : Nat) (wh : Nat → Int64) (ko px py pz wo : Nat → Int32) (M : Nat → Nat → Int64 → Int64) (m : Nat) (G : od_GT) : Prop := ∀ p d st na ph nu go ke ib re, p < np → od_n ko p = 6 → d + 1 < 24 → na d = nI p → ph d = 2 → G d st na (upd ph d 3) nu go ke ib re → G (d + 1) st na ph nu go ke ib re
def od_rb0 (np : Nat) (wh : Nat → Int64) (ko px py pz wo : Nat → Int32) (M : Nat → Nat → Int64 → Int64) (m : Nat) (G : od_GT) : Prop := ∀ p b d st na ph nu go ke ib re, p < np → (od_n ko p = 7 ∨ od_n ko p = 8) → d + 1 < 24 → b + 1 < 24 → na d = nI p → ph d = 0 → nu d = nI b → G (d + 2) st (upd na (d + 1) (nI (od_fi ko px py p))) (upd (upd ph d 1) (d + 1) 0) (upd nu (d + 1) (nI (b + 1))) (vp_updL go (d + 1) st) ke ib re → G (d + 1) st na ph nu go ke ib re
def od_rb1 (np : Nat) (wh : Nat → Int64) (ko px py pz wo : Nat → Int32) (M : Nat → Nat → Int64 → Int64) (m : Nat) (G : od_GT) : Prop := ∀ p b d st na ph nu go ke ib re, p < np → (od_n ko p = 7 ∨ od_n ko p = 8) → d + 1 < 24 → b + 1 + od_n wo (od_fi ko px py p) < 24 → na d = nI p → ph d = 1 → nu d = nI b → G (d + 2) (go d) (upd na (d + 1) (nI (od_se ko py pz p))) (upd (upd ph d 2) (d + 1) 0) (upd nu (d + 1) (nI (b + 1 + od_n wo (od_fi ko px py p)))) (vp_updL go (d + 1) (go d)) (vp_updL ke d st) ib re → G (d + 1) st na ph nu go ke ib re
def od_rb2 (np : Nat) (wh : Nat → Int64) (ko px py pz wo : Nat → Int32) (M : Nat → Nat → Int64 → Int64) (m : Nat) (G : od_GT) : Prop := ∀ p d st na ph nu go ke ib re, p < np → (od_n ko p = 7 ∨ od_n ko p = 8) → d + 1 < 24 → na d = nI p → ph d = 2 → G d (if od_n ko p = 8 then st ||| ke d else od_ph (wh (od_n px p)) (ke d) st) na (upd ph d 3) nu go ke ib re → G (d + 1) st na ph nu go ke ib re
def od_rw0 (np : Nat) (wh : Nat → Int64) (ko px py pz wo : Nat → Int32) (M : Nat → Nat → Int64 → Int64) (m : Nat) (G : od_GT) : Prop := ∀ p b d st na ph nu go ke ib re r, p < np → od_n ko p = 9 → d + 1 < 24 → b + 1 < 24 → na d = nI p → ph d = 0 → nu d = nI b → r = (if ib b = 0 then od_bot m else re b) → G (d + 2) r (upd na (d + 1) (nI (od_n py p))) (upd (upd ph d 1) (d + 1) 0) (upd nu (d + 1) (nI (b + 1))) (vp_updL go (d + 1) r) (vp_updL ke d r) (upd ib b 1) (vp_updL re b r) → G (d + 1) st na ph nu go ke ib re
def od_rw1 (np : Nat) (wh : Nat → Int64) (ko px py pz wo : Nat → Int32) (M : Nat → Nat → Int64 → Int64) (m : Nat) (G : od_GT) : Prop := ∀ p b d st na ph nu go ke ib re, p < np → od_n ko p = 9 → d + 1 < 24 → b + 1 < 24 → na d = nI p → ph d = 1 → nu d = nI b → od_ph (wh (od_n px p)) st (go d) = ke d → G d (ke d) na (upd ph d 2) nu go ke ib re → G (d + 1) st na ph nu go ke ib re
def od_rw2 (np : Nat) (wh : Nat → Int64) (ko px py pz wo : Nat → Int32) (M : Nat → Nat → Int64 → Int64) (m : Nat) (G : od_GT) : Prop := ∀ p b d st nx na ph nu go ke ib re, p < np → od_n ko p = 9 → d + 1 < 24 → b + 1 < 24 → na d = nI p → ph d = 1 → nu d = nI b → nx = od_ph (wh (od_n px p)) st (go d) → nx ≠ ke d → G (d + 2) nx (upd na (d + 1) (nI (od_n py p))) (upd (upd (upd ph d 2) d 1) (d + 1) 0) (upd nu (d + 1) (nI (b + 1))) (vp_updL go (d + 1) nx) (vp_updL ke d nx) ib (vp_updL re b nx) → G (d + 1) st na ph nu go ke ib re
def od_R (np : Nat) (wh : Nat → Int64) (ko px py pz wo : Nat → Int32) (M : Nat → Nat → Int64 → Int64) (m : Nat) (G : od_GT) : Prop := od_rl np wh ko px py pz wo M m G ∧ od_r60 np wh ko px py pz wo M m G ∧ od_r61 np wh ko px py pz wo M m G ∧ od_r62 np wh ko px py pz wo M m G ∧ od_rb0 np wh ko px py pz wo M m G ∧ od_rb1 np wh ko px py pz wo M m G ∧ od_rb2 np wh ko px py pz wo M m G ∧ od_rw0 np wh ko px py pz wo M m G ∧ od_rw1 np wh ko px py pz wo M m G ∧ od_rw2 np wh ko px py pz wo M m G
section
variable {nc np m : Nat} {wh : Nat → Int64} {ko px py pz wo : Nat → Int32} {M : Nat → Nat → Int64 → Int64} {G : od_GT}
theorem od_child {f : Nat} (ih : od_EVs np wh ko px py pz wo M m G f) {c bc d : Nat} {st : Int64} {na ph nu : Nat → Int32} {go ke : Nat → Int64} {ib : Nat → Int32} {re : Nat → Int64} (hc : c < f) (hn : c < np) (h1 : d + 1 + od_n wo c ≤ 24) (h2 : bc + od_n wo c ≤ 24) (hw : od_wm wh ko px py pz wo M m ib re f c bc st)
    (K : ∀ na' ph' nu' go' ke' ib' re', od_fr (d + 1) na ph nu go ke na' ph' nu' go' ke' → od_fo bc (bc + od_n wo c) ib re ib' re' → od_wm wh ko px py pz wo M m ib' re' f c bc st → G (d + 1) (M c m st) na' ph' nu' go' ke' ib' re') :
    G (d + 2) st (upd na (d + 1) (nI c)) (upd ph (d + 1) 0) (upd nu (d + 1) (nI bc)) (vp_updL go (d + 1) st) ke ib re := by
  refine ih c bc (d + 1) st _ _ _ _ _ _ _ hc hn h1 h2 pk_us pk_us pk_us pk_uLs hw (fun na' ph' nu' go' ke' ib' re' fr fo wm => K na' ph' nu' go' ke' ib' re' (fun j hj => ?_) fo wm)
  have e := fr j hj
  rw [pk_un (show j ≠ d + 1 by omega), pk_un (show j ≠ d + 1 by omega), pk_un (show j ≠ d + 1 by omega), pk_uLn (show j ≠ d + 1 by omega)] at e
  exact e
theorem od_ppos (hP : ∀ p, p < np → od_P nc wh ko px py pz wo M p) {p : Nat} (h : p < np) : 1 ≤ od_n wo p := (hP p h).2.2.2.1
theorem od_round (hP : ∀ p, p < np → od_P nc wh ko px py pz wo M p) (hM : ∀ p g g', od_le m g g' → od_le m (M p m g) (M p m g')) (hm : m < 4) (hR : od_R np wh ko px py pz wo M m G) {f : Nat} (ih : od_EVs np wh ko px py pz wo M m G f) {p b d : Nat} {g : Int64} (hf : p < f + 1) (hp : p < np) (hk : od_n ko p = 9) (hd : d + od_n wo p ≤ 24) (hb : b + od_n wo p ≤ 24) :
    ∀ N r, od_mu m r < N → ∀ na ph nu go ke ib re, na d = nI p → ph d = 1 → nu d = nI b → go d = g → ke d = r → ¬ ib b = 0 → re b = r → od_le m r (M p m g) → od_le m r (od_ph (wh (od_n px p)) (M (od_n py p) m r) g) → od_wm wh ko px py pz wo M m ib re f (od_n py p) (b + 1) r → (∀ na' ph' nu' go' ke' ib' re', od_fr d na ph nu go ke na' ph' nu' go' ke' → od_fo b (b + od_n wo p) ib re ib' re' → od_wm wh ko px py pz wo M m ib' re' (f + 1) p b g → G d (M p m g) na' ph' nu' go' ke' ib' re') → G (d + 2) r (upd na (d + 1) (nI (od_n py p))) (upd ph (d + 1) 0) (upd nu (d + 1) (nI (b + 1))) (vp_updL go (d + 1) r) ke ib re := by
  obtain ⟨_, _, _, hw1, _, _, _, _, _, h9⟩ := hP p hp
  obtain ⟨_, _, hx, hy, hW, hL⟩ := h9 hk
  have hLg := hL m g hm
  have hyp := od_ppos hP (show od_n py p < np by omega)
  obtain ⟨_, _, _, _, _, _, _, _, R1, R2⟩ := hR
  intro N
  induction N with
  | zero => intro r h; exact absurd h (Nat.not_lt_zero _)
  | succ N IH =>
    intro r hN na ph nu go ke ib re e1 e2 e3 e4 e5 e6 e7 l1 l2 wm K
    refine od_child ih (by omega) (by omega) (by omega) (by omega) wm (fun na' ph' nu' go' ke' ib' re' fr fo wm' => ?_)
    obtain ⟨f1, f2, f3, f4, f5⟩ := fr d (by omega)
    obtain ⟨f6, f7⟩ := fo b (Or.inl (by omega))
    rw [e1] at f1; rw [e2] at f2; rw [e3] at f3; rw [e4] at f4; rw [e5] at f5; rw [e7] at f7
    have f6' : ¬ ib' b = 0 := by rw [f6]; exact e6
    have fd : od_fr d na ph nu go ke na' ph' nu' go' ke' := fun k hk => fr k (by omega)
    have fb : od_fo b (b + od_n wo p) ib re ib' re' := fun k hk => fo k (by omega)
    by_cases c : od_ph (wh (od_n px p)) (M (od_n py p) m r) g = r
    · have eM : M p m g = r := od_le_a (hLg.2 r (by rw [c]; exact od_le_r m r)) l1
      refine R1 p b d _ na' ph' nu' go' ke' ib' re' hp hk (by omega) (by omega) f1 f2 f3 (by rw [f4, f5]; exact c) ?_
      rw [f5, ← eM]
      refine K _ _ _ _ _ _ _ (fun k hk => ?_) fb ?_
      · have := fd k hk
        rw [pk_un (show k ≠ d by omega)]
        exact this
      · refine ⟨fun z => absurd (hk.symm.trans z) (by decide), fun z => absurd (hk.symm.trans z) (by decide), fun z => absurd (hk.symm.trans z) (by decide), fun _ => ?_⟩
        rw [if_neg f6', f7]
        exact ⟨l1, l2, wm'⟩
    · refine R2 p b d _ _ na' ph' nu' go' ke' ib' re' hp hk (by omega) (by omega) f1 f2 f3 rfl (by rw [f4, f5]; exact c) ?_
      rw [f4]
      have c' : r ≠ od_ph (wh (od_n px p)) (M (od_n py p) m r) g := fun z => c z.symm
      refine IH _ (Nat.lt_of_lt_of_le (od_mu_lt l2 c') (Nat.le_of_lt_succ hN)) na' (upd (upd ph' d 2) d 1) nu' go' _ ib' _ f1 pk_us f3 f4 pk_uLs f6' pk_uLs ?_ ?_ ?_ ?_
      · rw [hLg.1]
        exact od_ph_le (hM _ _ _ l1) (od_le_r m g)
      · exact od_ph_le (hM _ _ _ l2) (od_le_r m g)
      · refine od_wm_mono hP hM _ _ _ _ _ (by omega) l2 ?_
        refine od_wm_fr hP _ _ _ _ (by omega) (fun k h1 h2 => ⟨rfl, ?_⟩) wm'
        rw [pk_uLn (show k ≠ b by omega)]
      · intro na2 ph2 nu2 go2 ke2 ib2 re2 fr2 fo2 wm2
        refine K na2 ph2 nu2 go2 ke2 ib2 re2 (fun k hk => ?_) (fun k hk => ?_) wm2
        · obtain ⟨a1, a2, a3, a4, a5⟩ := fr2 k hk
          obtain ⟨b1, b2, b3, b4, b5⟩ := fd k hk
          rw [pk_un (show k ≠ d by omega), pk_un (show k ≠ d by omega)] at a2
          rw [pk_uLn (show k ≠ d by omega)] at a5
          exact ⟨a1.trans b1, a2.trans b2, a3.trans b3, a4.trans b4, a5.trans b5⟩
        · obtain ⟨a1, a2⟩ := fo2 k hk
          obtain ⟨b1, b2⟩ := fb k hk
          rw [pk_uLn (show k ≠ b by omega)] at a2
          exact ⟨a1.trans b1, a2.trans b2⟩
theorem od_EV (hP : ∀ p, p < np → od_P nc wh ko px py pz wo M p) (hM : ∀ p g g', od_le m g g' → od_le m (M p m g) (M p m g')) (hm : m < 4) (hR : od_R np wh ko px py pz wo M m G) : ∀ f, od_EVs np wh ko px py pz wo M m G f := by
  intro f
  induction f with
  | zero => intro p b d st na ph nu go ke ib re h; exact absurd h (Nat.not_lt_zero _)
  | succ f ih =>
    intro p b d st na ph nu go ke ib re hf hp hd hb e1 e2 e3 e4 wm K
    have hPp := hP p hp
    obtain ⟨_, hk10, _, hw1, _, h0, h6, h7, h8, h9⟩ := hPp
    have hR' := hR
    obtain ⟨Rl, R60, R61, R62, Rb0, Rb1, Rb2, Rw0, _, _⟩ := hR'
    obtain ⟨wm6, wm7, wm8, wm9⟩ := wm
    by_cases k6 : od_n ko p < 6
    · refine Rl p d st na ph nu go ke ib re hp k6 (by omega) e1 e2 (K _ _ _ _ _ _ _ (fun k hk => ?_) (fun k _ => ⟨rfl, rfl⟩) ?_)
      · rw [pk_un (show k ≠ d by omega)]
        exact ⟨rfl, rfl, rfl, rfl, rfl⟩
      · exact ⟨fun z => by omega, fun z => by omega, fun z => by omega, fun z => by omega⟩
    by_cases k : od_n ko p = 6
    · obtain ⟨_, _, hx, hy, hW, hL⟩ := h6 k
      have px1 := od_ppos hP (show od_n px p < np by omega)
      have py1 := od_ppos hP (show od_n py p < np by omega)
      refine R60 p b d st na ph nu go ke ib re hp k (by omega) (by omega) e1 e2 e3 ?_
      refine od_child ih (by omega) (by omega) (by omega) (by omega) (wm6 k).1 (fun na1 ph1 nu1 go1 ke1 ib1 re1 fr1 fo1 wmy => ?_)
      obtain ⟨f1, f2, f3, f4, f5⟩ := fr1 d (by omega)
      rw [e1] at f1; rw [pk_us] at f2; rw [e3] at f3
      refine R61 p b d _ na1 ph1 nu1 go1 ke1 ib1 re1 hp k (by omega) (by omega) f1 f2 f3 ?_
      refine od_child ih (by omega) (by omega) (by omega) (by omega) (od_wm_fr hP _ _ _ _ (by omega) (fun j h1 h2 => fo1 j (by omega)) (wm6 k).2) (fun na2 ph2 nu2 go2 ke2 ib2 re2 fr2 fo2 wmx => ?_)
      obtain ⟨g1, g2, g3, g4, g5⟩ := fr2 d (by omega)
      rw [f1] at g1; rw [pk_us] at g2
      refine R62 p d _ na2 ph2 nu2 go2 ke2 ib2 re2 hp k (by omega) g1 g2 ?_
      rw [← hL m st hm]
      refine K _ _ _ _ _ _ _ (fun j hj => ?_) (fun j hj => ?_) ?_
      · obtain ⟨a1, a2, a3, a4, a5⟩ := fr1 j (by omega)
        obtain ⟨b1, b2, b3, b4, b5⟩ := fr2 j (by omega)
        rw [pk_un (show j ≠ d by omega)] at a2 b2 ⊢
        exact ⟨b1.trans a1, b2.trans a2, b3.trans a3, b4.trans a4, b5.trans a5⟩
      · obtain ⟨a1, a2⟩ := fo1 j (by omega)
        obtain ⟨b1, b2⟩ := fo2 j (by omega)
        exact ⟨b1.trans a1, b2.trans a2⟩
      · refine ⟨fun _ => ⟨?_, wmx⟩, fun z => by omega, fun z => by omega, fun z => by omega⟩
        exact od_wm_fr hP _ _ _ _ (by omega) (fun j h1 h2 => fo2 j (by omega)) wmy
    by_cases k9 : od_n ko p = 9
    · obtain ⟨_, _, hx, hy, hW, hL⟩ := h9 k9
      have py1 := od_ppos hP (show od_n py p < np by omega)
      obtain ⟨w1, w2, w3⟩ := wm9 k9
      refine Rw0 p b d st na ph nu go ke ib re _ hp k9 (by omega) (by omega) e1 e2 e3 rfl ?_
      refine od_round hP hM hm hR ih hf hp k9 hd hb _ _ (Nat.lt_succ_self _) na (upd ph d 1) nu go _ _ _ e1 pk_us e3 e4 pk_uLs (by rw [pk_us]; decide) pk_uLs w1 w2 ?_ ?_
      · refine od_wm_fr hP _ _ _ _ (by omega) (fun j h1 h2 => ?_) w3
        rw [pk_un (show j ≠ b by omega), pk_uLn (show j ≠ b by omega)]
        exact ⟨rfl, rfl⟩
      · intro na2 ph2 nu2 go2 ke2 ib2 re2 fr2 fo2 wm2
        refine K _ _ _ _ _ _ _ (fun j hj => ?_) (fun j hj => ?_) wm2
        · have a := fr2 j hj
          rw [pk_un (show j ≠ d by omega), pk_uLn (show j ≠ d by omega)] at a
          exact a
        · have a := fo2 j hj
          rw [pk_un (show j ≠ b by omega), pk_uLn (show j ≠ b by omega)] at a
          exact a
    have k78 : od_n ko p = 7 ∨ od_n ko p = 8 := by omega
    have hch : od_fi ko px py p < p ∧ od_se ko py pz p < p ∧ od_n wo p = 1 + od_n wo (od_fi ko px py p) + od_n wo (od_se ko py pz p) ∧ (∀ g, (if od_n ko p = 8 then M (od_se ko py pz p) m g ||| M (od_fi ko px py p) m g else od_ph (wh (od_n px p)) (M (od_fi ko px py p) m g) (M (od_se ko py pz p) m g)) = M p m g) ∧ (∀ ib re, od_wm wh ko px py pz wo M m ib re (f + 1) p b st ↔ od_wm wh ko px py pz wo M m ib re f (od_fi ko px py p) (b + 1) st ∧ od_wm wh ko px py pz wo M m ib re f (od_se ko py pz p) (b + 1 + od_n wo (od_fi ko px py p)) st) := by
      rcases k78 with z | z
      · obtain ⟨_, _, _, hx, hy, hz, hW, hL⟩ := h7 z
        have ef : od_fi ko px py p = od_n py p := if_pos z
        have es : od_se ko py pz p = od_n pz p := if_pos z
        rw [ef, es]
        refine ⟨hy, hz, hW, fun g => ?_, fun ib re => ⟨fun w => w.2.1 z, fun w => ⟨fun q => by omega, fun _ => w, fun q => by omega, fun q => by omega⟩⟩⟩
        rw [if_neg (by omega), hL m g hm]
      · obtain ⟨_, _, hx, hy, hW, hL⟩ := h8 z
        have ef : od_fi ko px py p = od_n px p := if_neg (by omega)
        have es : od_se ko py pz p = od_n py p := if_neg (by omega)
        rw [ef, es]
        refine ⟨hx, hy, hW, fun g => ?_, fun ib re => ⟨fun w => w.2.2.1 z, fun w => ⟨fun q => by omega, fun q => by omega, fun _ => w, fun q => by omega⟩⟩⟩
        rw [if_pos z, hL m g hm]
    obtain ⟨hx, hy, hW, hL, hwm⟩ := hch
    have px1 := od_ppos hP (show od_fi ko px py p < np by omega)
    have py1 := od_ppos hP (show od_se ko py pz p < np by omega)
    have wm0 := (hwm ib re).mp ⟨wm6, wm7, wm8, wm9⟩
    refine Rb0 p b d st na ph nu go ke ib re hp k78 (by omega) (by omega) e1 e2 e3 ?_
    refine od_child ih (by omega) (by omega) (by omega) (by omega) wm0.1 (fun na1 ph1 nu1 go1 ke1 ib1 re1 fr1 fo1 wmx => ?_)
    obtain ⟨f1, f2, f3, f4, f5⟩ := fr1 d (by omega)
    rw [e1] at f1; rw [pk_us] at f2; rw [e3] at f3; rw [e4] at f4
    refine Rb1 p b d _ na1 ph1 nu1 go1 ke1 ib1 re1 hp k78 (by omega) (by omega) f1 f2 f3 ?_
    rw [f4]
    refine od_child ih (by omega) (by omega) (by omega) (by omega) (od_wm_fr hP _ _ _ _ (by omega) (fun j h1 h2 => fo1 j (by omega)) wm0.2) (fun na2 ph2 nu2 go2 ke2 ib2 re2 fr2 fo2 wmy => ?_)
    obtain ⟨g1, g2, g3, g4, g5⟩ := fr2 d (by omega)
    rw [f1] at g1; rw [pk_us] at g2; rw [pk_uLs] at g5
    refine Rb2 p d _ na2 ph2 nu2 go2 ke2 ib2 re2 hp k78 (by omega) g1 g2 ?_
    rw [g5, hL st]
    refine K _ _ _ _ _ _ _ (fun j hj => ?_) (fun j hj => ?_) ?_
    · obtain ⟨a1, a2, a3, a4, a5⟩ := fr1 j (by omega)
      obtain ⟨b1, b2, b3, b4, b5⟩ := fr2 j (by omega)
      rw [pk_un (show j ≠ d by omega)] at a2 b2 ⊢
      rw [pk_uLn (show j ≠ d by omega)] at b5
      exact ⟨b1.trans a1, b2.trans a2, b3.trans a3, b4.trans a4, b5.trans a5⟩
    · obtain ⟨a1, a2⟩ := fo1 j (by omega)
      obtain ⟨b1, b2⟩ := fo2 j (by omega)
      exact ⟨b1.trans a1, b2.trans a2⟩
    · refine (hwm _ _).mpr ⟨?_, wmy⟩
      exact od_wm_fr hP _ _ _ _ (by omega) (fun j h1 h2 => fo2 j (by omega)) wmx
end
end
section
/-! the component: numbers, enter, single steps -/
theorem od_by' : ∀ k, k < 128 → (nI k).toInt8.toInt32 = nI k := by decide +kernel
theorem od_by {k : Nat} (h : k < 128) : vp_nar .byte (nI k).toInt8.toInt32 = nI k := by rw [pk_vb]; exact od_by' k h
theorem od_by0 : vp_nar .byte 0 = 0 := by rw [vp_nar_byte]; decide
theorem od_by1 : vp_nar .byte 1 = 1 := by rw [vp_nar_byte]; decide
theorem od_f01 : vp_nar .byte (((0 : Int32) + 1).toInt8.toInt32) = 1 := by rw [pk_vb]; decide
theorem od_f12 : vp_nar .byte (((1 : Int32) + 1).toInt8.toInt32) = 2 := by rw [pk_vb]; decide
theorem od_f23 : vp_nar .byte (((2 : Int32) + 1).toInt8.toInt32) = 3 := by rw [pk_vb]; decide
theorem od_bo0 : vp_nar .boolean 0 = 0 := rfl
theorem od_bo1 : vp_nar .boolean 1 = 1 := rfl
theorem od_uself (f : Nat → Int64) (k : Nat) : vp_updL f k (f k) = f := by
  funext j
  by_cases h : j = k
  · subst h; rw [pk_uLs]
  · rw [pk_uLn h]
theorem od_ule (f : Nat → Int64) (k : Nat) (a b : Int64) : vp_updL (vp_updL f k a) k b = vp_updL f k b := by
  funext j
  by_cases h : j = k
  · subst h; rw [pk_uLs, pk_uLs]
  · rw [pk_uLn h, pk_uLn h, pk_uLn h]
theorem od_ui (f : Nat → Int32) (k : Nat) (a b : Int32) : upd (upd f k a) k b = upd f k b := by
  funext j
  by_cases h : j = k
  · subst h; rw [pk_us, pk_us]
  · rw [pk_un h, pk_un h, pk_un h]
theorem od_m1 : ∀ m, m < 4 → ((nI m &&& 1) = 0 ↔ m % 2 = 0) := by decide +kernel
theorem od_m2 : ∀ m, m < 4 → ((nI m &&& 2) = 0 ↔ m < 2) := by decide +kernel
section
variable {cc pc lv dp : Int32} {st : Int64} {wh : Nat → Int64} {ko px py pz wo na ph nu : Nat → Int32} {go ke : Nat → Int64} {ib : Nat → Int32} {re : Nat → Int64} {cf : Nat → Int32} {cg cr : Nat → Int64}
theorem od_enter {post : SX → Prop} {d a b : Nat} {a' b' : Int32} (hd : d < 24) (ha : a < 128) (hb : b < 128) (ea : a' = nI a) (eb : b' = nI b) (h : post (cc, pc, lv, nI (d + 1), st, wh, ko, px, py, pz, wo, upd na d (nI a), upd ph d 0, upd nu d (nI b), vp_updL go d st, ke, ib, re, cf, cg, cr)) : wpX_enter post (cc, pc, lv, nI d, st, wh, ko, px, py, pz, wo, na, ph, nu, go, ke, ib, re, cf, cg, cr) a' b' := by
  subst ea eb
  have hv : vp_in (nI d) 24 := vp_in_nI hd (by decide)
  have hc : (nI d).toNatClampNeg = d := nI_clamp (by omega)
  exact And.intro hv (nm_r (e' := upd na d (nI a)) (by rw [hc, od_by ha]) (And.intro hv (nm_r (e' := upd nu d (nI b)) (by rw [hc, od_by hb]) (And.intro hv (nm_r (e' := upd ph d 0) (by rw [hc, od_by0]) (And.intro hv (nm_r (e' := vp_updL go d st) (by rw [hc]) (nm_r (e' := nI (d + 1)) (nI_1 d) h))))))))
theorem od_valueIn {post : Int32 → Prop} {s y : Nat} (hy : y < 4) (h : post (od_vi s y)) : wpX_valueIn post (cc, pc, lv, dp, st, wh, ko, px, py, pz, wo, na, ph, nu, go, ke, ib, re, cf, cg, cr) (nI s) (nI y) := by
  unfold od_vi at h
  by_cases c : y = 3
  · subst c
    rw [if_pos rfl] at h
    exact br_t rfl h
  · rw [if_neg c] at h
    exact br_f (fun z => c ((nI_eq (b := 3) (by omega) (by decide)).mp z)) h
theorem od_sv_loop {post : SX → Prop} {x y z : Nat} (hx : x < 3) (hy : y < 4) (hz : z < 4) (h : post (cc, pc, lv, dp, od_mk (fun s => od_b st (od_to s x (od_v s y z))), wh, ko, px, py, pz, wo, na, ph, nu, go, ke, ib, re, cf, cg, cr)) : ∀ k i acc, i + k = 64 → (∀ t, t < 64 → od_b acc t = (decide (t < i) && od_b st (od_to t x (od_v t y z)))) → wX_setVariable_6 post (nI x) (nI y) (nI z) cc pc lv dp st wh ko px py pz wo na ph nu go ke ib re cf cg cr (k + 1) acc (nI i) := by
  intro k
  induction k with
  | zero =>
    intro i acc hi hacc
    have hi' : i = 64 := by omega
    subst hi'
    have e : acc = od_mk (fun s => od_b st (od_to s x (od_v s y z))) := by
      apply od_bx
      intro t ht
      rw [hacc t ht, od_mkb _ ht, decide_eq_true ht, Bool.true_and]
    subst e
    exact br_t (by decide) h
  | succ k ih =>
    intro i acc hi hacc
    obtain ⟨hv, ev⟩ := od_v_ok y hy z hz i (by omega)
    obtain ⟨ht, et⟩ := od_to_ok x hx _ hv i (by omega)
    refine br_f (nI_ge (b := 64) (by omega) (by decide)) (od_valueIn hy (nm_r ev (nm_r et (nm_e (nm_r (nI_1 i) (ih (i + 1) _ (by omega) (fun t h64 => ?_)))))))
    rw [od_bput st acc ht (by omega), hacc t h64]
    by_cases c : t = i
    · subst c
      rw [decide_eq_false (Nat.lt_irrefl t), decide_eq_true rfl, decide_eq_true (Nat.lt_succ_self t)]
      simp
    · rw [decide_eq_false c]
      by_cases c2 : t < i
      · rw [decide_eq_true c2, decide_eq_true (show t < i + 1 by omega)]; simp
      · rw [decide_eq_false c2, decide_eq_false (show ¬ t < i + 1 by omega)]; simp
theorem od_setVariable {post : SX → Prop} {x y z : Nat} (hx : x < 3) (hy : y < 4) (hz : z < 4) (h : post (cc, pc, lv, dp, od_mk (fun s => od_b st (od_to s x (od_v s y z))), wh, ko, px, py, pz, wo, na, ph, nu, go, ke, ib, re, cf, cg, cr)) : wpX_setVariable post (cc, pc, lv, dp, st, wh, ko, px, py, pz, wo, na, ph, nu, go, ke, ib, re, cf, cg, cr) (nI x) (nI y) (nI z) :=
  ⟨65, od_sv_loop hx hy hz h 64 0 0 rfl (fun t _ => by rw [od_b0]; simp)⟩
theorem od_sa_loop {post : SX → Prop} {J : Int64 → Int32 → Prop} {x v : Nat} {a0 : Int64} (hx : x < 3) (hv : v < 4) (h : ∀ acc, (∀ t, t < 64 → od_b acc t = (od_b a0 t || od_b st (od_to t x v))) → J acc (nI (v + 1))) : ∀ k i acc, i + k = 64 → (∀ t, t < 64 → od_b acc t = (od_b a0 t || (decide (t < i) && od_b st (od_to t x v)))) → wX_setAny_14 post J (nI x) (nI v) cc pc lv dp st wh ko px py pz wo na ph nu go ke ib re cf cg cr (k + 1) acc (nI i) := by
  intro k
  induction k with
  | zero =>
    intro i acc hi hacc
    have hi' : i = 64 := by omega
    subst hi'
    exact br_t (by decide) (nm_r (nI_1 v) (h acc (fun t ht => by rw [hacc t ht, decide_eq_true ht, Bool.true_and])))
  | succ k ih =>
    intro i acc hi hacc
    obtain ⟨ht, et⟩ := od_to_ok x hx v hv i (by omega)
    refine br_f (nI_ge (b := 64) (by omega) (by decide)) (nm_r et (nm_e (nm_r (nI_1 i) (ih (i + 1) _ (by omega) (fun t h64 => ?_)))))
    rw [od_bput st acc ht (by omega), hacc t h64]
    by_cases c : t = i
    · subst c
      rw [decide_eq_false (Nat.lt_irrefl t), decide_eq_true rfl, decide_eq_true (Nat.lt_succ_self t)]
      simp
    · rw [decide_eq_false c]
      by_cases c2 : t < i
      · rw [decide_eq_true c2, decide_eq_true (show t < i + 1 by omega)]; simp
      · rw [decide_eq_false c2, decide_eq_false (show ¬ t < i + 1 by omega)]; simp
theorem od_sa_step {post : SX → Prop} {x v n : Nat} {a0 : Int64} (hx : x < 3) (hv : v < 4) (h : ∀ acc, (∀ t, t < 64 → od_b acc t = (od_b a0 t || od_b st (od_to t x v))) → wX_setAny_5 post (nI x) cc pc lv dp st wh ko px py pz wo na ph nu go ke ib re cf cg cr n acc (nI (v + 1))) : wX_setAny_5 post (nI x) cc pc lv dp st wh ko px py pz wo na ph nu go ke ib re cf cg cr (n + 1) a0 (nI v) :=
  br_f (nI_ge (b := 4) hv (by decide)) ⟨65, od_sa_loop hx hv h 64 0 a0 rfl (fun t _ => by simp)⟩
theorem od_setAny {post : SX → Prop} {x : Nat} (hx : x < 3) (h : post (cc, pc, lv, dp, od_mk (fun s => (od_b st (od_to s x 0) || od_b st (od_to s x 1)) || (od_b st (od_to s x 2) || od_b st (od_to s x 3))), wh, ko, px, py, pz, wo, na, ph, nu, go, ke, ib, re, cf, cg, cr)) : wpX_setAny post (cc, pc, lv, dp, st, wh, ko, px, py, pz, wo, na, ph, nu, go, ke, ib, re, cf, cg, cr) (nI x) := by
  refine ⟨5, od_sa_step (v := 0) hx (by decide) (fun a1 h1 => od_sa_step (v := 1) hx (by decide) (fun a2 h2 => od_sa_step (v := 2) hx (by decide) (fun a3 h3 => od_sa_step (v := 3) hx (by decide) (fun a4 h4 => br_t (by decide) ?_))))⟩
  have e : a4 = od_mk (fun s => (od_b st (od_to s x 0) || od_b st (od_to s x 1)) || (od_b st (od_to s x 2) || od_b st (od_to s x 3))) := by
    apply od_bx
    intro t ht
    rw [od_mkb _ ht, h4 t ht, h3 t ht, h2 t ht, h1 t ht, od_b0, Bool.false_or, Bool.or_assoc]
  rw [e]
  exact h
theorem od_wo11 {post : SX → Prop} {nc p K m : Nat} {W : Nat → Nat} {M : Nat → Nat → Int64 → Int64} {z0 : Int32} (hc : nc ≤ 24) (hp : p < 32) (hK : K < 6) (hz : z0 = if m % 2 = 1 then 1 else 0) (hL : od_L nc wh W M p K (od_n px p) (od_n py p) (od_n pz p) (px p) (py p) (pz p)) (h : post (cc, pc, lv, dp, od_lf wh K (od_n px p) (od_n py p) (od_n pz p) m st, wh, ko, px, py, pz, wo, na, ph, nu, go, ke, ib, re, cf, cg, cr)) : wX_workOut_11 post (nI p) (nI K) z0 cc pc lv dp st wh ko px py pz wo na ph nu go ke ib re cf cg cr := by
  have hv : vp_in (nI p) 32 := vp_in_nI hp (by decide)
  have hcp : (nI p).toNatClampNeg = p := nI_clamp (by omega)
  obtain ⟨hW, h2, h3, h45, hL⟩ := hL.1 hK
  refine And.intro hv (nm_r (e' := px p) (by rw [hcp]) ?_)
  have ne : ∀ j : Nat, j < 10 → K ≠ j → ¬ nI K = nI j := fun j hj hn z => hn ((nI_eq (by omega) (by omega)).mp z)
  by_cases k1 : K = 1
  · subst k1
    refine br_t rfl ?_
    unfold od_lf at h
    rw [if_pos rfl] at h
    by_cases hm : m % 2 = 1
    · rw [if_pos hm] at hz h
      subst hz
      exact br_f (by decide) h
    · rw [if_neg hm] at hz h
      subst hz
      exact br_t rfl h
  refine br_f (ne 1 (by decide) k1) ?_
  by_cases k4 : K = 4
  · subst k4
    obtain ⟨ex, hx⟩ := h45 (Or.inl rfl)
    have hcx : (px p).toNatClampNeg = od_n px p := rfl
    have hvx : vp_in (px p) 24 := by rw [ex]; exact vp_in_nI (by omega) (by decide)
    exact br_t rfl (And.intro hvx (nm_e h))
  refine br_f (ne 4 (by decide) k4) ?_
  by_cases k5 : K = 5
  · subst k5
    obtain ⟨ex, hx⟩ := h45 (Or.inr rfl)
    have hvx : vp_in (px p) 24 := by rw [ex]; exact vp_in_nI (by omega) (by decide)
    unfold od_lf at h
    rw [if_neg (by decide), if_neg (by decide), if_neg (by decide), if_neg (by decide), if_pos rfl] at h
    refine br_t rfl (And.intro hvx ?_)
    by_cases hm : m % 2 = 1
    · rw [if_pos hm] at hz h
      subst hz
      exact br_f (by decide) (And.intro hvx (nm_e h))
    · rw [if_neg hm] at hz h
      subst hz
      exact br_t rfl (nm_e h)
  refine br_f (ne 5 (by decide) k5) ?_
  by_cases k2 : K = 2
  · subst k2
    obtain ⟨ex, ey, ez, hx, hy, hz'⟩ := h2 rfl
    refine br_t rfl (And.intro hv (And.intro hv ?_))
    have h' : post (cc, pc, lv, dp, od_mk (fun s => od_b st (od_to s (od_n px p) (od_v s (od_n py p) (od_n pz p)))), wh, ko, px, py, pz, wo, na, ph, nu, go, ke, ib, re, cf, cg, cr) := h
    have g := od_setVariable (post := fun u => match u with | (cc1, pc1, lv1, dp1, st1, wh1, ko1, px1, py1, pz1, wo1, na1, ph1, nu1, go1, ke1, ib1, re1, cf1, cg1, cr1) => post (cc1, pc1, lv1, dp1, st1, wh1, ko1, px1, py1, pz1, wo1, na1, ph1, nu1, go1, ke1, ib1, re1, cf1, cg1, cr1)) (cc := cc) (pc := pc) (lv := lv) (dp := dp) (st := st) (wh := wh) (ko := ko) (px := px) (py := py) (pz := pz) (wo := wo) (na := na) (ph := ph) (nu := nu) (go := go) (ke := ke) (ib := ib) (re := re) (cf := cf) (cg := cg) (cr := cr) hx hy hz' h'
    rw [← ex, ← ey, ← ez] at g
    rw [hcp]
    exact g
  refine br_f (ne 2 (by decide) k2) ?_
  by_cases k3 : K = 3
  · subst k3
    obtain ⟨ex, hx⟩ := h3 rfl
    refine br_t rfl ?_
    have h' : post (cc, pc, lv, dp, od_mk (fun s => (od_b st (od_to s (od_n px p) 0) || od_b st (od_to s (od_n px p) 1)) || (od_b st (od_to s (od_n px p) 2) || od_b st (od_to s (od_n px p) 3))), wh, ko, px, py, pz, wo, na, ph, nu, go, ke, ib, re, cf, cg, cr) := h
    have g := od_setAny (post := fun u => match u with | (cc1, pc1, lv1, dp1, st1, wh1, ko1, px1, py1, pz1, wo1, na1, ph1, nu1, go1, ke1, ib1, re1, cf1, cg1, cr1) => post (cc1, pc1, lv1, dp1, st1, wh1, ko1, px1, py1, pz1, wo1, na1, ph1, nu1, go1, ke1, ib1, re1, cf1, cg1, cr1)) (cc := cc) (pc := pc) (lv := lv) (dp := dp) (st := st) (wh := wh) (ko := ko) (px := px) (py := py) (pz := pz) (wo := wo) (na := na) (ph := ph) (nu := nu) (go := go) (ke := ke) (ib := ib) (re := re) (cf := cf) (cg := cg) (cr := cr) hx h'
    rw [← ex] at g
    exact g
  refine br_f (ne 3 (by decide) k3) ?_
  have h' : od_lf wh K (od_n px p) (od_n py p) (od_n pz p) m st = st := by
    unfold od_lf
    rw [if_neg k1, if_neg k2, if_neg k3, if_neg k4, if_neg k5]
  rw [h'] at h
  exact h
theorem od_workOut {post : SX → Prop} {nc p K m : Nat} {W : Nat → Nat} {M : Nat → Nat → Int64 → Int64} (hm : m < 4) (hc : nc ≤ 24) (hp : p < 32) (hK : K < 6) (hL : od_L nc wh W M p K (od_n px p) (od_n py p) (od_n pz p) (px p) (py p) (pz p)) (h : post (cc, pc, lv, dp, M p m st, wh, ko, px, py, pz, wo, na, ph, nu, go, ke, ib, re, cf, cg, cr)) : wpX_workOut post (cc, pc, lv, dp, st, wh, ko, px, py, pz, wo, na, ph, nu, go, ke, ib, re, cf, cg, cr) (nI p) (nI K) (nI m) := by
  rw [(hL.1 hK).2.2.2.2 m st hm] at h
  by_cases c : m % 2 = 0
  · exact br_t ((od_m1 m hm).mpr c) (od_wo11 hc hp hK (by rw [if_neg (by omega)]) hL h)
  · exact br_f (fun z => c ((od_m1 m hm).mp z)) (od_wo11 hc hp hK (by rw [if_pos (by omega)]) hL h)
end
end
section
/-! the component: one step, rule by rule -/
section
variable {cc pc lv : Int32} {st : Int64} {wh : Nat → Int64} {ko px py pz wo na ph nu : Nat → Int32} {go ke : Nat → Int64} {ib : Nat → Int32} {re : Nat → Int64} {cf : Nat → Int32} {cg cr : Nat → Int64}
theorem od_wn {nc np q : Nat} {M : Nat → Nat → Int64 → Int64} (hP : ∀ p, p < np → od_P nc wh ko px py pz wo M p) (h : q < np) : wo q = nI (od_n wo q) := (hP q h).2.2.1
theorem od_kn {nc np q k : Nat} {M : Nat → Nat → Int64 → Int64} (hP : ∀ p, p < np → od_P nc wh ko px py pz wo M p) (h : q < np) (hk : od_n ko q = k) : ko q = nI k := by rw [← hk]; exact (hP q h).1
theorem od_xl {nc np p m : Nat} {M : Nat → Nat → Int64 → Int64} (hm : m < 4) (hc : nc ≤ 24) (hp : p < 32) (hpn : p < np) (hP : ∀ p, p < np → od_P nc wh ko px py pz wo M p) {post : SX → Prop} {d : Nat} (hk : od_n ko p < 6) (hd : d < 24) (e1 : na d = nI p) (e2 : ph d = 0) (h : post (cc, pc, lv, nI d, M p m st, wh, ko, px, py, pz, wo, na, upd ph d 1, nu, go, ke, ib, re, cf, cg, cr)) : wpX_step post (cc, pc, lv, nI (d + 1), st, wh, ko, px, py, pz, wo, na, ph, nu, go, ke, ib, re, cf, cg, cr) (nI m) := by
  have hv : vp_in (nI d) 24 := vp_in_nI (by omega) (by decide)
  have hvp : vp_in (nI p) 32 := vp_in_nI hp (by decide)
  have hcd : (nI d).toNatClampNeg = d := nI_clamp (by omega)
  have hcp : (nI p).toNatClampNeg = p := nI_clamp (by omega)
  refine nm_r (e' := nI d) (nI_pred d) (And.intro hv (nm_r (e' := nI p) (by rw [hcd, e1]) (And.intro hvp (nm_r (e' := nI (od_n ko p)) (by rw [hcp]; exact (hP p hpn).1) (And.intro hv (nm_r (e' := 0) (by rw [hcd, e2]) (And.intro hv (And.intro hv (nm_r (e' := upd ph d 1) (by rw [hcd, e2, od_f01]) ?_)))))))))
  refine br_f (nI_ge (b := 6) hk (by decide)) (nm_r (e' := nI d) (nI_pred d) ?_)
  exact od_workOut hm hc hp hk (hP p hpn).2.2.2.2.2 h
theorem od_x60 {nc np p m : Nat} {M : Nat → Nat → Int64 → Int64} (hm : m < 4) (hc : nc ≤ 24) (hp : p < 32) (hpn : p < np) (hP : ∀ p, p < np → od_P nc wh ko px py pz wo M p) {post : SX → Prop} {b d : Nat} (hk : od_n ko p = 6) (hd : d + 1 < 24) (hb : b + 1 + od_n wo (od_n px p) < 24) (hn : np ≤ 32) (e1 : na d = nI p) (e2 : ph d = 0) (e3 : nu d = nI b) (h : post (cc, pc, lv, nI (d + 2), st, wh, ko, px, py, pz, wo, upd na (d + 1) (nI (od_n py p)), upd (upd ph d 1) (d + 1) 0, upd nu (d + 1) (nI (b + 1 + od_n wo (od_n px p))), vp_updL go (d + 1) st, ke, ib, re, cf, cg, cr)) : wpX_step post (cc, pc, lv, nI (d + 1), st, wh, ko, px, py, pz, wo, na, ph, nu, go, ke, ib, re, cf, cg, cr) (nI m) := by
  obtain ⟨ex, ey, hx, hy, _⟩ := (hP p hpn).2.2.2.2.2.2.1 hk
  have ew := od_wn hP (show od_n px p < np by omega)
  have hv : vp_in (nI d) 24 := vp_in_nI (by omega) (by decide)
  have hvp : vp_in (nI p) 32 := vp_in_nI hp (by decide)
  have hcd : (nI d).toNatClampNeg = d := nI_clamp (by omega)
  have hcp : (nI p).toNatClampNeg = p := nI_clamp (by omega)
  refine nm_r (e' := nI d) (nI_pred d) (And.intro hv (nm_r (e' := nI p) (by rw [hcd, e1]) (And.intro hvp (nm_r (e' := 6) (by rw [hcp]; exact od_kn hP hpn hk) (And.intro hv (nm_r (e' := 0) (by rw [hcd, e2]) (And.intro hv (And.intro hv (nm_r (e' := upd ph d 1) (by rw [hcd, e2, od_f01]) ?_)))))))))
  refine br_t (by decide) (br_t rfl (br_t rfl (And.intro hvp (And.intro hv (And.intro hvp (And.intro ?_ ?_))))))
  · rw [hcp, ex]; exact vp_in_nI (by omega) (by decide)
  · refine od_enter (d := d + 1) hd (show od_n py p < 128 by omega) (show b + 1 + od_n wo (od_n px p) < 128 by omega) (by rw [hcp]; exact ey) ?_ h
    rw [hcd, e3, hcp]
    show nI b + 1 + wo (od_n px p) = _
    rw [ew, nI_1, nI_add]
theorem od_x61 {nc np p m : Nat} {M : Nat → Nat → Int64 → Int64} (hm : m < 4) (hc : nc ≤ 24) (hp : p < 32) (hpn : p < np) (hP : ∀ p, p < np → od_P nc wh ko px py pz wo M p) {post : SX → Prop} {b d : Nat} (hk : od_n ko p = 6) (hd : d + 1 < 24) (hb : b + 1 < 24) (hn : np ≤ 32) (e1 : na d = nI p) (e2 : ph d = 1) (e3 : nu d = nI b) (h : post (cc, pc, lv, nI (d + 2), st, wh, ko, px, py, pz, wo, upd na (d + 1) (nI (od_n px p)), upd (upd ph d 2) (d + 1) 0, upd nu (d + 1) (nI (b + 1)), vp_updL go (d + 1) st, ke, ib, re, cf, cg, cr)) : wpX_step post (cc, pc, lv, nI (d + 1), st, wh, ko, px, py, pz, wo, na, ph, nu, go, ke, ib, re, cf, cg, cr) (nI m) := by
  obtain ⟨ex, ey, hx, hy, _⟩ := (hP p hpn).2.2.2.2.2.2.1 hk
  have hv : vp_in (nI d) 24 := vp_in_nI (by omega) (by decide)
  have hvp : vp_in (nI p) 32 := vp_in_nI hp (by decide)
  have hcd : (nI d).toNatClampNeg = d := nI_clamp (by omega)
  have hcp : (nI p).toNatClampNeg = p := nI_clamp (by omega)
  refine nm_r (e' := nI d) (nI_pred d) (And.intro hv (nm_r (e' := nI p) (by rw [hcd, e1]) (And.intro hvp (nm_r (e' := 6) (by rw [hcp]; exact od_kn hP hpn hk) (And.intro hv (nm_r (e' := 1) (by rw [hcd, e2]) (And.intro hv (And.intro hv (nm_r (e' := upd ph d 2) (by rw [hcd, e2, od_f12]) ?_)))))))))
  refine br_t (by decide) (br_t rfl (br_f (by decide) (br_t rfl (And.intro hvp (And.intro hv ?_)))))
  exact od_enter (d := d + 1) hd (show od_n px p < 128 by omega) (show b + 1 < 128 by omega) (by rw [hcp]; exact ex) (by rw [hcd, e3, nI_1]) h
theorem od_x62 {nc np p m : Nat} {M : Nat → Nat → Int64 → Int64} (hm : m < 4) (hc : nc ≤ 24) (hp : p < 32) (hpn : p < np) (hP : ∀ p, p < np → od_P nc wh ko px py pz wo M p) {post : SX → Prop} {d : Nat} (hk : od_n ko p = 6) (hd : d + 1 < 24) (e1 : na d = nI p) (e2 : ph d = 2) (h : post (cc, pc, lv, nI d, st, wh, ko, px, py, pz, wo, na, upd ph d 3, nu, go, ke, ib, re, cf, cg, cr)) : wpX_step post (cc, pc, lv, nI (d + 1), st, wh, ko, px, py, pz, wo, na, ph, nu, go, ke, ib, re, cf, cg, cr) (nI m) := by
  have hv : vp_in (nI d) 24 := vp_in_nI (by omega) (by decide)
  have hvp : vp_in (nI p) 32 := vp_in_nI hp (by decide)
  have hcd : (nI d).toNatClampNeg = d := nI_clamp (by omega)
  have hcp : (nI p).toNatClampNeg = p := nI_clamp (by omega)
  refine nm_r (e' := nI d) (nI_pred d) (And.intro hv (nm_r (e' := nI p) (by rw [hcd, e1]) (And.intro hvp (nm_r (e' := 6) (by rw [hcp]; exact od_kn hP hpn hk) (And.intro hv (nm_r (e' := 2) (by rw [hcd, e2]) (And.intro hv (And.intro hv (nm_r (e' := upd ph d 3) (by rw [hcd, e2, od_f23]) ?_)))))))))
  exact br_t (by decide) (br_t rfl (br_f (by decide) (br_f (by decide) (nm_r (e' := nI d) (nI_pred d) h))))
theorem od_sb {nc np p : Nat} {M : Nat → Nat → Int64 → Int64} (hc : nc ≤ 24) (hp : p < 32) (hpn : p < np) (hP : ∀ p, p < np → od_P nc wh ko px py pz wo M p) {post : SX → Prop} {dp F : Int32} {d : Nat} (hk : od_n ko p = 7 ∨ od_n ko p = 8) (h : ∀ z0, z0 = nI (od_fi ko px py p) → wX_stepBranches_21 post (nI d) (nI p) (nI (od_n ko p)) F z0 cc pc lv dp st wh ko px py pz wo na ph nu go ke ib re cf cg cr) : wpX_stepBranches post (cc, pc, lv, dp, st, wh, ko, px, py, pz, wo, na, ph, nu, go, ke, ib, re, cf, cg, cr) (nI d) (nI p) (nI (od_n ko p)) F := by
  have hvp : vp_in (nI p) 32 := vp_in_nI hp (by decide)
  have hcp : (nI p).toNatClampNeg = p := nI_clamp (by omega)
  rcases hk with k | k
  · obtain ⟨ex, ey, ez, hx, hy, hz, _⟩ := (hP p hpn).2.2.2.2.2.2.2.1 k
    refine br_t (by rw [k]; rfl) (And.intro hvp (h _ ?_))
    rw [hcp]
    show py p = nI (if od_n ko p = 7 then od_n py p else od_n px p)
    rw [if_pos k]; exact ey
  · obtain ⟨ex, ey, hx, hy, _⟩ := (hP p hpn).2.2.2.2.2.2.2.2.1 k
    refine br_f (by rw [k]; decide) (And.intro hvp (h _ ?_))
    rw [hcp]
    show px p = nI (if od_n ko p = 7 then od_n py p else od_n px p)
    rw [if_neg (by omega)]; exact ex
theorem od_fin {nc np p : Nat} {M : Nat → Nat → Int64 → Int64} (hc : nc ≤ 24) (hp : p < 32) (hpn : p < np) (hP : ∀ p, p < np → od_P nc wh ko px py pz wo M p) (hk : od_n ko p = 7 ∨ od_n ko p = 8) : od_fi ko px py p < p ∧ od_se ko py pz p < p := by
  unfold od_fi od_se
  rcases hk with k | k
  · obtain ⟨ex, ey, ez, hx, hy, hz, _⟩ := (hP p hpn).2.2.2.2.2.2.2.1 k
    rw [if_pos k, if_pos k]
    exact ⟨hy, hz⟩
  · obtain ⟨ex, ey, hx, hy, _⟩ := (hP p hpn).2.2.2.2.2.2.2.2.1 k
    rw [if_neg (by omega), if_neg (by omega)]
    exact ⟨hx, hy⟩
theorem od_xb0 {nc np p m : Nat} {M : Nat → Nat → Int64 → Int64} (hm : m < 4) (hc : nc ≤ 24) (hp : p < 32) (hpn : p < np) (hP : ∀ p, p < np → od_P nc wh ko px py pz wo M p) {post : SX → Prop} {b d : Nat} (hk : od_n ko p = 7 ∨ od_n ko p = 8) (hd : d + 1 < 24) (hb : b + 1 < 24) (hn : np ≤ 32) (e1 : na d = nI p) (e2 : ph d = 0) (e3 : nu d = nI b) (h : post (cc, pc, lv, nI (d + 2), st, wh, ko, px, py, pz, wo, upd na (d + 1) (nI (od_fi ko px py p)), upd (upd ph d 1) (d + 1) 0, upd nu (d + 1) (nI (b + 1)), vp_updL go (d + 1) st, ke, ib, re, cf, cg, cr)) : wpX_step post (cc, pc, lv, nI (d + 1), st, wh, ko, px, py, pz, wo, na, ph, nu, go, ke, ib, re, cf, cg, cr) (nI m) := by
  have hf := od_fin hc hp hpn hP hk
  have hv : vp_in (nI d) 24 := vp_in_nI (by omega) (by decide)
  have hvp : vp_in (nI p) 32 := vp_in_nI hp (by decide)
  have hcd : (nI d).toNatClampNeg = d := nI_clamp (by omega)
  have hcp : (nI p).toNatClampNeg = p := nI_clamp (by omega)
  refine nm_r (e' := nI d) (nI_pred d) (And.intro hv (nm_r (e' := nI p) (by rw [hcd, e1]) (And.intro hvp (nm_r (e' := nI (od_n ko p)) (by rw [hcp]; exact (hP p hpn).1) (And.intro hv (nm_r (e' := 0) (by rw [hcd, e2]) (And.intro hv (And.intro hv (nm_r (e' := upd ph d 1) (by rw [hcd, e2, od_f01]) ?_)))))))))
  refine br_t (by rcases hk with k | k <;> rw [k] <;> decide) (br_f (by rcases hk with k | k <;> rw [k] <;> decide) (br_f (by rcases hk with k | k <;> rw [k] <;> decide) (od_sb hc hp hpn hP hk (fun z0 ez0 => ?_))))
  refine br_t rfl (And.intro hv ?_)
  exact od_enter (d := d + 1) hd (show od_fi ko px py p < 128 by omega) (show b + 1 < 128 by omega) ez0 (by rw [hcd, e3, nI_1]) h
theorem od_xb1 {nc np p m : Nat} {M : Nat → Nat → Int64 → Int64} (hm : m < 4) (hc : nc ≤ 24) (hp : p < 32) (hpn : p < np) (hP : ∀ p, p < np → od_P nc wh ko px py pz wo M p) {post : SX → Prop} {b d : Nat} (hk : od_n ko p = 7 ∨ od_n ko p = 8) (hd : d + 1 < 24) (hb : b + 1 + od_n wo (od_fi ko px py p) < 24) (hn : np ≤ 32) (e1 : na d = nI p) (e2 : ph d = 1) (e3 : nu d = nI b) (h : post (cc, pc, lv, nI (d + 2), go d, wh, ko, px, py, pz, wo, upd na (d + 1) (nI (od_se ko py pz p)), upd (upd ph d 2) (d + 1) 0, upd nu (d + 1) (nI (b + 1 + od_n wo (od_fi ko px py p))), vp_updL go (d + 1) (go d), vp_updL ke d st, ib, re, cf, cg, cr)) : wpX_step post (cc, pc, lv, nI (d + 1), st, wh, ko, px, py, pz, wo, na, ph, nu, go, ke, ib, re, cf, cg, cr) (nI m) := by
  have hf := od_fin hc hp hpn hP hk
  have ew := od_wn hP (show od_fi ko px py p < np by omega)
  have hv : vp_in (nI d) 24 := vp_in_nI (by omega) (by decide)
  have hvp : vp_in (nI p) 32 := vp_in_nI hp (by decide)
  have hcd : (nI d).toNatClampNeg = d := nI_clamp (by omega)
  have hcp : (nI p).toNatClampNeg = p := nI_clamp (by omega)
  refine nm_r (e' := nI d) (nI_pred d) (And.intro hv (nm_r (e' := nI p) (by rw [hcd, e1]) (And.intro hvp (nm_r (e' := nI (od_n ko p)) (by rw [hcp]; exact (hP p hpn).1) (And.intro hv (nm_r (e' := 1) (by rw [hcd, e2]) (And.intro hv (And.intro hv (nm_r (e' := upd ph d 2) (by rw [hcd, e2, od_f12]) ?_)))))))))
  refine br_t (by rcases hk with k | k <;> rw [k] <;> decide) (br_f (by rcases hk with k | k <;> rw [k] <;> decide) (br_f (by rcases hk with k | k <;> rw [k] <;> decide) (od_sb hc hp hpn hP hk (fun z0 ez0 => ?_))))
  subst ez0
  have hvf : vp_in (nI (od_fi ko px py p)) 32 := vp_in_nI (by omega) (by decide)
  have hcf : (nI (od_fi ko px py p)).toNatClampNeg = od_fi ko px py p := nI_clamp (by omega)
  have en : ∀ a', a' = nI (od_se ko py pz p) → wX_stepBranches_91 (fun u => match u with | (cc1, pc1, lv1, dp1, st1, wh1, ko1, px1, py1, pz1, wo1, na1, ph1, nu1, go1, ke1, ib1, re1, cf1, cg1, cr1) => post (cc1, pc1, lv1, dp1, st1, wh1, ko1, px1, py1, pz1, wo1, na1, ph1, nu1, go1, ke1, ib1, re1, cf1, cg1, cr1)) (nI d) (nI (od_fi ko px py p)) a' cc pc lv (nI (d + 1)) (go d) wh ko px py pz wo na (upd ph d 2) nu go (vp_updL ke d st) ib re cf cg cr := by
    intro a' ea
    refine And.intro hv (And.intro hvf ?_)
    exact od_enter (d := d + 1) hd (show od_se ko py pz p < 128 by omega) (show b + 1 + od_n wo (od_fi ko px py p) < 128 by omega) ea (by rw [hcd, e3, hcf, ew, nI_1, nI_add]) h
  refine br_f (by decide) (br_t rfl (And.intro hv (nm_r (e' := vp_updL ke d st) (by rw [hcd]) (And.intro hv (nm_r (e' := go d) (by rw [hcd]) ?_)))))
  rcases hk with k | k
  · obtain ⟨ex, ey, ez, hx, hy, hz, _⟩ := (hP p hpn).2.2.2.2.2.2.2.1 k
    refine br_t (by rw [k]; rfl) (And.intro hvp (en _ ?_))
    rw [hcp]
    show pz p = nI (if od_n ko p = 7 then od_n pz p else od_n py p)
    rw [if_pos k]; exact ez
  · obtain ⟨ex, ey, hx, hy, _⟩ := (hP p hpn).2.2.2.2.2.2.2.2.1 k
    refine br_f (by rw [k]; decide) (And.intro hvp (en _ ?_))
    rw [hcp]
    show py p = nI (if od_n ko p = 7 then od_n pz p else od_n py p)
    rw [if_neg (by omega)]; exact ey
theorem od_xb2 {nc np p m : Nat} {M : Nat → Nat → Int64 → Int64} (hm : m < 4) (hc : nc ≤ 24) (hp : p < 32) (hpn : p < np) (hP : ∀ p, p < np → od_P nc wh ko px py pz wo M p) {post : SX → Prop} {d : Nat} (hk : od_n ko p = 7 ∨ od_n ko p = 8) (hd : d + 1 < 24) (e1 : na d = nI p) (e2 : ph d = 2) (h : post (cc, pc, lv, nI d, if od_n ko p = 8 then st ||| ke d else od_ph (wh (od_n px p)) (ke d) st, wh, ko, px, py, pz, wo, na, upd ph d 3, nu, go, ke, ib, re, cf, cg, cr)) : wpX_step post (cc, pc, lv, nI (d + 1), st, wh, ko, px, py, pz, wo, na, ph, nu, go, ke, ib, re, cf, cg, cr) (nI m) := by
  have hv : vp_in (nI d) 24 := vp_in_nI (by omega) (by decide)
  have hvp : vp_in (nI p) 32 := vp_in_nI hp (by decide)
  have hcd : (nI d).toNatClampNeg = d := nI_clamp (by omega)
  have hcp : (nI p).toNatClampNeg = p := nI_clamp (by omega)
  refine nm_r (e' := nI d) (nI_pred d) (And.intro hv (nm_r (e' := nI p) (by rw [hcd, e1]) (And.intro hvp (nm_r (e' := nI (od_n ko p)) (by rw [hcp]; exact (hP p hpn).1) (And.intro hv (nm_r (e' := 2) (by rw [hcd, e2]) (And.intro hv (And.intro hv (nm_r (e' := upd ph d 3) (by rw [hcd, e2, od_f23]) ?_)))))))))
  refine br_t (by rcases hk with k | k <;> rw [k] <;> decide) (br_f (by rcases hk with k | k <;> rw [k] <;> decide) (br_f (by rcases hk with k | k <;> rw [k] <;> decide) (od_sb hc hp hpn hP hk (fun z0 ez0 => ?_))))
  refine br_f (by decide) (br_f (by decide) (nm_r (e' := nI d) (nI_pred d) ?_))
  rcases hk with k | k
  · obtain ⟨ex, ey, ez, hx, hy, hz, _⟩ := (hP p hpn).2.2.2.2.2.2.2.1 k
    have hvx : vp_in (px (nI p).toNatClampNeg) 24 := by rw [hcp, ex]; exact vp_in_nI (by omega) (by decide)
    rw [if_neg (by omega)] at h
    refine br_f (by rw [k]; decide) (And.intro hvp (And.intro hvx (And.intro hv (And.intro hvp (And.intro hvx (nm_r (e' := od_ph (wh (od_n px p)) (ke d) st) (by rw [hcp, hcd]; rfl) h))))))
  · rw [if_pos k] at h
    refine br_t (by rw [k]; rfl) (And.intro hv (nm_r (e' := st ||| ke d) (by rw [hcd]) h))
theorem od_g156 {post : SX → Prop} {p d b : Nat} {r : Int64} (hp : p < 32) (hd : d + 1 < 24) (hb : b + 1 < 24) (ey : py p = nI (od_n py p)) (hy : od_n py p < 32) (er : ke d = r) (h : post (cc, pc, lv, nI (d + 2), r, wh, ko, px, py, pz, wo, upd na (d + 1) (nI (od_n py p)), upd ph (d + 1) 0, upd nu (d + 1) (nI (b + 1)), vp_updL go (d + 1) r, ke, ib, re, cf, cg, cr)) : wX_goRound_156 post (nI d) (nI p) (nI b) cc pc lv (nI (d + 1)) st wh ko px py pz wo na ph nu go ke ib re cf cg cr := by
  have hv : vp_in (nI d) 24 := vp_in_nI (by omega) (by decide)
  have hvp : vp_in (nI p) 32 := vp_in_nI hp (by decide)
  have hcd : (nI d).toNatClampNeg = d := nI_clamp (by omega)
  have hcp : (nI p).toNatClampNeg = p := nI_clamp (by omega)
  refine And.intro hv (nm_r (e' := r) (by rw [hcd, er]) (And.intro hvp ?_))
  exact od_enter (d := d + 1) hd (show od_n py p < 128 by omega) (show b + 1 < 128 by omega) (by rw [hcp]; exact ey) (nI_1 b) h
theorem od_g56 {post : SX → Prop} {p d b : Nat} {r : Int64} (hp : p < 32) (hd : d + 1 < 24) (hb : b + 1 < 24) (ey : py p = nI (od_n py p)) (hy : od_n py p < 32) (er : re b = r) (h : post (cc, pc, lv, nI (d + 2), r, wh, ko, px, py, pz, wo, upd na (d + 1) (nI (od_n py p)), upd ph (d + 1) 0, upd nu (d + 1) (nI (b + 1)), vp_updL go (d + 1) r, vp_updL ke d r, upd ib b 1, re, cf, cg, cr)) : wX_goRound_56 post (nI d) (nI p) (nI b) cc pc lv (nI (d + 1)) st wh ko px py pz wo na ph nu go ke ib re cf cg cr := by
  have hv : vp_in (nI d) 24 := vp_in_nI (by omega) (by decide)
  have hvb : vp_in (nI b) 24 := vp_in_nI (by omega) (by decide)
  have hcd : (nI d).toNatClampNeg = d := nI_clamp (by omega)
  have hcb : (nI b).toNatClampNeg = b := nI_clamp (by omega)
  refine And.intro hvb (nm_r (e' := upd ib b 1) (by rw [hcb, od_bo1]) (And.intro hvb (And.intro hv (nm_r (e' := vp_updL ke d r) (by rw [hcd, hcb, er]) ?_))))
  exact od_g156 hp hd hb ey hy pk_uLs h
theorem od_gr0 {nc np p m : Nat} {M : Nat → Nat → Int64 → Int64} (hm : m < 4) (hc : nc ≤ 24) (hp : p < 32) (hpn : p < np) (hP : ∀ p, p < np → od_P nc wh ko px py pz wo M p) {post : SX → Prop} {d b : Nat} {r : Int64} (hk : od_n ko p = 9) (hd : d + 1 < 24) (e3 : nu d = nI b) (hb : b + 1 < 24) (hr : r = (if ib b = 0 then od_bot m else re b)) (hn : np ≤ 32) (h : post (cc, pc, lv, nI (d + 2), r, wh, ko, px, py, pz, wo, upd na (d + 1) (nI (od_n py p)), upd ph (d + 1) 0, upd nu (d + 1) (nI (b + 1)), vp_updL go (d + 1) r, vp_updL ke d r, upd ib b 1, vp_updL re b r, cf, cg, cr)) : wpX_goRound post (cc, pc, lv, nI (d + 1), st, wh, ko, px, py, pz, wo, na, ph, nu, go, ke, ib, re, cf, cg, cr) (nI d) (nI p) 0 (nI m) := by
  obtain ⟨ex, ey, hx, hy, _⟩ := (hP p hpn).2.2.2.2.2.2.2.2.2 hk
  have hv : vp_in (nI d) 24 := vp_in_nI (by omega) (by decide)
  have hvp : vp_in (nI p) 32 := vp_in_nI hp (by decide)
  have hvb : vp_in (nI b) 24 := vp_in_nI (by omega) (by decide)
  have hcd : (nI d).toNatClampNeg = d := nI_clamp (by omega)
  have hcp : (nI p).toNatClampNeg = p := nI_clamp (by omega)
  have hcb : (nI b).toNatClampNeg = b := nI_clamp (by omega)
  have hvx : vp_in (px (nI p).toNatClampNeg) 24 := by rw [hcp, ex]; exact vp_in_nI (by omega) (by decide)
  refine And.intro hvp (And.intro hvx (nm_e (And.intro hv (nm_r (e' := nI b) (by rw [hcd, e3]) (br_t rfl (And.intro hvb ?_))))))
  by_cases c : ib b = 0
  · rw [if_pos c] at hr
    subst hr
    refine br_t (by rw [hcb]; exact c) ?_
    unfold od_bot at h
    by_cases c2 : m < 2
    · rw [if_pos c2] at h
      refine br_t ((od_m2 m hm).mpr c2) (And.intro hvb (nm_r (e' := vp_updL re b 0) (by rw [hcb]) ?_))
      exact od_g56 hp hd hb ey (by omega) pk_uLs h
    · rw [if_neg c2] at h
      refine br_f (fun z => c2 ((od_m2 m hm).mp z)) (And.intro hvb (nm_r (e' := vp_updL re b (-1)) (by rw [hcb]) ?_))
      exact od_g56 hp hd hb ey (by omega) pk_uLs h
  · rw [if_neg c] at hr
    subst hr
    rw [od_uself] at h
    refine br_f (by rw [hcb]; exact c) ?_
    exact od_g56 hp hd hb ey (by omega) rfl h
theorem od_gr1 {nc np p m : Nat} {M : Nat → Nat → Int64 → Int64} (hm : m < 4) (hc : nc ≤ 24) (hp : p < 32) (hpn : p < np) (hP : ∀ p, p < np → od_P nc wh ko px py pz wo M p) {post : SX → Prop} {d b : Nat} (hk : od_n ko p = 9) (hd : d + 1 < 24) (e3 : nu d = nI b) (hb : b + 1 < 24) (hc1 : od_ph (wh (od_n px p)) st (go d) = ke d) (h : post (cc, pc, lv, nI d, ke d, wh, ko, px, py, pz, wo, na, ph, nu, go, ke, ib, re, cf, cg, cr)) : wpX_goRound post (cc, pc, lv, nI (d + 1), st, wh, ko, px, py, pz, wo, na, ph, nu, go, ke, ib, re, cf, cg, cr) (nI d) (nI p) 1 (nI m) := by
  obtain ⟨ex, ey, hx, hy, _⟩ := (hP p hpn).2.2.2.2.2.2.2.2.2 hk
  have hv : vp_in (nI d) 24 := vp_in_nI (by omega) (by decide)
  have hvp : vp_in (nI p) 32 := vp_in_nI hp (by decide)
  have hcd : (nI d).toNatClampNeg = d := nI_clamp (by omega)
  have hcp : (nI p).toNatClampNeg = p := nI_clamp (by omega)
  have hvx : vp_in (px (nI p).toNatClampNeg) 24 := by rw [hcp, ex]; exact vp_in_nI (by omega) (by decide)
  exact And.intro hvp (And.intro hvx (nm_r (e' := wh (od_n px p)) (by rw [hcp]; rfl) (And.intro hv (nm_r (e' := nI b) (by rw [hcd, e3]) (br_f (by decide) (And.intro hv (nm_r (e' := ke d) (by rw [hcd]; exact hc1) (And.intro hv (br_t (by rw [hcd]) (nm_r (e' := nI d) (nI_pred d) h))))))))))
theorem od_gr2 {nc np p m : Nat} {M : Nat → Nat → Int64 → Int64} (hm : m < 4) (hc : nc ≤ 24) (hp : p < 32) (hpn : p < np) (hP : ∀ p, p < np → od_P nc wh ko px py pz wo M p) {post : SX → Prop} {d b : Nat} {nx : Int64} (hk : od_n ko p = 9) (hd : d + 1 < 24) (e3 : nu d = nI b) (hb : b + 1 < 24) (hn : np ≤ 32) (hc1 : nx = od_ph (wh (od_n px p)) st (go d)) (hne : nx ≠ ke d) (h : post (cc, pc, lv, nI (d + 2), nx, wh, ko, px, py, pz, wo, upd na (d + 1) (nI (od_n py p)), upd (upd ph d 1) (d + 1) 0, upd nu (d + 1) (nI (b + 1)), vp_updL go (d + 1) nx, vp_updL ke d nx, ib, vp_updL re b nx, cf, cg, cr)) : wpX_goRound post (cc, pc, lv, nI (d + 1), st, wh, ko, px, py, pz, wo, na, ph, nu, go, ke, ib, re, cf, cg, cr) (nI d) (nI p) 1 (nI m) := by
  obtain ⟨ex, ey, hx, hy, _⟩ := (hP p hpn).2.2.2.2.2.2.2.2.2 hk
  have hv : vp_in (nI d) 24 := vp_in_nI (by omega) (by decide)
  have hvp : vp_in (nI p) 32 := vp_in_nI hp (by decide)
  have hvb : vp_in (nI b) 24 := vp_in_nI (by omega) (by decide)
  have hcd : (nI d).toNatClampNeg = d := nI_clamp (by omega)
  have hcp : (nI p).toNatClampNeg = p := nI_clamp (by omega)
  have hcb : (nI b).toNatClampNeg = b := nI_clamp (by omega)
  have hvx : vp_in (px (nI p).toNatClampNeg) 24 := by rw [hcp, ex]; exact vp_in_nI (by omega) (by decide)
  refine And.intro hvp (And.intro hvx (nm_r (e' := wh (od_n px p)) (by rw [hcp]; rfl) (And.intro hv (nm_r (e' := nI b) (by rw [hcd, e3]) (br_f (by decide) (And.intro hv (nm_r (e' := nx) (by rw [hcd]; exact hc1.symm) (And.intro hv (br_f (by rw [hcd]; exact hne) (And.intro hv (nm_r (e' := vp_updL ke d nx) (by rw [hcd]) (And.intro hvb (nm_r (e' := vp_updL re b nx) (by rw [hcb]) (And.intro hv (nm_r (e' := upd ph d 1) (by rw [hcd, od_by1]) ?_)))))))))))))))
  exact od_g156 hp hd hb ey (by omega) pk_uLs h
theorem od_xw0 {nc np p m : Nat} {M : Nat → Nat → Int64 → Int64} (hm : m < 4) (hc : nc ≤ 24) (hp : p < 32) (hpn : p < np) (hP : ∀ p, p < np → od_P nc wh ko px py pz wo M p) {post : SX → Prop} {b d : Nat} {r : Int64} (hr : r = (if ib b = 0 then od_bot m else re b)) (hk : od_n ko p = 9) (hd : d + 1 < 24) (hb : b + 1 < 24) (hn : np ≤ 32) (e1 : na d = nI p) (e2 : ph d = 0) (e3 : nu d = nI b) (h : post (cc, pc, lv, nI (d + 2), r, wh, ko, px, py, pz, wo, upd na (d + 1) (nI (od_n py p)), upd (upd ph d 1) (d + 1) 0, upd nu (d + 1) (nI (b + 1)), vp_updL go (d + 1) r, vp_updL ke d r, upd ib b 1, vp_updL re b r, cf, cg, cr)) : wpX_step post (cc, pc, lv, nI (d + 1), st, wh, ko, px, py, pz, wo, na, ph, nu, go, ke, ib, re, cf, cg, cr) (nI m) := by
  have hv : vp_in (nI d) 24 := vp_in_nI (by omega) (by decide)
  have hvp : vp_in (nI p) 32 := vp_in_nI hp (by decide)
  have hcd : (nI d).toNatClampNeg = d := nI_clamp (by omega)
  have hcp : (nI p).toNatClampNeg = p := nI_clamp (by omega)
  refine nm_r (e' := nI d) (nI_pred d) (And.intro hv (nm_r (e' := nI p) (by rw [hcd, e1]) (And.intro hvp (nm_r (e' := 9) (by rw [hcp]; exact od_kn hP hpn hk) (And.intro hv (nm_r (e' := 0) (by rw [hcd, e2]) (And.intro hv (And.intro hv (nm_r (e' := upd ph d 1) (by rw [hcd, e2, od_f01]) ?_)))))))))
  refine br_t (by decide) (br_f (by decide) (br_t rfl ?_))
  exact od_gr0 hm hc hp hpn hP hk hd e3 hb hr hn h
theorem od_xw1 {nc np p m : Nat} {M : Nat → Nat → Int64 → Int64} (hm : m < 4) (hc : nc ≤ 24) (hp : p < 32) (hpn : p < np) (hP : ∀ p, p < np → od_P nc wh ko px py pz wo M p) {post : SX → Prop} {b d : Nat} (hc1 : od_ph (wh (od_n px p)) st (go d) = ke d) (hk : od_n ko p = 9) (hd : d + 1 < 24) (hb : b + 1 < 24) (hn : np ≤ 32) (e1 : na d = nI p) (e2 : ph d = 1) (e3 : nu d = nI b) (h : post (cc, pc, lv, nI d, ke d, wh, ko, px, py, pz, wo, na, upd ph d 2, nu, go, ke, ib, re, cf, cg, cr)) : wpX_step post (cc, pc, lv, nI (d + 1), st, wh, ko, px, py, pz, wo, na, ph, nu, go, ke, ib, re, cf, cg, cr) (nI m) := by
  have hv : vp_in (nI d) 24 := vp_in_nI (by omega) (by decide)
  have hvp : vp_in (nI p) 32 := vp_in_nI hp (by decide)
  have hcd : (nI d).toNatClampNeg = d := nI_clamp (by omega)
  have hcp : (nI p).toNatClampNeg = p := nI_clamp (by omega)
  refine nm_r (e' := nI d) (nI_pred d) (And.intro hv (nm_r (e' := nI p) (by rw [hcd, e1]) (And.intro hvp (nm_r (e' := 9) (by rw [hcp]; exact od_kn hP hpn hk) (And.intro hv (nm_r (e' := 1) (by rw [hcd, e2]) (And.intro hv (And.intro hv (nm_r (e' := upd ph d 2) (by rw [hcd, e2, od_f12]) ?_)))))))))
  refine br_t (by decide) (br_f (by decide) (br_t rfl ?_))
  exact od_gr1 hm hc hp hpn hP hk hd e3 hb hc1 h
theorem od_xw2 {nc np p m : Nat} {M : Nat → Nat → Int64 → Int64} (hm : m < 4) (hc : nc ≤ 24) (hp : p < 32) (hpn : p < np) (hP : ∀ p, p < np → od_P nc wh ko px py pz wo M p) {post : SX → Prop} {b d : Nat} {nx : Int64} (hc1 : nx = od_ph (wh (od_n px p)) st (go d)) (hne : nx ≠ ke d) (hk : od_n ko p = 9) (hd : d + 1 < 24) (hb : b + 1 < 24) (hn : np ≤ 32) (e1 : na d = nI p) (e2 : ph d = 1) (e3 : nu d = nI b) (h : post (cc, pc, lv, nI (d + 2), nx, wh, ko, px, py, pz, wo, upd na (d + 1) (nI (od_n py p)), upd (upd (upd ph d 2) d 1) (d + 1) 0, upd nu (d + 1) (nI (b + 1)), vp_updL go (d + 1) nx, vp_updL ke d nx, ib, vp_updL re b nx, cf, cg, cr)) : wpX_step post (cc, pc, lv, nI (d + 1), st, wh, ko, px, py, pz, wo, na, ph, nu, go, ke, ib, re, cf, cg, cr) (nI m) := by
  have hv : vp_in (nI d) 24 := vp_in_nI (by omega) (by decide)
  have hvp : vp_in (nI p) 32 := vp_in_nI hp (by decide)
  have hcd : (nI d).toNatClampNeg = d := nI_clamp (by omega)
  have hcp : (nI p).toNatClampNeg = p := nI_clamp (by omega)
  refine nm_r (e' := nI d) (nI_pred d) (And.intro hv (nm_r (e' := nI p) (by rw [hcd, e1]) (And.intro hvp (nm_r (e' := 9) (by rw [hcp]; exact od_kn hP hpn hk) (And.intro hv (nm_r (e' := 1) (by rw [hcd, e2]) (And.intro hv (And.intro hv (nm_r (e' := upd ph d 2) (by rw [hcd, e2, od_f12]) ?_)))))))))
  refine br_t (by decide) (br_f (by decide) (br_t rfl ?_))
  exact od_gr2 hm hc hp hpn hP hk hd e3 hb hn hc1 hne h
end
end
section
/-! the component: map -/
def od_C (np : Nat) (M : Nat → Nat → Int64 → Int64) (cf : Nat → Int32) (cg cr : Nat → Int64) : Prop := ∀ k, k < 64 → cf k = nI (od_n cf k) ∧ od_n cf k < 1 + 4 * np ∧ ∀ p m, p < np → m < 4 → od_n cf k = 1 + 4 * p + m → cr k = M p m (cg k)
def od_X (nc np : Nat) (lv : Int32) (wh : Nat → Int64) (ko px py pz wo : Nat → Int32) (M : Nat → Nat → Int64 → Int64) (u : SX) : Prop := ∃ dp st na ph nu go ke ib re cf cg cr, u = (nI nc, nI np, lv, dp, st, wh, ko, px, py, pz, wo, na, ph, nu, go, ke, ib, re, cf, cg, cr) ∧ od_C np M cf cg cr
theorem od_sh' : ∀ k, k < 256 → (nI k).toInt16.toInt32 = nI k := by decide +kernel
theorem od_sh {k : Nat} (h : k < 256) : vp_nar .short (nI k).toInt16.toInt32 = nI k := by rw [pk_vs]; exact od_sh' k h
theorem od_slot (E : Int64) : ∃ k, k < 64 ∧ (E &&& 63).toInt32 = nI k := by
  obtain ⟨n, hn, e, _⟩ := cr_amt E
  exact ⟨n, hn, by rw [e, lN_i]⟩
theorem od_key (p m : Nat) : (1 : Int32) + 4 * nI p + nI m = nI (1 + 4 * p + m) := by
  show nI 1 + nI 4 * nI p + nI m = _
  rw [pk_mul, nI_add, nI_add]
theorem od_C_put {np : Nat} {M : Nat → Nat → Int64 → Int64} {cf : Nat → Int32} {cg cr : Nat → Int64} {k p m : Nat} {g : Int64} (h : od_C np M cf cg cr) (hp : p < np) (hm : m < 4) (hn : np ≤ 32) : od_C np M (upd cf k (nI (1 + 4 * p + m))) (vp_updL cg k g) (vp_updL cr k (M p m g)) := by
  intro j hj
  by_cases c : j = k
  · subst c
    have e : od_n (upd cf j (nI (1 + 4 * p + m))) j = 1 + 4 * p + m := by
      unfold od_n
      rw [pk_us, nI_clamp (by omega)]
    rw [e, pk_us, pk_uLs, pk_uLs]
    refine ⟨rfl, by omega, fun p' m' _ _ e2 => ?_⟩
    have a : p = p' := by omega
    have b : m = m' := by omega
    rw [a, b]
  · have e : od_n (upd cf k (nI (1 + 4 * p + m))) j = od_n cf j := by
      unfold od_n
      rw [pk_un c]
    rw [e, pk_un c, pk_uLn c, pk_uLn c]
    exact h j hj
section
variable {nc np m : Nat} {lv : Int32} {wh : Nat → Int64} {ko px py pz wo : Nat → Int32} {M : Nat → Nat → Int64 → Int64}
theorem od_gs {post : Int64 → SX → Prop} {x2 : Int64} {x4 x5 x6 cc pc : Int32} {d : Nat} {dp' : Int32} {st st' : Int64} {na ph nu na' ph' nu' : Nat → Int32} {go ke go' ke' : Nat → Int64} {ib ib' : Nat → Int32} {re re' : Nat → Int64} {cf : Nat → Int32} {cg cr : Nat → Int64} (hd : d < 100) (h : ∀ post' : SX → Prop, post' (cc, pc, lv, dp', st', wh, ko, px, py, pz, wo, na', ph', nu', go', ke', ib', re', cf, cg, cr) → wpX_step post' (cc, pc, lv, nI (d + 1), st, wh, ko, px, py, pz, wo, na, ph, nu, go, ke, ib, re, cf, cg, cr) x4) (g : ∃ n, wX_map_115 post x2 x4 x5 x6 n cc pc lv dp' st' wh ko px py pz wo na' ph' nu' go' ke' ib' re' cf cg cr) : ∃ n, wX_map_115 post x2 x4 x5 x6 n cc pc lv (nI (d + 1)) st wh ko px py pz wo na ph nu go ke ib re cf cg cr := by
  obtain ⟨n, hn⟩ := g
  exact ⟨n + 1, br_f (nI_nle (by omega) (by omega)) (h _ hn)⟩
theorem od_RX {post : Int64 → SX → Prop} {x2 : Int64} {x5 x6 cc pc : Int32} {cf : Nat → Int32} {cg cr : Nat → Int64} (hm : m < 4) (hc : nc ≤ 24) (hn : np ≤ 32) (hP : ∀ p, p < np → od_P nc wh ko px py pz wo M p) : od_R np wh ko px py pz wo M m (fun d st na ph nu go ke ib re => ∃ n, wX_map_115 post x2 (nI m) x5 x6 n cc pc lv (nI d) st wh ko px py pz wo na ph nu go ke ib re cf cg cr) := by
  refine ⟨?_, ?_, ?_, ?_, ?_, ?_, ?_, ?_, ?_, ?_⟩
  · intro p d st na ph nu go ke ib re hp hk hd e1 e2 g
    exact od_gs (by omega) (fun post' h => od_xl hm hc (by omega) hp hP hk hd e1 e2 h) g
  · intro p b d st na ph nu go ke ib re hp hk hd hb e1 e2 e3 g
    exact od_gs (by omega) (fun post' h => od_x60 hm hc (by omega) hp hP hk hd hb hn e1 e2 e3 h) g
  · intro p b d st na ph nu go ke ib re hp hk hd hb e1 e2 e3 g
    exact od_gs (by omega) (fun post' h => od_x61 hm hc (by omega) hp hP hk hd hb hn e1 e2 e3 h) g
  · intro p d st na ph nu go ke ib re hp hk hd e1 e2 g
    exact od_gs (by omega) (fun post' h => od_x62 hm hc (by omega) hp hP hk hd e1 e2 h) g
  · intro p b d st na ph nu go ke ib re hp hk hd hb e1 e2 e3 g
    exact od_gs (by omega) (fun post' h => od_xb0 hm hc (by omega) hp hP hk hd hb hn e1 e2 e3 h) g
  · intro p b d st na ph nu go ke ib re hp hk hd hb e1 e2 e3 g
    exact od_gs (by omega) (fun post' h => od_xb1 hm hc (by omega) hp hP hk hd hb hn e1 e2 e3 h) g
  · intro p d st na ph nu go ke ib re hp hk hd e1 e2 g
    exact od_gs (by omega) (fun post' h => od_xb2 hm hc (by omega) hp hP hk hd e1 e2 h) g
  · intro p b d st na ph nu go ke ib re r hp hk hd hb e1 e2 e3 hr g
    exact od_gs (by omega) (fun post' h => od_xw0 hm hc (by omega) hp hP hr hk hd hb hn e1 e2 e3 h) g
  · intro p b d st na ph nu go ke ib re hp hk hd hb e1 e2 e3 hr g
    exact od_gs (by omega) (fun post' h => od_xw1 hm hc (by omega) hp hP hr hk hd hb hn e1 e2 e3 h) g
  · intro p b d st nx na ph nu go ke ib re hp hk hd hb e1 e2 e3 hr hne g
    exact od_gs (by omega) (fun post' h => od_xw2 hm hc (by omega) hp hP hr hne hk hd hb hn e1 e2 e3 h) g
theorem od_88 {post : Int64 → SX → Prop} {x1 : Int32} {x2 : Int64} {x4 x5 x6 cc pc dp : Int32} {st : Int64} {na ph nu : Nat → Int32} {go ke : Nat → Int64} {re : Nat → Int64} {cf : Nat → Int32} {cg cr : Nat → Int64} (h : ∀ ib : Nat → Int32, (∀ t, t < 24 → ib t = 0) → wpX_enter (fun u => match u with | (cc1, pc1, lv1, dp1, st1, wh1, ko1, px1, py1, pz1, wo1, na1, ph1, nu1, go1, ke1, ib1, re1, cf1, cg1, cr1) => ∃ n, wX_map_115 post x2 x4 x5 x6 n cc1 pc1 lv1 dp1 st1 wh1 ko1 px1 py1 pz1 wo1 na1 ph1 nu1 go1 ke1 ib1 re1 cf1 cg1 cr1) (cc, pc, lv, dp, st, wh, ko, px, py, pz, wo, na, ph, nu, go, ke, ib, re, cf, cg, cr) x1 0) : ∀ k i (ib : Nat → Int32), i + k = 24 → (∀ t, t < i → ib t = 0) → wX_map_88 post x1 x2 x4 x5 x6 cc pc lv dp st (k + 1) (nI i) wh ko px py pz wo na ph nu go ke ib re cf cg cr := by
  intro k
  induction k with
  | zero =>
    intro i ib hi hz
    have hi' : i = 24 := by omega
    subst hi'
    exact br_t (by decide) (h ib hz)
  | succ k ih =>
    intro i ib hi hz
    have hv : vp_in (nI i) 24 := vp_in_nI (by omega) (by decide)
    refine br_f (nI_ge (b := 24) (by omega) (by decide)) (And.intro hv (nm_r (e' := upd ib i 0) (by rw [nI_clamp (by omega), od_bo0]) (nm_r (nI_1 i) (ih (i + 1) _ (by omega) (fun t ht => ?_)))))
    by_cases c : t = i
    · subst c; exact pk_us
    · rw [pk_un c]; exact hz t (by omega)
theorem od_75 {post : Int64 → SX → Prop} {p k : Nat} {g : Int64} {dp : Int32} {st : Int64} {na ph nu : Nat → Int32} {go ke : Nat → Int64} {ib : Nat → Int32} {re : Nat → Int64} {cf : Nat → Int32} {cg cr : Nat → Int64} (hm : m < 4) (hc : nc ≤ 24) (hn : np ≤ 32) (hp : p < np) (hk : k < 64) (hP : ∀ p, p < np → od_P nc wh ko px py pz wo M p) (hM : ∀ p g g', od_le m g g' → od_le m (M p m g) (M p m g')) (hC : od_C np M cf cg cr) (h : ∀ u', od_X nc np lv wh ko px py pz wo M u' → post (M p m g) u') : wX_map_75 post (nI p) g (nI m) (nI (1 + 4 * p + m)) (nI k) (nI nc) (nI np) lv dp st wh ko px py pz wo na ph nu go ke ib re cf cg cr := by
  have hvk : vp_in (nI k) 64 := vp_in_nI hk (by decide)
  have hck : (nI k).toNatClampNeg = k := nI_clamp (by omega)
  have hw := (hP p hp).2.2.2.2.1
  refine ⟨25, od_88 (fun ib hib => ?_) 24 0 ib rfl (fun t ht => absurd ht (Nat.not_lt_zero t))⟩
  refine od_enter (d := 0) (a := p) (b := 0) (by decide) (by omega) (by decide) rfl rfl ?_
  refine od_EV (nc := nc) hP hM hm (od_RX (post := post) (x2 := g) (x5 := nI (1 + 4 * p + m)) (x6 := nI k) (lv := lv) (cc := nI nc) (pc := nI np) (cf := cf) (cg := cg) (cr := cr) hm hc hn hP) (p + 1) p 0 0 g _ _ _ _ _ _ _ (by omega) hp (by omega) (by omega) pk_us pk_us pk_us pk_uLs (od_wm_0 hP _ _ _ _ hp (fun j _ hj => hib j (by omega))) ?_
  intro na' ph' nu' go' ke' ib' re' _ _ _
  refine ⟨1, br_t (by decide) (And.intro hvk (nm_r (e' := upd cf k (nI (1 + 4 * p + m))) (by rw [hck, od_sh (by omega)]) (And.intro hvk (nm_r (e' := vp_updL cg k g) (by rw [hck]) (And.intro hvk (nm_r (e' := vp_updL cr k (M p m g)) (by rw [hck]) ?_))))))⟩
  exact h _ ⟨_, _, _, _, _, _, _, _, _, _, _, _, rfl, od_C_put hC hp hm hn⟩
theorem od_map {post : Int64 → SX → Prop} {p : Nat} {g : Int64} {u : SX} (hm : m < 4) (hc : nc ≤ 24) (hn : np ≤ 32) (hp : p < np) (hP : ∀ p, p < np → od_P nc wh ko px py pz wo M p) (hM : ∀ p g g', od_le m g g' → od_le m (M p m g) (M p m g')) (hX : od_X nc np lv wh ko px py pz wo M u) (h : ∀ u', od_X nc np lv wh ko px py pz wo M u' → post (M p m g) u') : wpX_map post u (nI p) g (nI m) := by
  have hX' := hX
  obtain ⟨dp, st, na, ph, nu, go, ke, ib, re, cf, cg, cr, eu, hC⟩ := hX
  have hu := h u hX'
  subst eu
  obtain ⟨k, hk, ek⟩ := od_slot (((g * 31) + ((g.toUInt64 >>> ((29 : Int32).toInt64.toUInt64 &&& Int64.toUInt64 63)).toInt64)) + ((nI (1 + 4 * p + m)).toInt64 * 7))
  have hvk : vp_in (nI k) 64 := vp_in_nI hk (by decide)
  have hck : (nI k).toNatClampNeg = k := nI_clamp (by omega)
  have h75 : wX_map_75 post (nI p) g (nI m) (nI (1 + 4 * p + m)) (nI k) (nI nc) (nI np) lv dp st wh ko px py pz wo na ph nu go ke ib re cf cg cr := od_75 hm hc hn hp hk hP hM hC h
  refine nm_r (e' := nI (1 + 4 * p + m)) (od_key p m) (nm_r (e' := nI k) ek ?_)
  refine br_c (fun _ => And.intro hvk ?_) (fun _ => h75)
  refine br_c (fun c1 => And.intro hvk ?_) (fun _ => h75)
  refine br_c (fun c2 => And.intro hvk ?_) (fun _ => h75)
  rw [hck] at c1 c2 ⊢
  have e : od_n cf k = 1 + 4 * p + m := by
    unfold od_n
    rw [c1, nI_clamp (by omega)]
  rw [(hC k hk).2.2 p m hp hm e, c2]
  exact hu
end
end
section
/-! what the reference's tables hold for a new program, and the law that follows -/
def od_BR (ho : Nat → Int32) (en : Nat → Int64) (c y s : Nat) (B R : Nat → Prop) : Prop :=
  B s ∧ (∀ t, t < 64 → B t → ho (64 * c + t) ≠ 0 → ∀ u, u < 64 → od_b (en (64 * y + t)) u = true → B u)
  ∧ (∀ C : Nat → Prop, C s → (∀ t, t < 64 → C t → ho (64 * c + t) ≠ 0 → ∀ u, u < 64 → od_b (en (64 * y + t)) u = true → C u) → ∀ t, t < 64 → B t → C t)
  ∧ (∀ t, t < 64 → R t → B t ∧ ho (64 * c + t) ≠ 0 ∧ ∃ u, u < 64 ∧ od_b (en (64 * y + t)) u = true ∧ R u)
  ∧ (∀ Q : Nat → Prop, (∀ t, t < 64 → Q t → B t ∧ ho (64 * c + t) ≠ 0 ∧ ∃ u, u < 64 ∧ od_b (en (64 * y + t)) u = true ∧ Q u) → ∀ t, t < 64 → Q t → R t)
def od_Ob (ho : Nat → Int32) (en : Nat → Int64) (fa nl : Nat → Int32) (x y z s : Nat) (e : Int64) (f l : Int32) : Nat → Prop
  | 0 => e = od_1 s ∧ f = 0 ∧ l = 0
  | 1 => e = 0 ∧ f = 1 ∧ l = 0
  | 2 => e = od_1 (od_to s x (od_v s y z)) ∧ f = 0 ∧ l = 0
  | 3 => (∀ t, t < 64 → (od_b e t = true ↔ ∃ v, v < 4 ∧ t = od_to s x v)) ∧ f = 0 ∧ l = 0
  | 4 => e = (if ho (64 * x + s) = 0 then 0 else od_1 s) ∧ f = 0 ∧ l = 0
  | 5 => e = (if ho (64 * x + s) = 0 then 0 else od_1 s) ∧ f = (if ho (64 * x + s) = 0 then 1 else 0) ∧ l = 0
  | 6 => (∀ t, t < 64 → (od_b e t = true ↔ ∃ u, u < 64 ∧ od_b (en (64 * x + s)) u = true ∧ od_b (en (64 * y + u)) t = true)) ∧ (f ≠ 0 ↔ fa (64 * x + s) ≠ 0 ∨ ∃ u, u < 64 ∧ od_b (en (64 * x + s)) u = true ∧ fa (64 * y + u) ≠ 0) ∧ (l ≠ 0 ↔ nl (64 * x + s) ≠ 0 ∨ ∃ u, u < 64 ∧ od_b (en (64 * x + s)) u = true ∧ nl (64 * y + u) ≠ 0)
  | 7 => e = en (64 * (if ho (64 * x + s) = 0 then z else y) + s) ∧ (f ≠ 0 ↔ fa (64 * (if ho (64 * x + s) = 0 then z else y) + s) ≠ 0) ∧ (l ≠ 0 ↔ nl (64 * (if ho (64 * x + s) = 0 then z else y) + s) ≠ 0)
  | 8 => e = (en (64 * x + s) ||| en (64 * y + s)) ∧ (f ≠ 0 ↔ fa (64 * x + s) ≠ 0 ∨ fa (64 * y + s) ≠ 0) ∧ (l ≠ 0 ↔ nl (64 * x + s) ≠ 0 ∨ nl (64 * y + s) ≠ 0)
  | 9 => ∃ B R : Nat → Prop, od_BR ho en x y s B R ∧ (∀ t, t < 64 → (od_b e t = true ↔ B t ∧ ho (64 * x + t) = 0)) ∧ (f ≠ 0 ↔ ∃ t, t < 64 ∧ B t ∧ ho (64 * x + t) ≠ 0 ∧ fa (64 * y + t) ≠ 0) ∧ (l ≠ 0 ↔ ∃ t, t < 64 ∧ B t ∧ ho (64 * x + t) ≠ 0 ∧ (nl (64 * y + t) ≠ 0 ∨ R t))
  | _ => False
def od_O (ho : Nat → Int32) (en : Nat → Int64) (fa nl : Nat → Int32) (x y z s : Nat) (e : Int64) (f l : Int32) (K : Nat) : Prop := (f = 0 ∨ f = 1) ∧ (l = 0 ∨ l = 1) ∧ od_Ob ho en fa nl x y z s e f l K
theorem od_mp_1 {a m : Nat} {g : Int64} (ha : a < 64) : od_mp (od_1 a) 0 0 m g ↔ od_b g a = true := by
  constructor
  · intro h
    rcases h with ⟨t, ht, h1, h2⟩ | ⟨_, h⟩ | ⟨_, h⟩
    · rw [od_b1 ha] at h1
      have := of_decide_eq_true h1
      subst this
      exact h2
    · exact absurd rfl h
    · exact absurd rfl h
  · intro h
    exact Or.inl ⟨a, ha, by rw [od_b1 ha]; exact decide_eq_true rfl, h⟩
theorem od_mp_0 {f : Int32} {m : Nat} {g : Int64} : od_mp 0 f 0 m g ↔ (m % 2 = 1 ∧ f ≠ 0) := by
  constructor
  · intro h
    rcases h with ⟨t, ht, h1, h2⟩ | h | ⟨_, h⟩
    · rw [od_b0] at h1; exact absurd h1 (by decide)
    · exact h
    · exact absurd rfl h
  · intro h
    exact Or.inr (Or.inl h)
section
variable {nc np : Nat} {wh : Nat → Int64} {ho : Nat → Int32} {en : Nat → Int64} {fa nl : Nat → Int32}
theorem od_leafb (hH : ∀ c, c < nc → ∀ s, s < 64 → (od_b (wh c) s = true ↔ ho (64 * c + s) ≠ 0)) {K x y z s m : Nat} {e g : Int64} {f l : Int32} (hK : K < 6) (hs : s < 64) (h2 : K = 2 → x < 3 ∧ y < 4 ∧ z < 4) (h3 : K = 3 → x < 3) (h45 : K = 4 ∨ K = 5 → x < nc) (h : od_Ob ho en fa nl x y z s e f l K) : od_mp e f l m g ↔ od_b (od_lf wh K x y z m g) s = true := by
  have hK' : K = 0 ∨ K = 1 ∨ K = 2 ∨ K = 3 ∨ K = 4 ∨ K = 5 := by omega
  rcases hK' with k | k | k | k | k | k <;> subst k
  · obtain ⟨rfl, rfl, rfl⟩ := h
    exact od_mp_1 hs
  · obtain ⟨rfl, rfl, rfl⟩ := h
    rw [od_mp_0]
    show _ ↔ od_b (if m % 2 = 1 then -1 else 0) s = true
    by_cases c : m % 2 = 1
    · rw [if_pos c, od_bm1 hs]
      exact ⟨fun _ => rfl, fun _ => ⟨c, by decide⟩⟩
    · rw [if_neg c, od_b0]
      exact ⟨fun z => absurd z.1 c, fun z => absurd z (by decide)⟩
  · obtain ⟨rfl, rfl, rfl⟩ := h
    obtain ⟨hx, hy, hz⟩ := h2 rfl
    have hv := (od_v_ok y hy z hz s hs).1
    rw [od_mp_1 (od_to_ok x hx _ hv s hs).1]
    show _ ↔ od_b (od_mk _) s = true
    rw [od_mkb _ hs]
  · obtain ⟨he, rfl, rfl⟩ := h
    have hx := h3 rfl
    show _ ↔ od_b (od_mk _) s = true
    rw [od_mkb _ hs, Bool.or_eq_true, Bool.or_eq_true, Bool.or_eq_true]
    constructor
    · intro h
      rcases h with ⟨t, ht, h1, h2⟩ | ⟨_, h⟩ | ⟨_, h⟩
      · obtain ⟨v, hv, rfl⟩ := (he t ht).mp h1
        have hv' : v = 0 ∨ v = 1 ∨ v = 2 ∨ v = 3 := by omega
        rcases hv' with k | k | k | k <;> subst k
        · exact Or.inl (Or.inl h2)
        · exact Or.inl (Or.inr h2)
        · exact Or.inr (Or.inl h2)
        · exact Or.inr (Or.inr h2)
      · exact absurd rfl h
      · exact absurd rfl h
    · intro h
      have q : ∀ v, v < 4 → od_b g (od_to s x v) = true → od_mp e 0 0 m g := fun v hv hg => Or.inl ⟨_, (od_to_ok x hx v hv s hs).1, (he _ (od_to_ok x hx v hv s hs).1).mpr ⟨v, hv, rfl⟩, hg⟩
      rcases h with (h | h) | (h | h)
      · exact q 0 (by decide) h
      · exact q 1 (by decide) h
      · exact q 2 (by decide) h
      · exact q 3 (by decide) h
  · obtain ⟨he, rfl, rfl⟩ := h
    have hw := hH x (h45 (Or.inl rfl)) s hs
    show _ ↔ od_b (g &&& wh x) s = true
    rw [od_band, Bool.and_eq_true, hw]
    by_cases c : ho (64 * x + s) = 0
    · rw [if_pos c] at he
      subst he
      rw [od_mp_0]
      exact ⟨fun z => absurd rfl z.2, fun z => absurd c z.2⟩
    · rw [if_neg c] at he
      subst he
      rw [od_mp_1 hs]
      exact ⟨fun z => ⟨z, c⟩, fun z => z.1⟩
  · obtain ⟨he, hf, rfl⟩ := h
    have hw := hH x (h45 (Or.inr rfl)) s hs
    show _ ↔ od_b ((g &&& wh x) ||| (if m % 2 = 1 then wh x ^^^ (-1) else 0)) s = true
    rw [od_bor, Bool.or_eq_true, od_band, Bool.and_eq_true, hw]
    by_cases c : ho (64 * x + s) = 0
    · rw [if_pos c] at he hf
      subst he hf
      have hw' : od_b (wh x) s = false := od_bT (fun z => hw.mp z c)
      rw [od_mp_0]
      by_cases c2 : m % 2 = 1
      · rw [if_pos c2, od_bnot _ hs, hw']
        exact ⟨fun _ => Or.inr rfl, fun _ => ⟨c2, by decide⟩⟩
      · rw [if_neg c2, od_b0]
        exact ⟨fun z => absurd z.1 c2, fun z => z.elim (fun q => absurd c q.2) (fun q => absurd q (by decide))⟩
    · rw [if_neg c] at he hf
      subst he hf
      have hw' : od_b (wh x) s = true := hw.mpr c
      rw [od_mp_1 hs]
      refine ⟨fun z => Or.inl ⟨z, c⟩, fun z => z.elim (fun q => q.1) (fun q => ?_)⟩
      by_cases c2 : m % 2 = 1
      · rw [if_pos c2, od_bnot _ hs, hw'] at q; exact absurd q (by decide)
      · rw [if_neg c2, od_b0] at q; exact absurd q (by decide)
theorem od_b6 {x y z s m : Nat} {e g : Int64} {f l : Int32} (hs : s < 64) (h : od_Ob ho en fa nl x y z s e f l 6) : od_mp e f l m g ↔ od_b (od_M en fa nl x m (od_M en fa nl y m g)) s = true := by
  obtain ⟨he, hf, hl⟩ := h
  rw [od_Mb hs]
  constructor
  · intro h
    rcases h with ⟨t, ht, h1, h2⟩ | ⟨c, h⟩ | ⟨c, h⟩
    · obtain ⟨u, hu, h3, h4⟩ := (he t ht).mp h1
      exact Or.inl ⟨u, hu, h3, (od_Mb hu).mpr (Or.inl ⟨t, ht, h4, h2⟩)⟩
    · rcases hf.mp h with h | ⟨u, hu, h3, h4⟩
      · exact Or.inr (Or.inl ⟨c, h⟩)
      · exact Or.inl ⟨u, hu, h3, (od_Mb hu).mpr (Or.inr (Or.inl ⟨c, h4⟩))⟩
    · rcases hl.mp h with h | ⟨u, hu, h3, h4⟩
      · exact Or.inr (Or.inr ⟨c, h⟩)
      · exact Or.inl ⟨u, hu, h3, (od_Mb hu).mpr (Or.inr (Or.inr ⟨c, h4⟩))⟩
  · intro h
    rcases h with ⟨u, hu, h3, h⟩ | ⟨c, h⟩ | ⟨c, h⟩
    · rcases (od_Mb hu).mp h with ⟨t, ht, h4, h2⟩ | ⟨c, h4⟩ | ⟨c, h4⟩
      · exact Or.inl ⟨t, ht, (he t ht).mpr ⟨u, hu, h3, h4⟩, h2⟩
      · exact Or.inr (Or.inl ⟨c, hf.mpr (Or.inr ⟨u, hu, h3, h4⟩)⟩)
      · exact Or.inr (Or.inr ⟨c, hl.mpr (Or.inr ⟨u, hu, h3, h4⟩)⟩)
    · exact Or.inr (Or.inl ⟨c, hf.mpr (Or.inl h)⟩)
    · exact Or.inr (Or.inr ⟨c, hl.mpr (Or.inl h)⟩)
theorem od_b7 (hH : ∀ c, c < nc → ∀ s, s < 64 → (od_b (wh c) s = true ↔ ho (64 * c + s) ≠ 0)) {x y z s m : Nat} {e g : Int64} {f l : Int32} (hx : x < nc) (hs : s < 64) (h : od_Ob ho en fa nl x y z s e f l 7) : od_mp e f l m g ↔ od_b (od_ph (wh x) (od_M en fa nl y m g) (od_M en fa nl z m g)) s = true := by
  obtain ⟨he, hf, hl⟩ := h
  have hw := hH x hx s hs
  rw [od_phb _ _ _ hs]
  have key : ∀ q, e = en (64 * q + s) → (f ≠ 0 ↔ fa (64 * q + s) ≠ 0) → (l ≠ 0 ↔ nl (64 * q + s) ≠ 0) → (od_mp e f l m g ↔ od_b (od_M en fa nl q m g) s = true) := by
    intro q h1 h2 h3
    rw [od_Mb hs]
    unfold od_mp
    rw [h1, h2, h3]
  by_cases c : ho (64 * x + s) = 0
  · rw [if_pos c] at he hf hl
    rw [if_neg (fun z => hw.mp z c)]
    exact key z he hf hl
  · rw [if_neg c] at he hf hl
    rw [if_pos (hw.mpr c)]
    exact key y he hf hl
theorem od_b8 {x y z s m : Nat} {e g : Int64} {f l : Int32} (hs : s < 64) (h : od_Ob ho en fa nl x y z s e f l 8) : od_mp e f l m g ↔ od_b (od_M en fa nl y m g ||| od_M en fa nl x m g) s = true := by
  obtain ⟨he, hf, hl⟩ := h
  rw [od_bor, Bool.or_eq_true, od_Mb hs, od_Mb hs]
  subst he
  constructor
  · intro h
    rcases h with ⟨t, ht, h1, h2⟩ | ⟨c, h⟩ | ⟨c, h⟩
    · rw [od_bor, Bool.or_eq_true] at h1
      rcases h1 with h1 | h1
      · exact Or.inr (Or.inl ⟨t, ht, h1, h2⟩)
      · exact Or.inl (Or.inl ⟨t, ht, h1, h2⟩)
    · rcases hf.mp h with h | h
      · exact Or.inr (Or.inr (Or.inl ⟨c, h⟩))
      · exact Or.inl (Or.inr (Or.inl ⟨c, h⟩))
    · rcases hl.mp h with h | h
      · exact Or.inr (Or.inr (Or.inr ⟨c, h⟩))
      · exact Or.inl (Or.inr (Or.inr ⟨c, h⟩))
  · intro h
    rcases h with (⟨t, ht, h1, h2⟩ | ⟨c, h⟩ | ⟨c, h⟩) | (⟨t, ht, h1, h2⟩ | ⟨c, h⟩ | ⟨c, h⟩)
    · exact Or.inl ⟨t, ht, by rw [od_bor, h1, Bool.or_true], h2⟩
    · exact Or.inr (Or.inl ⟨c, hf.mpr (Or.inr h)⟩)
    · exact Or.inr (Or.inr ⟨c, hl.mpr (Or.inr h)⟩)
    · exact Or.inl ⟨t, ht, by rw [od_bor, h1, Bool.true_or], h2⟩
    · exact Or.inr (Or.inl ⟨c, hf.mpr (Or.inl h)⟩)
    · exact Or.inr (Or.inr ⟨c, hl.mpr (Or.inl h)⟩)
/-- what a loop's state says, by a witness among the begun states -/
def od_wt (ho : Nat → Int32) (fa nl : Nat → Int32) (c y m : Nat) (g : Int64) (B R : Nat → Prop) : Prop := ∃ t, t < 64 ∧ B t ∧ ((ho (64 * c + t) = 0 ∧ od_b g t = true) ∨ (ho (64 * c + t) ≠ 0 ∧ ((m % 2 = 1 ∧ fa (64 * y + t) ≠ 0) ∨ (2 ≤ m ∧ (nl (64 * y + t) ≠ 0 ∨ R t)))))
theorem od_wt_of {x y s m : Nat} {e g : Int64} {f l : Int32} {B R : Nat → Prop} (he : ∀ t, t < 64 → (od_b e t = true ↔ B t ∧ ho (64 * x + t) = 0)) (hf : f ≠ 0 ↔ ∃ t, t < 64 ∧ B t ∧ ho (64 * x + t) ≠ 0 ∧ fa (64 * y + t) ≠ 0) (hl : l ≠ 0 ↔ ∃ t, t < 64 ∧ B t ∧ ho (64 * x + t) ≠ 0 ∧ (nl (64 * y + t) ≠ 0 ∨ R t)) : od_mp e f l m g ↔ od_wt ho fa nl x y m g B R := by
  constructor
  · intro h
    rcases h with ⟨t, ht, h1, h2⟩ | ⟨c, h⟩ | ⟨c, h⟩
    · obtain ⟨h3, h4⟩ := (he t ht).mp h1
      exact ⟨t, ht, h3, Or.inl ⟨h4, h2⟩⟩
    · obtain ⟨t, ht, h3, h4, h5⟩ := hf.mp h
      exact ⟨t, ht, h3, Or.inr ⟨h4, Or.inl ⟨c, h5⟩⟩⟩
    · obtain ⟨t, ht, h3, h4, h5⟩ := hl.mp h
      exact ⟨t, ht, h3, Or.inr ⟨h4, Or.inr ⟨c, h5⟩⟩⟩
  · intro h
    obtain ⟨t, ht, h3, h⟩ := h
    rcases h with ⟨h4, h2⟩ | ⟨h4, ⟨c, h5⟩ | ⟨c, h5⟩⟩
    · exact Or.inl ⟨t, ht, (he t ht).mpr ⟨h3, h4⟩, h2⟩
    · exact Or.inr (Or.inl ⟨c, hf.mpr ⟨t, ht, h3, h4, h5⟩⟩)
    · exact Or.inr (Or.inr ⟨c, hl.mpr ⟨t, ht, h3, h4, h5⟩⟩)
theorem od_b9 (hH : ∀ c, c < nc → ∀ s, s < 64 → (od_b (wh c) s = true ↔ ho (64 * c + s) ≠ 0)) {x y z m : Nat} {E : Nat → Int64} {F L : Nat → Int32} (hx : x < nc) (h : ∀ s, s < 64 → od_Ob ho en fa nl x y z s (E s) (F s) (L s) 9) (g T : Int64) (hT : ∀ s, s < 64 → (od_b T s = true ↔ od_mp (E s) (F s) (L s) m g)) : T = od_ph (wh x) (od_M en fa nl y m T) g ∧ ∀ S, od_le m (od_ph (wh x) (od_M en fa nl y m S) g) S → od_le m T S := by
  have hB : ∃ B R : Nat → Nat → Prop, ∀ s, s < 64 → od_BR ho en x y s (B s) (R s) ∧ (od_b T s = true ↔ od_wt ho fa nl x y m g (B s) (R s)) := by
    have hs : ∀ s, ∃ BR : (Nat → Prop) × (Nat → Prop), s < 64 → od_BR ho en x y s BR.1 BR.2 ∧ (od_b T s = true ↔ od_wt ho fa nl x y m g BR.1 BR.2) := by
      intro s
      by_cases c : s < 64
      · obtain ⟨B, R, h1, h2, h3, h4⟩ := h s c
        exact ⟨(B, R), fun _ => ⟨h1, (hT s c).trans (od_wt_of (s := s) h2 h3 h4)⟩⟩
      · exact ⟨(fun _ => True, fun _ => True), fun z => absurd z c⟩
    obtain ⟨f, hf⟩ := Classical.axiomOfChoice hs
    exact ⟨fun s => (f s).1, fun s => (f s).2, hf⟩
  obtain ⟨B, R, hBR⟩ := hB
  have hw := hH x hx
  -- the states begun from a successor are begun from here
  have sub : ∀ s, s < 64 → ∀ u, u < 64 → B s u → (∀ t, t < 64 → B u t → B s t) ∧ (∀ t, t < 64 → R u t → R s t) := by
    intro s hs u hu hb
    obtain ⟨⟨s1, s2, s3, s4, s5⟩, _⟩ := hBR s hs
    obtain ⟨⟨u1, u2, u3, u4, u5⟩, _⟩ := hBR u hu
    have a : ∀ t, t < 64 → B u t → B s t := u3 (B s) hb s2
    exact ⟨a, s5 (R u) (fun t ht hr => ⟨a t ht (u4 t ht hr).1, (u4 t ht hr).2⟩)⟩
  have par : ∀ s, s < 64 → ∀ u, u < 64 → B s u → ∀ t, t < 64 → B u t → R s t → R u t := by
    intro s hs u hu hb t ht hut hr
    obtain ⟨⟨s1, s2, s3, s4, s5⟩, _⟩ := hBR s hs
    obtain ⟨⟨u1, u2, u3, u4, u5⟩, _⟩ := hBR u hu
    refine u5 (fun t => R s t ∧ B u t) (fun t ht q => ?_) t ht ⟨hr, hut⟩
    obtain ⟨q1, q2, w, hw1, hw2, hw3⟩ := s4 t ht q.1
    exact ⟨q.2, q2, w, hw1, hw2, hw3, u2 t ht q.2 q2 w hw1 hw2⟩
  have dec : ∀ s, s < 64 → ho (64 * x + s) ≠ 0 → ∀ t, t < 64 → B s t → t = s ∨ ∃ u, u < 64 ∧ od_b (en (64 * y + s)) u = true ∧ B u t := by
    intro s hs hh
    obtain ⟨⟨s1, s2, s3, s4, s5⟩, _⟩ := hBR s hs
    refine s3 _ (Or.inl rfl) (fun t ht q hq u hu hb => ?_)
    rcases q with q | ⟨w, hw1, hw2, hw3⟩
    · subst q
      exact Or.inr ⟨u, hu, hb, (hBR u hu).1.1⟩
    · exact Or.inr ⟨w, hw1, hw2, (hBR w hw1).1.2.1 t ht hw3 hq u hu hb⟩
  have one : ∀ s, s < 64 → ho (64 * x + s) = 0 → ∀ t, t < 64 → B s t → t = s := by
    intro s hs hh
    obtain ⟨⟨s1, s2, s3, s4, s5⟩, _⟩ := hBR s hs
    refine s3 _ rfl (fun t ht q hq u hu hb => ?_)
    subst q
    exact absurd hh hq
  have step : ∀ s, s < 64 → ho (64 * x + s) ≠ 0 → ∀ u, u < 64 → od_b (en (64 * y + s)) u = true → B s u := by
    intro s hs hh u hu hb
    obtain ⟨⟨s1, s2, s3, s4, s5⟩, _⟩ := hBR s hs
    exact s2 s hs s1 hh u hu hb
  refine ⟨?_, ?_⟩
  · apply od_bxT
    intro s hs
    rw [od_phb _ _ _ hs, (hBR s hs).2]
    by_cases c : ho (64 * x + s) = 0
    · rw [if_neg (fun z => (hw s hs).mp z c)]
      constructor
      · intro ⟨t, ht, hb, q⟩
        have := one s hs c t ht hb
        subst this
        rcases q with q | q
        · exact q.2
        · exact absurd c q.1
      · intro q
        exact ⟨s, hs, (hBR s hs).1.1, Or.inl ⟨c, q⟩⟩
    · rw [if_pos ((hw s hs).mpr c), od_Mb hs]
      constructor
      · intro ⟨t, ht, hb, q⟩
        rcases dec s hs c t ht hb with e | ⟨u, hu, hb2, hut⟩
        · subst e
          rcases q with q | ⟨_, q | ⟨c2, q⟩⟩
          · exact absurd q.1 c
          · exact Or.inr (Or.inl q)
          · rcases q with q | q
            · exact Or.inr (Or.inr ⟨c2, q⟩)
            · obtain ⟨_, _, u, hu, hb2, hr⟩ := (hBR t ht).1.2.2.2.1 t ht q
              have bu : B t u := step t ht c u hu hb2
              have ru : R u u := par t ht u hu bu u hu (hBR u hu).1.1 hr
              refine Or.inl ⟨u, hu, hb2, (hBR u hu).2.mpr ⟨u, hu, (hBR u hu).1.1, Or.inr ⟨((hBR u hu).1.2.2.2.1 u hu ru).2.1, Or.inr ⟨c2, Or.inr ru⟩⟩⟩⟩
        · have bu : B s u := step s hs c u hu hb2
          refine Or.inl ⟨u, hu, hb2, (hBR u hu).2.mpr ⟨t, ht, hut, ?_⟩⟩
          rcases q with q | ⟨q0, q | ⟨c2, q⟩⟩
          · exact Or.inl q
          · exact Or.inr ⟨q0, Or.inl q⟩
          · refine Or.inr ⟨q0, Or.inr ⟨c2, ?_⟩⟩
            rcases q with q | q
            · exact Or.inl q
            · exact Or.inr (par s hs u hu bu t ht hut q)
      · intro q
        rcases q with ⟨u, hu, hb2, q⟩ | ⟨c2, q⟩ | ⟨c2, q⟩
        · obtain ⟨t, ht, hut, q⟩ := (hBR u hu).2.mp q
          have bu : B s u := step s hs c u hu hb2
          obtain ⟨a1, a2⟩ := sub s hs u hu bu
          refine ⟨t, ht, a1 t ht hut, ?_⟩
          rcases q with q | ⟨q0, q | ⟨c2, q⟩⟩
          · exact Or.inl q
          · exact Or.inr ⟨q0, Or.inl q⟩
          · refine Or.inr ⟨q0, Or.inr ⟨c2, ?_⟩⟩
            rcases q with q | q
            · exact Or.inl q
            · exact Or.inr (a2 t ht q)
        · exact ⟨s, hs, (hBR s hs).1.1, Or.inr ⟨c, Or.inl ⟨c2, q⟩⟩⟩
        · exact ⟨s, hs, (hBR s hs).1.1, Or.inr ⟨c, Or.inr ⟨c2, Or.inl q⟩⟩⟩
  · intro S hS
    unfold od_le at hS ⊢
    by_cases c2 : m < 2
    · rw [if_pos c2] at hS ⊢
      intro s hs q
      obtain ⟨t, ht, hb, q⟩ := (hBR s hs).2.mp q
      have back : od_b S t = true → od_b S s = true := by
        refine (hBR s hs).1.2.2.1 (fun t => od_b S t = true → od_b S s = true) (fun z => z) (fun t ht q hq u hu hb z => q (hS t ht ?_)) t ht hb
        rw [od_phb _ _ _ ht, if_pos ((hw t ht).mpr hq), od_Mb ht]
        exact Or.inl ⟨u, hu, hb, z⟩
      apply back
      apply hS t ht
      rw [od_phb _ _ _ ht]
      rcases q with q | ⟨q0, q | q⟩
      · rw [if_neg (fun z => (hw t ht).mp z q.1)]; exact q.2
      · rw [if_pos ((hw t ht).mpr q0), od_Mb ht]; exact Or.inr (Or.inl q)
      · exact absurd q.1 (by omega)
    · rw [if_neg c2] at hS ⊢
      intro s hs q
      apply Classical.byContradiction
      intro hn
      apply hn
      have none : ∀ t, t < 64 → B s t → ((ho (64 * x + t) = 0 ∧ od_b g t = true) ∨ (ho (64 * x + t) ≠ 0 ∧ ((m % 2 = 1 ∧ fa (64 * y + t) ≠ 0) ∨ (2 ≤ m ∧ (nl (64 * y + t) ≠ 0 ∨ R s t))))) → od_b T s = true := fun t ht hb z => (hBR s hs).2.mpr ⟨t, ht, hb, z⟩
      have all : ∀ t, t < 64 → (od_b S t = true ∧ B s t) → B s t ∧ ho (64 * x + t) ≠ 0 ∧ ∃ u, u < 64 ∧ od_b (en (64 * y + t)) u = true ∧ (od_b S u = true ∧ B s u) := by
        intro t ht z
        have z2 := hS t ht z.1
        rw [od_phb _ _ _ ht] at z2
        by_cases c : ho (64 * x + t) = 0
        · rw [if_neg (fun q => (hw t ht).mp q c)] at z2
          exact absurd (none t ht z.2 (Or.inl ⟨c, z2⟩)) hn
        · rw [if_pos ((hw t ht).mpr c), od_Mb ht] at z2
          rcases z2 with ⟨u, hu, hb, z3⟩ | z3 | ⟨c3, z3⟩
          · exact ⟨z.2, c, u, hu, hb, z3, (hBR s hs).1.2.1 t ht z.2 c u hu hb⟩
          · exact absurd (none t ht z.2 (Or.inr ⟨c, Or.inl z3⟩)) hn
          · exact absurd (none t ht z.2 (Or.inr ⟨c, Or.inr ⟨c3, Or.inl z3⟩⟩)) hn
      have rs := (hBR s hs).1.2.2.2.2 (fun t => od_b S t = true ∧ B s t) all s hs ⟨q, (hBR s hs).1.1⟩
      exact none s hs (hBR s hs).1.1 (Or.inr ⟨((hBR s hs).1.2.2.2.1 s hs rs).2.1, Or.inr ⟨by omega, Or.inr rs⟩⟩)
end
end
section
/-! the reference: single steps, take, follow -/
def od_or (a b : Int32) : Int32 := if a = 0 then (if b = 0 then 0 else 1) else 1
theorem od_or01 (a b : Int32) : od_or a b = 0 ∨ od_or a b = 1 := by unfold od_or; split; split; exact Or.inl rfl; exact Or.inr rfl; exact Or.inr rfl
theorem od_orN (a b : Int32) : od_or a b ≠ 0 ↔ a ≠ 0 ∨ b ≠ 0 := by
  unfold od_or
  by_cases c : a = 0
  · rw [if_pos c]
    by_cases d : b = 0
    · rw [if_pos d]
      exact ⟨fun z => absurd rfl z, fun z => z.elim (fun q => absurd c q) (fun q => absurd d q)⟩
    · rw [if_neg d]
      exact ⟨fun _ => Or.inr d, fun _ => by decide⟩
  · rw [if_neg c]
    exact ⟨fun _ => Or.inl c, fun _ => by decide⟩
theorem od_ix (y i : Nat) : (64 : Int32) * nI y + nI i = nI (64 * y + i) := by
  show nI 64 * nI y + nI i = _
  rw [pk_mul, nI_add]
theorem od_bo {v : Int32} (h : v = 0 ∨ v = 1) : vp_nar .boolean v = v := by rcases h with h | h <;> subst h <;> rfl
section
variable {cd pr gr : Int32} {ho we : Nat → Int32} {en : Nat → Int64} {fa nl be ro : Nat → Int32}
theorem od_take47 {post : SY → Prop} {a q : Nat} {z : Int32} (ha : a < 2048) (hq : q < 2048) (hz : z = 0 ∨ z = 1) (h : post (cd, pr, gr, ho, we, en, upd fa a z, upd nl a (od_or (nl a) (nl q)), be, ro)) : wY_take_47 post (nI a) (nI q) z (nI a) cd pr gr ho we en fa nl be ro := by
  have hva : vp_in (nI a) 2048 := vp_in_nI ha (by decide)
  have hvq : vp_in (nI q) 2048 := vp_in_nI hq (by decide)
  have hca : (nI a).toNatClampNeg = a := nI_clamp (by omega)
  have hcq : (nI q).toNatClampNeg = q := nI_clamp (by omega)
  unfold od_or at h
  refine And.intro hva (nm_r (e' := upd fa a z) (by rw [hca, od_bo hz]) (And.intro hva ?_))
  by_cases c : nl a = 0
  · rw [if_pos c] at h
    refine br_t (by rw [hca]; exact c) (And.intro hvq ?_)
    by_cases d : nl q = 0
    · rw [if_pos d] at h
      exact br_t (by rw [hcq]; exact d) (And.intro hva (nm_r (e' := upd nl a 0) (by rw [hca, od_bo0]) h))
    · rw [if_neg d] at h
      exact br_f (by rw [hcq]; exact d) (And.intro hva (nm_r (e' := upd nl a 1) (by rw [hca, od_bo1]) h))
  · rw [if_neg c] at h
    exact br_f (by rw [hca]; exact c) (And.intro hva (nm_r (e' := upd nl a 1) (by rw [hca, od_bo1]) h))
theorem od_take {post : SY → Prop} {a q : Nat} {q' : Int32} (ha : a < 2048) (hq : q < 2048) (eq : q' = nI q) (h : post (cd, pr, gr, ho, we, vp_updL en a (en a ||| en q), upd fa a (od_or (fa a) (fa q)), upd nl a (od_or (nl a) (nl q)), be, ro)) : wpY_take post (cd, pr, gr, ho, we, en, fa, nl, be, ro) (nI a) q' := by
  subst eq
  have hva : vp_in (nI a) 2048 := vp_in_nI ha (by decide)
  have hvq : vp_in (nI q) 2048 := vp_in_nI hq (by decide)
  have hca : (nI a).toNatClampNeg = a := nI_clamp (by omega)
  have hcq : (nI q).toNatClampNeg = q := nI_clamp (by omega)
  have eo : od_or (fa a) (fa q) = if fa a = 0 then (if fa q = 0 then 0 else 1) else 1 := rfl
  rw [eo] at h
  refine And.intro hva (And.intro hvq (And.intro hva (nm_r (e' := vp_updL en a (en a ||| en q)) (by rw [hca, hcq]) (And.intro hva ?_))))
  by_cases c : fa a = 0
  · rw [if_pos c] at h
    refine br_t (by rw [hca]; exact c) (And.intro hvq ?_)
    by_cases d : fa q = 0
    · rw [if_pos d] at h
      exact br_t (by rw [hcq]; exact d) (od_take47 ha hq (Or.inl rfl) h)
    · rw [if_neg d] at h
      exact br_f (by rw [hcq]; exact d) (od_take47 ha hq (Or.inr rfl) h)
  · rw [if_neg c] at h
    exact br_f (by rw [hca]; exact c) (od_take47 ha hq (Or.inr rfl) h)
theorem od_takeU {post : SY → Prop} {a q : Nat} {q' : Int32} {e : Int64} {f l : Int32} (ha : a < 2048) (hq : q < 2048) (hn : q ≠ a) (eq : q' = nI q) (h : post (cd, pr, gr, ho, we, vp_updL en a (e ||| en q), upd fa a (od_or f (fa q)), upd nl a (od_or l (nl q)), be, ro)) : wpY_take post (cd, pr, gr, ho, we, vp_updL en a e, upd fa a f, upd nl a l, be, ro) (nI a) q' := by
  refine od_take ha hq eq ?_
  rw [od_ule, od_ui, od_ui, pk_uLs, pk_us, pk_us, pk_uLn hn, pk_un hn, pk_un hn]
  exact h
theorem od_follow_loop {post : SY → Prop} {en0 : Nat → Int64} {fa0 nl0 : Nat → Int32} {a x y z s np : Nat} (hn : np ≤ 31) (ha : a = 64 * np + s) (hs : s < 64) (hx : x < np) (hy : y < np) (hA : ∀ j, j < 64 * np → en j = en0 j ∧ fa j = fa0 j ∧ nl j = nl0 j) (h : ∀ e f l, od_O ho en0 fa0 nl0 x y z s e f l 6 → post (cd, pr, gr, ho, we, vp_updL en a e, upd fa a f, upd nl a l, be, ro)) :
    ∀ k i e f l, i + k = 64 → (f = 0 ∨ f = 1) → (l = 0 ∨ l = 1) → (∀ t, t < 64 → (od_b e t = true ↔ ∃ u, u < i ∧ od_b (en0 (64 * x + s)) u = true ∧ od_b (en0 (64 * y + u)) t = true)) → (f ≠ 0 ↔ fa0 (64 * x + s) ≠ 0 ∨ ∃ u, u < i ∧ od_b (en0 (64 * x + s)) u = true ∧ fa0 (64 * y + u) ≠ 0) → (l ≠ 0 ↔ nl0 (64 * x + s) ≠ 0 ∨ ∃ u, u < i ∧ od_b (en0 (64 * x + s)) u = true ∧ nl0 (64 * y + u) ≠ 0) → wY_follow_27 post (nI a) (nI (64 * x + s)) (nI y) (k + 1) (nI i) cd pr gr ho we (vp_updL en a e) (upd fa a f) (upd nl a l) be ro := by
  intro k
  induction k with
  | zero =>
    intro i e f l hi hf hl he hf2 hl2
    have hi' : i = 64 := by omega
    subst hi'
    exact br_t (by decide) (h e f l ⟨hf, hl, he, hf2, hl2⟩)
  | succ k ih =>
    intro i e f l hi hf hl he hf2 hl2
    have hq : 64 * x + s < 64 * np := by omega
    have hv : vp_in (nI (64 * x + s)) 2048 := vp_in_nI (by omega) (by decide)
    have hc : (nI (64 * x + s)).toNatClampNeg = 64 * x + s := nI_clamp (by omega)
    have er : vp_updL en a e (nI (64 * x + s)).toNatClampNeg = en0 (64 * x + s) := by rw [hc, pk_uLn (by omega)]; exact (hA _ hq).1
    refine br_f (nI_ge (b := 64) (by omega) (by decide)) (And.intro hv ?_)
    rw [er]
    by_cases c : od_b (en0 (64 * x + s)) i = true
    · refine br_t ((od_t1 (by omega)).mpr c) (od_takeU (q := 64 * y + i) (by omega) (by omega) (by omega) (od_ix y i) (nm_r (nI_1 i) ?_))
      obtain ⟨a1, a2, a3⟩ := hA (64 * y + i) (by omega)
      rw [a1, a2, a3]
      refine ih (i + 1) _ _ _ (by omega) (od_or01 _ _) (od_or01 _ _) (fun t ht => ?_) ?_ ?_
      · rw [od_bor, Bool.or_eq_true, he t ht]
        constructor
        · intro q
          rcases q with ⟨u, hu, q⟩ | q
          · exact ⟨u, by omega, q⟩
          · exact ⟨i, by omega, c, q⟩
        · intro ⟨u, hu, q1, q2⟩
          by_cases d : u = i
          · subst d; exact Or.inr q2
          · exact Or.inl ⟨u, by omega, q1, q2⟩
      · rw [od_orN, hf2]
        constructor
        · intro q
          rcases q with (q | ⟨u, hu, q⟩) | q
          · exact Or.inl q
          · exact Or.inr ⟨u, by omega, q⟩
          · exact Or.inr ⟨i, by omega, c, q⟩
        · intro q
          rcases q with q | ⟨u, hu, q1, q2⟩
          · exact Or.inl (Or.inl q)
          · by_cases d : u = i
            · subst d; exact Or.inr q2
            · exact Or.inl (Or.inr ⟨u, by omega, q1, q2⟩)
      · rw [od_orN, hl2]
        constructor
        · intro q
          rcases q with (q | ⟨u, hu, q⟩) | q
          · exact Or.inl q
          · exact Or.inr ⟨u, by omega, q⟩
          · exact Or.inr ⟨i, by omega, c, q⟩
        · intro q
          rcases q with q | ⟨u, hu, q1, q2⟩
          · exact Or.inl (Or.inl q)
          · by_cases d : u = i
            · subst d; exact Or.inr q2
            · exact Or.inl (Or.inr ⟨u, by omega, q1, q2⟩)
    · have nx : ∀ P : Nat → Prop, (∃ u, u < i + 1 ∧ od_b (en0 (64 * x + s)) u = true ∧ P u) ↔ (∃ u, u < i ∧ od_b (en0 (64 * x + s)) u = true ∧ P u) := by
        intro P
        constructor
        · intro ⟨u, hu, q1, q2⟩
          by_cases d : u = i
          · subst d; exact absurd q1 c
          · exact ⟨u, by omega, q1, q2⟩
        · intro ⟨u, hu, q⟩
          exact ⟨u, by omega, q⟩
      refine br_f (fun q => c ((od_t1 (by omega)).mp q)) (nm_r (nI_1 i) ?_)
      refine ih (i + 1) _ _ _ (by omega) hf hl (fun t ht => ?_) ?_ ?_
      · rw [he t ht]; exact (nx _).symm
      · rw [hf2, nx]
      · rw [hl2, nx]
theorem od_follow {post : SY → Prop} {en0 : Nat → Int64} {fa0 nl0 : Nat → Int32} {a x y z s np : Nat} {q' : Int32} (hn : np ≤ 31) (ha : a = 64 * np + s) (hs : s < 64) (hx : x < np) (hy : y < np) (hA : ∀ j, j < 64 * np → en j = en0 j ∧ fa j = fa0 j ∧ nl j = nl0 j) (h01 : (fa0 (64 * x + s) = 0 ∨ fa0 (64 * x + s) = 1) ∧ (nl0 (64 * x + s) = 0 ∨ nl0 (64 * x + s) = 1)) (eq : q' = nI (64 * x + s)) (h : ∀ e f l, od_O ho en0 fa0 nl0 x y z s e f l 6 → post (cd, pr, gr, ho, we, vp_updL en a e, upd fa a f, upd nl a l, be, ro)) : wpY_follow post (cd, pr, gr, ho, we, vp_updL en a 0, upd fa a 0, upd nl a 0, be, ro) (nI a) q' (nI y) := by
  subst eq
  have hv : vp_in (nI (64 * x + s)) 2048 := vp_in_nI (by omega) (by decide)
  have hc : (nI (64 * x + s)).toNatClampNeg = 64 * x + s := nI_clamp (by omega)
  have hva : vp_in (nI a) 2048 := vp_in_nI (by omega) (by decide)
  have hca : (nI a).toNatClampNeg = a := nI_clamp (by omega)
  obtain ⟨a1, a2, a3⟩ := hA (64 * x + s) (by omega)
  have no : ∀ P : Nat → Prop, ¬ ∃ u, u < 0 ∧ P u := fun P ⟨u, hu, _⟩ => absurd hu (Nat.not_lt_zero u)
  refine And.intro hv (And.intro hva (nm_r (e' := upd fa a (fa0 (64 * x + s))) (by rw [hc, hca, od_ui, pk_un (by omega), a2, od_bo h01.1]) (And.intro hv (And.intro hva (nm_r (e' := upd nl a (nl0 (64 * x + s))) (by rw [hc, hca, od_ui, pk_un (by omega), a3, od_bo h01.2]) ⟨65, ?_⟩)))))
  refine od_follow_loop hn ha hs hx hy hA h 64 0 _ _ _ rfl h01.1 h01.2 (fun t ht => ?_) ?_ ?_
  · rw [od_b0]
    exact ⟨fun q => absurd q (by decide), fun q => absurd q (no _)⟩
  · exact ⟨fun q => Or.inl q, fun q => q.elim (fun w => w) (fun w => absurd w (no _))⟩
  · exact ⟨fun q => Or.inl q, fun q => q.elim (fun w => w) (fun w => absurd w (no _))⟩
/-! single steps -/
theorem od_s127 {post : SY → Prop} {x1 x2 x4 : Int32} {K : Nat} (hK : K < 10) (h3 : K ≠ 3) (h : post (cd, pr, gr, ho, we, en, fa, nl, be, ro)) : wY_simple_127 post x1 x2 (nI K) x4 cd pr gr ho we en fa nl be ro := br_f (fun z => h3 ((nI_eq (b := 3) (by omega) (by decide)).mp z)) h
theorem od_s72 {post : SY → Prop} {x1 x2 x4 x5 x6 : Int32} {K : Nat} (hK : K < 10) (h2 : K ≠ 2) (h3 : K ≠ 3) (h : post (cd, pr, gr, ho, we, en, fa, nl, be, ro)) : wY_simple_72 post x1 x2 (nI K) x4 x5 x6 cd pr gr ho we en fa nl be ro := br_f (fun z => h2 ((nI_eq (b := 2) (by omega) (by decide)).mp z)) (od_s127 hK h3 h)
theorem od_s135 {post : SY → Prop} {a s x : Nat} (ha : a < 2048) (hs : s < 64) (hx : x < 3) (h : ∀ e, (∀ t, t < 64 → (od_b e t = true ↔ ∃ v, v < 4 ∧ t = od_to s x v)) → post (cd, pr, gr, ho, we, vp_updL en a e, fa, nl, be, ro)) : ∀ k i e, i + k = 4 → (∀ t, t < 64 → (od_b e t = true ↔ ∃ v, v < i ∧ t = od_to s x v)) → wY_simple_135 post (nI a) (nI s) (nI x) cd pr gr (k + 1) (nI i) ho we (vp_updL en a e) fa nl be ro := by
  intro k
  induction k with
  | zero =>
    intro i e hi he
    have hi' : i = 4 := by omega
    subst hi'
    exact br_t (by decide) (h e he)
  | succ k ih =>
    intro i e hi he
    have hva : vp_in (nI a) 2048 := vp_in_nI ha (by decide)
    have hca : (nI a).toNatClampNeg = a := nI_clamp (by omega)
    obtain ⟨ht, et⟩ := od_to_ok x hx i (by omega) s hs
    have et' : ((nI s &&& (((3 : Int32) <<< ((2 * nI x) &&& 31)) ^^^ (-1))) ||| (nI i <<< ((2 * nI x) &&& 31))) = nI (od_to s x i) := et
    refine br_f (nI_ge (b := 4) (by omega) (by decide)) (And.intro hva (And.intro hva (nm_r (e' := vp_updL en a (e ||| od_1 (od_to s x i))) (by rw [hca, od_ule, pk_uLs, et']; rfl) (nm_r (nI_1 i) (ih (i + 1) _ (by omega) (fun t h64 => ?_))))))
    rw [od_bor, Bool.or_eq_true, he t h64, od_b1 ht]
    constructor
    · intro q
      rcases q with ⟨v, hv, q⟩ | q
      · exact ⟨v, by omega, q⟩
      · exact ⟨i, by omega, of_decide_eq_true q⟩
    · intro ⟨v, hv, q⟩
      by_cases c : v = i
      · subst c; exact Or.inr (decide_eq_true q)
      · exact Or.inl ⟨v, by omega, q⟩
theorem od_simple {post : SY → Prop} {en0 : Nat → Int64} {fa0 nl0 : Nat → Int32} {a K x y z s nc : Nat} {v2 v3 v4 : Int32} (hK : K < 6) (hc : nc ≤ 24) (ha : a < 2048) (hs : s < 64) (h2 : K = 2 → v2 = nI x ∧ v3 = nI y ∧ v4 = nI z ∧ x < 3 ∧ y < 4 ∧ z < 4) (h3 : K = 3 → v2 = nI x ∧ x < 3) (h45 : K = 4 ∨ K = 5 → v2 = nI x ∧ x < nc) (h : ∀ e f l, od_O ho en0 fa0 nl0 x y z s e f l K → post (cd, pr, gr, ho, we, vp_updL en a e, upd fa a f, upd nl a l, be, ro)) : wpY_simple post (cd, pr, gr, ho, we, vp_updL en a 0, upd fa a 0, upd nl a 0, be, ro) (nI a) (nI s) (nI K) v2 v3 v4 := by
  have hva : vp_in (nI a) 2048 := vp_in_nI ha (by decide)
  have hca : (nI a).toNatClampNeg = a := nI_clamp (by omega)
  have hK' : K = 0 ∨ K = 1 ∨ K = 2 ∨ K = 3 ∨ K = 4 ∨ K = 5 := by omega
  rcases hK' with k | k | k | k | k | k <;> subst k
  · refine br_t rfl (br_f (by decide) (And.intro hva (nm_r (e' := vp_updL en a (od_1 s)) (by rw [hca, od_ule]; rfl) (br_f (by decide) (br_f (by decide) (od_s72 (by decide) (by decide) (by decide) ?_))))))
    exact h _ _ _ ⟨Or.inl rfl, Or.inl rfl, rfl, rfl, rfl⟩
  · refine br_f (by decide) (br_f (by decide) (br_f (by decide) (br_t rfl (br_t rfl (And.intro hva (nm_r (e' := upd fa a 1) (by rw [hca, od_ui, od_bo1]) (od_s72 (by decide) (by decide) (by decide) ?_)))))))
    exact h _ _ _ ⟨Or.inr rfl, Or.inl rfl, rfl, rfl, rfl⟩
  · obtain ⟨e2, e3, e4, hx, hy, hz⟩ := h2 rfl
    subst e2 e3 e4
    obtain ⟨hv, ev⟩ := od_v_ok y hy z hz s hs
    obtain ⟨ht, et⟩ := od_to_ok x hx _ hv s hs
    have g94 : ∀ z0, z0 = od_vi s y → wY_simple_94 post (nI a) (nI s) (nI 2) (nI x) (nI z) z0 cd pr gr ho we (vp_updL en a 0) (upd fa a 0) (upd nl a 0) be ro := by
      intro z0 e0
      subst e0
      have et' : ((nI s &&& (((3 : Int32) <<< ((2 * nI x) &&& 31)) ^^^ (-1))) ||| (nI (od_v s y z) <<< ((2 * nI x) &&& 31))) = nI (od_to s x (od_v s y z)) := et
      refine nm_r ev (And.intro hva (nm_r (e' := vp_updL en a (od_1 (od_to s x (od_v s y z)))) (by rw [hca, od_ule, et']; rfl) (od_s127 (by decide) (by decide) ?_)))
      exact h _ _ _ ⟨Or.inl rfl, Or.inl rfl, rfl, rfl, rfl⟩
    refine br_f (by decide) (br_f (by decide) (br_f (by decide) (br_t rfl (br_f (by decide) (br_f (by decide) (br_t rfl ?_))))))
    unfold od_vi at g94
    by_cases c : y = 3
    · rw [if_pos c] at g94
      subst c
      exact br_t rfl (g94 0 rfl)
    · rw [if_neg c] at g94
      exact br_f (fun q => c ((nI_eq (b := 3) (by omega) (by decide)).mp q)) (g94 _ rfl)
  · obtain ⟨e2, hx⟩ := h3 rfl
    subst e2
    refine br_f (by decide) (br_f (by decide) (br_f (by decide) (br_t rfl (br_f (by decide) (br_f (by decide) (br_f (by decide) (br_t rfl ⟨5, ?_⟩)))))))
    refine od_s135 ha hs hx (fun e he => h e 0 0 ⟨Or.inl rfl, Or.inl rfl, he, rfl, rfl⟩) 4 0 0 rfl (fun t ht => ?_)
    rw [od_b0]
    exact ⟨fun q => absurd q (by decide), fun ⟨v, hv, _⟩ => absurd hv (Nat.not_lt_zero v)⟩
  · obtain ⟨e2, hx⟩ := h45 (Or.inl rfl)
    subst e2
    have hvh : vp_in (64 * nI x + nI s) 1536 := by rw [od_ix]; exact vp_in_nI (by omega) (by decide)
    have hch : (64 * nI x + nI s).toNatClampNeg = 64 * x + s := by rw [od_ix]; exact nI_clamp (by omega)
    refine br_f (by decide) (br_t rfl (And.intro hvh ?_))
    by_cases c : ho (64 * x + s) = 0
    · refine br_t (by rw [hch]; exact c) (br_t rfl (br_f (by decide) (br_f (by decide) (od_s72 (by decide) (by decide) (by decide) ?_))))
      exact h _ _ _ ⟨Or.inl rfl, Or.inl rfl, (if_pos c).symm, rfl, rfl⟩
    · refine br_f (by rw [hch]; exact c) (br_f (by decide) (And.intro hva (nm_r (e' := vp_updL en a (od_1 s)) (by rw [hca, od_ule]; rfl) (br_f (by decide) (br_f (by decide) (od_s72 (by decide) (by decide) (by decide) ?_))))))
      exact h _ _ _ ⟨Or.inl rfl, Or.inl rfl, (if_neg c).symm, rfl, rfl⟩
  · obtain ⟨e2, hx⟩ := h45 (Or.inr rfl)
    subst e2
    have hvh : vp_in (64 * nI x + nI s) 1536 := by rw [od_ix]; exact vp_in_nI (by omega) (by decide)
    have hch : (64 * nI x + nI s).toNatClampNeg = 64 * x + s := by rw [od_ix]; exact nI_clamp (by omega)
    refine br_f (by decide) (br_f (by decide) (br_t rfl (And.intro hvh ?_)))
    by_cases c : ho (64 * x + s) = 0
    · refine br_t (by rw [hch]; exact c) (br_t rfl (br_f (by decide) (br_t rfl (br_t rfl (And.intro hva (nm_r (e' := upd fa a 1) (by rw [hca, od_ui, od_bo1]) (od_s72 (by decide) (by decide) (by decide) ?_)))))))
      exact h _ _ _ ⟨Or.inr rfl, Or.inl rfl, (if_pos c).symm, (if_pos c).symm, rfl⟩
    · refine br_f (by rw [hch]; exact c) (br_f (by decide) (And.intro hva (nm_r (e' := vp_updL en a (od_1 s)) (by rw [hca, od_ule]; rfl) (br_f (by decide) (br_t rfl (br_f (by decide) (od_s72 (by decide) (by decide) (by decide) ?_)))))))
      exact h _ _ _ ⟨Or.inl rfl, Or.inl rfl, (if_neg c).symm, (if_neg c).symm, rfl⟩
end
end
section
/-! the reference: a loop's begun states, its rounds, its table row -/
def od_cl (ho : Nat → Int32) (en : Nat → Int64) (c y : Nat) (C : Nat → Prop) : Prop := ∀ t, t < 64 → C t → ho (64 * c + t) ≠ 0 → ∀ u, u < 64 → od_b (en (64 * y + t)) u = true → C u
def od_snd (ho : Nat → Int32) (en : Nat → Int64) (c y s : Nat) (be : Nat → Int32) : Prop := ∀ C : Nat → Prop, C s → od_cl ho en c y C → ∀ t, t < 64 → be t ≠ 0 → C t
def od_ct (be : Nat → Int32) : Nat := od_cn (fun t => decide (be t ≠ 0)) 64
theorem od_ct_lt {be be' : Nat → Int32} (h : ∀ t, t < 64 → be t ≠ 0 → be' t ≠ 0) (g : ∃ t, t < 64 ∧ be' t ≠ 0 ∧ be t = 0) : od_ct be < od_ct be' := by
  apply od_cn_lt
  · intro i hi q
    exact decide_eq_true (h i hi (of_decide_eq_true q))
  · obtain ⟨t, ht, h1, h2⟩ := g
    exact ⟨t, ht, decide_eq_true h1, decide_eq_false (fun q => q h2)⟩
theorem od_ct_le (be : Nat → Int32) : od_ct be ≤ 64 := od_cn_le _ _
theorem od_ct_1 {be : Nat → Int32} {s : Nat} (hs : s < 64) (h : be s ≠ 0) : 1 ≤ od_ct be := by
  have := od_ct_lt (be := fun _ => 0) (be' := be) (fun t _ q => absurd rfl q) ⟨s, hs, h, rfl⟩
  omega
theorem od_ct_0 {be : Nat → Int32} (h : od_ct be = 0) {t : Nat} (ht : t < 64) : be t = 0 := by
  have := od_cn_z h t ht
  have := of_decide_eq_false this
  exact Classical.byContradiction (fun q => this q)
section
variable {cd pr gr : Int32} {ho we : Nat → Int32} {en : Nat → Int64} {fa nl be ro : Nat → Int32}
theorem od_reach {post : SY → Prop} {e : Int64} {be0 : Nat → Int32} {gr0 : Int32} (h : ∀ gr be, (∀ t, t < 64 → (be t ≠ 0 ↔ be0 t ≠ 0 ∨ od_b e t = true)) → ((gr = gr0 ∧ ∀ t, t < 64 → od_b e t = true → be0 t ≠ 0) ∨ (gr ≠ 0 ∧ ∃ t, t < 64 ∧ od_b e t = true ∧ be0 t = 0)) → post (cd, pr, gr, ho, we, en, fa, nl, be, ro)) :
    ∀ k i gr be, i + k = 64 → (∀ t, t < 64 → (be t ≠ 0 ↔ be0 t ≠ 0 ∨ (t < i ∧ od_b e t = true))) → ((gr = gr0 ∧ ∀ t, t < i → od_b e t = true → be0 t ≠ 0) ∨ (gr ≠ 0 ∧ ∃ t, t < 64 ∧ od_b e t = true ∧ be0 t = 0)) → wY_reach_2 post e cd pr (k + 1) (nI i) gr ho we en fa nl be ro := by
  intro k
  induction k with
  | zero =>
    intro i gr be hi hb hg
    have hi' : i = 64 := by omega
    subst hi'
    refine br_t (by decide) (h gr be (fun t ht => ?_) hg)
    rw [hb t ht]
    exact ⟨fun q => q.elim Or.inl (fun w => Or.inr w.2), fun q => q.elim Or.inl (fun w => Or.inr ⟨ht, w⟩)⟩
  | succ k ih =>
    intro i gr be hi hb hg
    have hv : vp_in (nI i) 64 := vp_in_nI (by omega) (by decide)
    have hc : (nI i).toNatClampNeg = i := nI_clamp (by omega)
    refine br_f (nI_ge (b := 64) (by omega) (by decide)) ?_
    by_cases c : od_b e i = true
    · refine br_t ((od_t1 (by omega)).mpr c) (And.intro hv ?_)
      by_cases d : be i = 0
      · have d0 : be0 i = 0 := Classical.byContradiction (fun q => (hb i (by omega)).mpr (Or.inl q) d)
        refine br_t (by rw [hc]; exact d) (And.intro hv (nm_r (e' := upd be i 1) (by rw [hc, od_bo1]) (nm_r (nI_1 i) (ih (i + 1) _ _ (by omega) (fun t ht => ?_) (Or.inr ⟨by decide, i, by omega, c, d0⟩)))))
        by_cases e2 : t = i
        · subst e2
          rw [pk_us]
          exact ⟨fun _ => Or.inr ⟨by omega, c⟩, fun _ => by decide⟩
        · rw [pk_un e2, hb t ht]
          exact ⟨fun q => q.elim Or.inl (fun w => Or.inr ⟨by omega, w.2⟩), fun q => q.elim Or.inl (fun w => Or.inr ⟨by omega, w.2⟩)⟩
      · have d0 : be0 i ≠ 0 := ((hb i (by omega)).mp d).elim (fun q => q) (fun q => absurd q.1 (Nat.lt_irrefl i))
        refine br_f (by rw [hc]; exact d) (nm_r (nI_1 i) (ih (i + 1) _ _ (by omega) (fun t ht => ?_) ?_))
        · rw [hb t ht]
          by_cases e2 : t = i
          · subst e2
            exact ⟨fun _ => Or.inl d0, fun _ => Or.inl d0⟩
          · exact ⟨fun q => q.elim Or.inl (fun w => Or.inr ⟨by omega, w.2⟩), fun q => q.elim Or.inl (fun w => Or.inr ⟨by omega, w.2⟩)⟩
        · rcases hg with ⟨g1, g2⟩ | g
          · refine Or.inl ⟨g1, fun t ht q => ?_⟩
            by_cases e2 : t = i
            · subst e2; exact d0
            · exact g2 t (by omega) q
          · exact Or.inr g
    · refine br_f (fun q => c ((od_t1 (by omega)).mp q)) (nm_r (nI_1 i) (ih (i + 1) _ _ (by omega) (fun t ht => ?_) ?_))
      · rw [hb t ht]
        by_cases e2 : t = i
        · subst e2
          exact ⟨fun q => q.elim Or.inl (fun w => absurd w.2 c), fun q => q.elim Or.inl (fun w => absurd w.2 c)⟩
        · exact ⟨fun q => q.elim Or.inl (fun w => Or.inr ⟨by omega, w.2⟩), fun q => q.elim Or.inl (fun w => Or.inr ⟨by omega, w.2⟩)⟩
      · rcases hg with ⟨g1, g2⟩ | g
        · refine Or.inl ⟨g1, fun t ht q => ?_⟩
          by_cases e2 : t = i
          · subst e2; exact absurd q c
          · exact g2 t (by omega) q
        · exact Or.inr g
theorem od_pass {post : SY → Prop} {J : Int32 → Int32 → Int32 → Int32 → (Nat → Int32) → (Nat → Int32) → (Nat → Int64) → (Nat → Int32) → (Nat → Int32) → (Nat → Int32) → (Nat → Int32) → Prop} {en0 : Nat → Int64} {be0 : Nat → Int32} {c y s x4 : Nat} (hc : c < 24) (hy : y < 32) (hE : ∀ t, t < 64 → en (64 * y + t) = en0 (64 * y + t))
    (h : ∀ gr be, od_snd ho en0 c y s be → (∀ t, t < 64 → be0 t ≠ 0 → be t ≠ 0) → ((gr = 0 ∧ od_cl ho en0 c y (fun t => be t ≠ 0)) ∨ (gr ≠ 0 ∧ ∃ t, t < 64 ∧ be t ≠ 0 ∧ be0 t = 0)) → J (nI (x4 + 1)) cd pr gr ho we en fa nl be ro) :
    ∀ k i gr be, i + k = 64 → od_snd ho en0 c y s be → (∀ t, t < 64 → be0 t ≠ 0 → be t ≠ 0) → ((gr = 0 ∧ (∀ t, t < 64 → be t ≠ 0 → be0 t ≠ 0) ∧ ∀ t, t < i → be t ≠ 0 → ho (64 * c + t) ≠ 0 → ∀ u, u < 64 → od_b (en0 (64 * y + t)) u = true → be u ≠ 0) ∨ (gr ≠ 0 ∧ ∃ t, t < 64 ∧ be t ≠ 0 ∧ be0 t = 0)) → wY_spread_64 post J (nI c) (nI y) (nI x4) (k + 1) (nI i) cd pr gr ho we en fa nl be ro := by
  intro k
  induction k with
  | zero =>
    intro i gr be hi h1 h2 h3
    have hi' : i = 64 := by omega
    subst hi'
    refine br_t (by decide) (nm_r (nI_1 x4) (h gr be h1 h2 ?_))
    rcases h3 with ⟨g1, _, g2⟩ | g
    · exact Or.inl ⟨g1, g2⟩
    · exact Or.inr g
  | succ k ih =>
    intro i gr be hi h1 h2 h3
    have hv : vp_in (nI i) 64 := vp_in_nI (by omega) (by decide)
    have hci : (nI i).toNatClampNeg = i := nI_clamp (by omega)
    have hvh : vp_in (64 * nI c + nI i) 1536 := by rw [od_ix]; exact vp_in_nI (by omega) (by decide)
    have hch : (64 * nI c + nI i).toNatClampNeg = 64 * c + i := by rw [od_ix]; exact nI_clamp (by omega)
    have hve : vp_in (64 * nI y + nI i) 2048 := by rw [od_ix]; exact vp_in_nI (by omega) (by decide)
    have hce : (64 * nI y + nI i).toNatClampNeg = 64 * y + i := by rw [od_ix]; exact nI_clamp (by omega)
    have skip : (be i ≠ 0 → ho (64 * c + i) ≠ 0 → False) → wY_spread_64 post J (nI c) (nI y) (nI x4) (k + 1) (nI (i + 1)) cd pr gr ho we en fa nl be ro := by
      intro no
      refine ih (i + 1) gr be (by omega) h1 h2 ?_
      rcases h3 with ⟨g1, g0, g2⟩ | g
      · refine Or.inl ⟨g1, g0, fun t ht q1 q2 => ?_⟩
        by_cases e2 : t = i
        · subst e2; exact absurd (no q1 q2) id
        · exact g2 t (by omega) q1 q2
      · exact Or.inr g
    refine br_f (nI_ge (b := 64) (by omega) (by decide)) (And.intro hv ?_)
    by_cases c1 : be i = 0
    · exact br_t (by rw [hci]; exact c1) (nm_r (nI_1 i) (skip (fun q _ => q c1)))
    refine br_f (by rw [hci]; exact c1) (And.intro hvh ?_)
    by_cases c2 : ho (64 * c + i) = 0
    · exact br_t (by rw [hch]; exact c2) (nm_r (nI_1 i) (skip (fun _ q => q c2)))
    refine br_f (by rw [hch]; exact c2) (And.intro hve ?_)
    have er : en (64 * nI y + nI i).toNatClampNeg = en0 (64 * y + i) := by rw [hce]; exact hE i (by omega)
    rw [er]
    refine ⟨65, od_reach (gr0 := gr) (be0 := be) (fun gr' be' hb hg => nm_r (nI_1 i) (ih (i + 1) gr' be' (by omega) ?_ ?_ ?_)) 64 0 gr be rfl (fun t _ => ?_) (Or.inl ⟨rfl, fun t ht => absurd ht (Nat.not_lt_zero t)⟩)⟩
    · intro C cs cc t ht q
      rcases (hb t ht).mp q with q | q
      · exact h1 C cs cc t ht q
      · exact cc i (by omega) (h1 C cs cc i (by omega) c1) c2 t ht q
    · intro t ht q
      exact (hb t ht).mpr (Or.inl (h2 t ht q))
    · rcases hg with ⟨g1, g2⟩ | ⟨g1, t, ht, g2, g3⟩
      · subst g1
        have same : ∀ t, t < 64 → be' t ≠ 0 → be t ≠ 0 := fun t ht q => ((hb t ht).mp q).elim id (g2 t ht)
        rcases h3 with ⟨f1, f0, f2⟩ | ⟨f1, t, ht, f2, f3⟩
        · refine Or.inl ⟨f1, fun t ht q => f0 t ht (same t ht q), fun t ht q1 q2 u hu q3 => ?_⟩
          by_cases e2 : t = i
          · subst e2
            exact (hb u hu).mpr (Or.inr q3)
          · exact (hb u hu).mpr (Or.inl (f2 t (by omega) (same t (by omega) q1) q2 u hu q3))
        · exact Or.inr ⟨f1, t, ht, (hb t ht).mpr (Or.inl f2), f3⟩
      · exact Or.inr ⟨g1, t, ht, (hb t ht).mpr (Or.inr g2), Classical.byContradiction (fun q => h2 t ht q g3)⟩
    · exact ⟨fun q => Or.inl q, fun q => q.elim id (fun w => absurd w.1 (Nat.not_lt_zero t))⟩
theorem od_spread42 {post : SY → Prop} {en0 : Nat → Int64} {c y s : Nat} (hc : c < 24) (hy : y < 32) (hs : s < 64) (hE : ∀ t, t < 64 → en (64 * y + t) = en0 (64 * y + t))
    (h : ∀ gr be, be s ≠ 0 → od_snd ho en0 c y s be → od_cl ho en0 c y (fun t => be t ≠ 0) → post (cd, pr, gr, ho, we, en, fa, nl, be, ro)) :
    ∀ k i gr be, i + k = 64 → be s ≠ 0 → od_snd ho en0 c y s be → ((gr = 0 ∧ od_cl ho en0 c y (fun t => be t ≠ 0)) ∨ (gr ≠ 0 ∧ i + 1 ≤ od_ct be)) → wY_spread_42 post (nI c) (nI y) (k + 1) (nI i) cd pr gr ho we en fa nl be ro := by
  intro k
  induction k with
  | zero =>
    intro i gr be hi h1 h2 h3
    have hi' : i = 64 := by omega
    subst hi'
    refine br_t (by decide) ?_
    rcases h3 with ⟨_, g⟩ | ⟨_, g⟩
    · exact h gr be h1 h2 g
    · have := od_ct_le be
      omega
  | succ k ih =>
    intro i gr be hi h1 h2 h3
    refine br_f (nI_ge (b := 64) (by omega) (by decide)) ?_
    rcases h3 with ⟨g0, g⟩ | ⟨g0, g⟩
    · exact br_t g0 (h gr be h1 h2 g)
    · refine br_f g0 ⟨65, od_pass (s := s) (be0 := be) hc hy hE (fun gr' be' k1 k2 k3 => ih (i + 1) gr' be' (by omega) (k2 s hs h1) k1 ?_) 64 0 0 be rfl h2 (fun t _ q => q) (Or.inl ⟨rfl, fun t _ q => q, fun t ht => absurd ht (Nat.not_lt_zero t)⟩)⟩
      rcases k3 with k3 | ⟨k3, k4⟩
      · exact Or.inl k3
      · have := od_ct_lt k2 k4
        exact Or.inr ⟨k3, by omega⟩
theorem od_spread {post : SY → Prop} {en0 : Nat → Int64} {c y s : Nat} (hc : c < 24) (hy : y < 32) (hs : s < 64) (hE : ∀ t, t < 64 → en (64 * y + t) = en0 (64 * y + t))
    (h : ∀ gr be, be s ≠ 0 → od_snd ho en0 c y s be → od_cl ho en0 c y (fun t => be t ≠ 0) → post (cd, pr, gr, ho, we, en, fa, nl, be, ro)) : wpY_spread post (cd, pr, gr, ho, we, en, fa, nl, be, ro) (nI s) (nI c) (nI y) := by
  have init : ∀ k i be, i + k = 64 → (∀ t, t < i → (be t ≠ 0 ↔ t = s)) → wY_spread_3 post (nI s) (nI c) (nI y) cd pr gr (k + 1) (nI i) ho we en fa nl be ro := by
    intro k
    induction k with
    | zero =>
      intro i be hi hb
      have hi' : i = 64 := by omega
      subst hi'
      have hbs : be s ≠ 0 := (hb s hs).mpr rfl
      refine br_t (by decide) ⟨65, od_spread42 hc hy hs hE h 64 0 1 be rfl hbs (fun C cs _ t ht q => ?_) (Or.inr ⟨by decide, od_ct_1 hs hbs⟩)⟩
      rw [(hb t ht).mp q]; exact cs
    | succ k ih =>
      intro i be hi hb
      have hv : vp_in (nI i) 64 := vp_in_nI (by omega) (by decide)
      have hci : (nI i).toNatClampNeg = i := nI_clamp (by omega)
      refine br_f (nI_ge (b := 64) (by omega) (by decide)) ?_
      by_cases c1 : i = s
      · refine br_t (by rw [c1]) (And.intro hv (nm_r (e' := upd be i 1) (by rw [hci, od_bo1]) (nm_r (nI_1 i) (ih (i + 1) _ (by omega) (fun t ht => ?_)))))
        by_cases e2 : t = i
        · subst e2
          rw [pk_us]
          exact ⟨fun _ => c1, fun _ => by decide⟩
        · rw [pk_un e2]; exact hb t (by omega)
      · refine br_f (fun q => c1 ((nI_eq (by omega) (by omega)).mp q)) (And.intro hv (nm_r (e' := upd be i 0) (by rw [hci, od_bo0]) (nm_r (nI_1 i) (ih (i + 1) _ (by omega) (fun t ht => ?_)))))
        by_cases e2 : t = i
        · subst e2
          rw [pk_us]
          exact ⟨fun q => absurd rfl q, fun q => absurd q c1⟩
        · rw [pk_un e2]; exact hb t (by omega)
  exact ⟨65, init 64 0 be rfl (fun t ht => absurd ht (Nat.not_lt_zero t))⟩
theorem od_hasNext {post : Int32 → Prop} {e : Int64} (h1 : (∃ t, t < 64 ∧ od_b e t = true ∧ ro t ≠ 0) → post 1) (h0 : ¬ (∃ t, t < 64 ∧ od_b e t = true ∧ ro t ≠ 0) → post 0) : wpY_hasNext post (cd, pr, gr, ho, we, en, fa, nl, be, ro) e := by
  have lp : ∀ k i, i + k = 64 → (∀ t, t < i → od_b e t = true → ro t = 0) → wY_hasNext_2 post e cd pr gr ho we en fa nl be ro (k + 1) (nI i) := by
    intro k
    induction k with
    | zero =>
      intro i hi hb
      have hi' : i = 64 := by omega
      subst hi'
      exact br_t (by decide) (h0 (fun ⟨t, ht, q1, q2⟩ => q2 (hb t ht q1)))
    | succ k ih =>
      intro i hi hb
      have hv : vp_in (nI i) 64 := vp_in_nI (by omega) (by decide)
      have hci : (nI i).toNatClampNeg = i := nI_clamp (by omega)
      refine br_f (nI_ge (b := 64) (by omega) (by decide)) ?_
      by_cases c : od_b e i = true
      · refine br_t ((od_t1 (by omega)).mpr c) (And.intro hv ?_)
        by_cases d : ro i = 0
        · refine br_t (by rw [hci]; exact d) (nm_r (nI_1 i) (ih (i + 1) (by omega) (fun t ht q => ?_)))
          by_cases e2 : t = i
          · subst e2; exact d
          · exact hb t (by omega) q
        · exact br_f (by rw [hci]; exact d) (h1 ⟨i, by omega, c, d⟩)
      · refine br_f (fun q => c ((od_t1 (by omega)).mp q)) (nm_r (nI_1 i) (ih (i + 1) (by omega) (fun t ht q => ?_)))
        by_cases e2 : t = i
        · subst e2; exact absurd q c
        · exact hb t (by omega) q
  exact ⟨65, lp 64 0 rfl (fun t ht => absurd ht (Nat.not_lt_zero t))⟩
end
def od_gs2 (ho : Nat → Int32) (en : Nat → Int64) (c y : Nat) (be ro : Nat → Int32) : Prop := ∀ Q : Nat → Prop, (∀ t, t < 64 → Q t → be t ≠ 0 ∧ ho (64 * c + t) ≠ 0 ∧ ∃ u, u < 64 ∧ od_b (en (64 * y + t)) u = true ∧ Q u) → ∀ t, t < 64 → Q t → ro t ≠ 0
def od_stb (en : Nat → Int64) (y : Nat) (ro : Nat → Int32) : Prop := ∀ t, t < 64 → ro t ≠ 0 → ∃ u, u < 64 ∧ od_b (en (64 * y + t)) u = true ∧ ro u ≠ 0
section
variable {cd pr gr : Int32} {ho we : Nat → Int32} {en : Nat → Int64} {fa nl be ro : Nat → Int32}
theorem od_fr76 {post : SY → Prop} {J : Int32 → Int32 → (Nat → Int32) → (Nat → Int32) → (Nat → Int64) → (Nat → Int32) → (Nat → Int32) → (Nat → Int32) → (Nat → Int32) → Prop} {en0 : Nat → Int64} {ro0 : Nat → Int32} {c y x3 : Nat} (hy : y < 32) (hE : ∀ t, t < 64 → en (64 * y + t) = en0 (64 * y + t))
    (h : ∀ gr ro, od_gs2 ho en0 c y be ro → (∀ t, t < 64 → ro t ≠ 0 → ro0 t ≠ 0) → ((gr = 0 ∧ od_stb en0 y ro) ∨ (gr ≠ 0 ∧ ∃ t, t < 64 ∧ ro0 t ≠ 0 ∧ ro t = 0)) → J (nI (x3 + 1)) gr ho we en fa nl be ro) :
    ∀ k i gr ro, i + k = 64 → od_gs2 ho en0 c y be ro → (∀ t, t < 64 → ro t ≠ 0 → ro0 t ≠ 0) → ((gr = 0 ∧ (∀ t, t < 64 → ro0 t ≠ 0 → ro t ≠ 0) ∧ ∀ t, t < i → ro t ≠ 0 → ∃ u, u < 64 ∧ od_b (en0 (64 * y + t)) u = true ∧ ro u ≠ 0) ∨ (gr ≠ 0 ∧ ∃ t, t < 64 ∧ ro0 t ≠ 0 ∧ ro t = 0)) → wY_findRounds_76 post J (nI y) (nI x3) cd pr (k + 1) (nI i) gr ho we en fa nl be ro := by
  intro k
  induction k with
  | zero =>
    intro i gr ro hi h1 h2 h3
    have hi' : i = 64 := by omega
    subst hi'
    refine br_t (by decide) (nm_r (nI_1 x3) (h gr ro h1 h2 ?_))
    rcases h3 with ⟨g1, _, g2⟩ | g
    · exact Or.inl ⟨g1, g2⟩
    · exact Or.inr g
  | succ k ih =>
    intro i gr ro hi h1 h2 h3
    have hv : vp_in (nI i) 64 := vp_in_nI (by omega) (by decide)
    have hci : (nI i).toNatClampNeg = i := nI_clamp (by omega)
    have hve : vp_in (64 * nI y + nI i) 2048 := by rw [od_ix]; exact vp_in_nI (by omega) (by decide)
    have hce : (64 * nI y + nI i).toNatClampNeg = 64 * y + i := by rw [od_ix]; exact nI_clamp (by omega)
    have skip : (ro i ≠ 0 → ∃ u, u < 64 ∧ od_b (en0 (64 * y + i)) u = true ∧ ro u ≠ 0) → wY_findRounds_76 post J (nI y) (nI x3) cd pr (k + 1) (nI (i + 1)) gr ho we en fa nl be ro := by
      intro ok
      refine ih (i + 1) gr ro (by omega) h1 h2 ?_
      rcases h3 with ⟨g1, g0, g2⟩ | g
      · refine Or.inl ⟨g1, g0, fun t ht q1 => ?_⟩
        by_cases e2 : t = i
        · subst e2; exact ok q1
        · exact g2 t (by omega) q1
      · exact Or.inr g
    refine br_f (nI_ge (b := 64) (by omega) (by decide)) (And.intro hv ?_)
    by_cases c1 : ro i = 0
    · exact br_t (by rw [hci]; exact c1) (nm_r (nI_1 i) (skip (fun q => absurd c1 q)))
    refine br_f (by rw [hci]; exact c1) (And.intro hve ?_)
    have er : en (64 * nI y + nI i).toNatClampNeg = en0 (64 * y + i) := by rw [hce]; exact hE i (by omega)
    rw [er]
    refine od_hasNext (fun ok => br_f (by decide) (nm_r (nI_1 i) (skip (fun _ => ok)))) (fun no => br_t rfl (And.intro hv (nm_r (e' := upd ro i 0) (by rw [hci, od_bo0]) (nm_r (nI_1 i) (ih (i + 1) _ _ (by omega) ?_ ?_ ?_)))))
    · intro Q hQ t ht q
      by_cases e2 : t = i
      · subst e2
        obtain ⟨_, _, u, hu, q2, q3⟩ := hQ t ht q
        exact absurd ⟨u, hu, q2, h1 Q hQ u hu q3⟩ no
      · rw [pk_un e2]; exact h1 Q hQ t ht q
    · intro t ht q
      by_cases e2 : t = i
      · subst e2
        rw [pk_us] at q
        exact absurd rfl q
      · rw [pk_un e2] at q
        exact h2 t ht q
    · exact Or.inr ⟨by decide, i, by omega, h2 i (by omega) c1, pk_us⟩
theorem od_fr55 {post : SY → Prop} {en0 : Nat → Int64} {c y : Nat} (hy : y < 32) (hE : ∀ t, t < 64 → en (64 * y + t) = en0 (64 * y + t))
    (h : ∀ gr ro, od_gs2 ho en0 c y be ro → (∀ t, t < 64 → ro t ≠ 0 → be t ≠ 0 ∧ ho (64 * c + t) ≠ 0) → od_stb en0 y ro → post (cd, pr, gr, ho, we, en, fa, nl, be, ro)) :
    ∀ k i gr ro, i + k = 64 → od_gs2 ho en0 c y be ro → (∀ t, t < 64 → ro t ≠ 0 → be t ≠ 0 ∧ ho (64 * c + t) ≠ 0) → ((gr = 0 ∧ od_stb en0 y ro) ∨ (gr ≠ 0 ∧ od_ct ro + i ≤ 64)) → wY_findRounds_55 post (nI y) cd pr (k + 1) (nI i) gr ho we en fa nl be ro := by
  intro k
  induction k with
  | zero =>
    intro i gr ro hi h1 h2 h3
    have hi' : i = 64 := by omega
    subst hi'
    refine br_t (by decide) (h gr ro h1 h2 ?_)
    rcases h3 with ⟨_, g⟩ | ⟨_, g⟩
    · exact g
    · intro t ht q
      exact absurd (od_ct_0 (be := ro) (by omega) ht) q
  | succ k ih =>
    intro i gr ro hi h1 h2 h3
    refine br_f (nI_ge (b := 64) (by omega) (by decide)) ?_
    rcases h3 with ⟨g0, g⟩ | ⟨g0, g⟩
    · exact br_t g0 (h gr ro h1 h2 g)
    · refine br_f g0 ⟨65, od_fr76 (c := c) (ro0 := ro) hy hE (fun gr' ro' k1 k2 k3 => ih (i + 1) gr' ro' (by omega) k1 (fun t ht q => h2 t ht (k2 t ht q)) ?_) 64 0 0 ro rfl h1 (fun t _ q => q) (Or.inl ⟨rfl, fun t _ q => q, fun t ht => absurd ht (Nat.not_lt_zero t)⟩)⟩
      rcases k3 with k3 | ⟨k3, k4⟩
      · exact Or.inl k3
      · have := od_ct_lt k2 k4
        exact Or.inr ⟨k3, by omega⟩
theorem od_findRounds {post : SY → Prop} {en0 : Nat → Int64} {c y : Nat} (hc : c < 24) (hy : y < 32) (hE : ∀ t, t < 64 → en (64 * y + t) = en0 (64 * y + t))
    (h : ∀ gr ro, od_gs2 ho en0 c y be ro → (∀ t, t < 64 → ro t ≠ 0 → be t ≠ 0 ∧ ho (64 * c + t) ≠ 0) → od_stb en0 y ro → post (cd, pr, gr, ho, we, en, fa, nl, be, ro)) : wpY_findRounds post (cd, pr, gr, ho, we, en, fa, nl, be, ro) (nI c) (nI y) := by
  have init : ∀ k i ro, i + k = 64 → (∀ t, t < i → (ro t ≠ 0 ↔ be t ≠ 0 ∧ ho (64 * c + t) ≠ 0)) → wY_findRounds_2 post (nI c) (nI y) cd pr gr (k + 1) (nI i) ho we en fa nl be ro := by
    intro k
    induction k with
    | zero =>
      intro i ro hi hb
      have hi' : i = 64 := by omega
      subst hi'
      have := od_ct_le ro
      refine br_t (by decide) ⟨65, od_fr55 hy hE h 64 0 1 ro rfl (fun Q hQ t ht q => ?_) (fun t ht q => (hb t ht).mp q) (Or.inr ⟨by decide, by omega⟩)⟩
      obtain ⟨q1, q2, _⟩ := hQ t ht q
      exact (hb t ht).mpr ⟨q1, q2⟩
    | succ k ih =>
      intro i ro hi hb
      have hv : vp_in (nI i) 64 := vp_in_nI (by omega) (by decide)
      have hci : (nI i).toNatClampNeg = i := nI_clamp (by omega)
      have hvh : vp_in (64 * nI c + nI i) 1536 := by rw [od_ix]; exact vp_in_nI (by omega) (by decide)
      have hch : (64 * nI c + nI i).toNatClampNeg = 64 * c + i := by rw [od_ix]; exact nI_clamp (by omega)
      have put : ∀ v : Int32, (v ≠ 0 ↔ be i ≠ 0 ∧ ho (64 * c + i) ≠ 0) → wY_findRounds_2 post (nI c) (nI y) cd pr gr (k + 1) (nI (i + 1)) ho we en fa nl be (upd ro i v) := by
        intro v hv
        refine ih (i + 1) _ (by omega) (fun t ht => ?_)
        by_cases e2 : t = i
        · subst e2; rw [pk_us]; exact hv
        · rw [pk_un e2]; exact hb t (by omega)
      refine br_f (nI_ge (b := 64) (by omega) (by decide)) (And.intro hv ?_)
      by_cases c1 : be i = 0
      · exact br_t (by rw [hci]; exact c1) (And.intro hv (nm_r (e' := upd ro i 0) (by rw [hci, od_bo0]) (nm_r (nI_1 i) (put 0 ⟨fun q => absurd rfl q, fun q => absurd c1 q.1⟩))))
      refine br_f (by rw [hci]; exact c1) (And.intro hvh ?_)
      by_cases c2 : ho (64 * c + i) = 0
      · exact br_t (by rw [hch]; exact c2) (And.intro hv (nm_r (e' := upd ro i 0) (by rw [hci, od_bo0]) (nm_r (nI_1 i) (put 0 ⟨fun q => absurd rfl q, fun q => absurd c2 q.2⟩))))
      · exact br_f (by rw [hch]; exact c2) (And.intro hv (nm_r (e' := upd ro i 1) (by rw [hci, od_bo1]) (nm_r (nI_1 i) (put 1 ⟨fun _ => ⟨c1, c2⟩, fun _ => by decide⟩))))
  exact ⟨65, init 64 0 ro rfl (fun t ht => absurd ht (Nat.not_lt_zero t))⟩
end
end
section
/-! the reference: a loop's row, a program's table -/
theorem od_ex1 {i : Nat} {P : Nat → Prop} : (∃ t, t < i + 1 ∧ P t) ↔ (∃ t, t < i ∧ P t) ∨ P i := by
  constructor
  · intro ⟨t, ht, q⟩
    by_cases e : t = i
    · subst e; exact Or.inr q
    · exact Or.inl ⟨t, by omega, q⟩
  · intro q
    rcases q with ⟨t, ht, q⟩ | q
    · exact ⟨t, by omega, q⟩
    · exact ⟨i, by omega, q⟩
section
variable {cd pr gr : Int32} {ho we : Nat → Int32} {en : Nat → Int64} {fa nl be ro : Nat → Int32}
theorem od_lp127 {post : SY → Prop} {J : Int32 → (Nat → Int32) → (Nat → Int32) → (Nat → Int64) → (Nat → Int32) → (Nat → Int32) → (Nat → Int32) → (Nat → Int32) → Prop} {a c y i : Nat} {f l z : Int32} (ha : a < 2048) (hy : y < 32) (hi : i < 64) (hn : 64 * y + i ≠ a) (hz : z = 0 ∨ z = 1) (h : J (nI (i + 1)) ho we en (upd fa a z) (upd nl a (od_or l (od_or (nl (64 * y + i)) (ro i)))) be ro) : wY_loop_127 post J (nI a) (nI c) (nI y) (nI i) z (nI a) cd pr gr ho we en (upd fa a f) (upd nl a l) be ro := by
  have hva : vp_in (nI a) 2048 := vp_in_nI ha (by decide)
  have hca : (nI a).toNatClampNeg = a := nI_clamp (by omega)
  have hv : vp_in (nI i) 64 := vp_in_nI (by omega) (by decide)
  have hci : (nI i).toNatClampNeg = i := nI_clamp (by omega)
  have hve : vp_in (64 * nI y + nI i) 2048 := by rw [od_ix]; exact vp_in_nI (by omega) (by decide)
  have hce : (64 * nI y + nI i).toNatClampNeg = 64 * y + i := by rw [od_ix]; exact nI_clamp (by omega)
  refine And.intro hva (nm_r (e' := upd fa a z) (by rw [hca, od_ui, od_bo hz]) (And.intro hva ?_))
  have put : ∀ v : Int32, v = 0 ∨ v = 1 → v = od_or l (od_or (nl (64 * y + i)) (ro i)) → vp_in (nI a) 2048 ∧ ∀ nl', nl' = upd (upd nl a l) (nI a).toNatClampNeg (vp_nar .boolean v) → ∀ x, x = nI i + 1 → J x ho we en (upd fa a z) nl' be ro := by
    intro v hv01 ev
    refine And.intro hva (nm_r (e' := upd nl a v) (by rw [hca, od_ui, od_bo hv01]) (nm_r (nI_1 i) ?_))
    rw [ev]
    exact h
  by_cases c1 : l = 0
  · refine br_t (by rw [hca, pk_us]; exact c1) (And.intro hve ?_)
    by_cases c2 : nl (64 * y + i) = 0
    · refine br_t (by rw [hce, pk_un hn]; exact c2) (And.intro hv ?_)
      by_cases c3 : ro i = 0
      · refine br_t (by rw [hci]; exact c3) (put 0 (Or.inl rfl) ?_)
        unfold od_or
        rw [if_pos c1, if_pos c2, if_pos c3, if_pos rfl]
      · refine br_f (by rw [hci]; exact c3) (put 1 (Or.inr rfl) ?_)
        unfold od_or
        rw [if_pos c1, if_pos c2, if_neg c3, if_neg (by decide)]
    · refine br_f (by rw [hce, pk_un hn]; exact c2) (put 1 (Or.inr rfl) ?_)
      unfold od_or
      rw [if_pos c1, if_neg c2, if_neg (by decide)]
  · refine br_f (by rw [hca, pk_us]; exact c1) (put 1 (Or.inr rfl) ?_)
    unfold od_or
    rw [if_neg c1]
theorem od_lp67 {post : SY → Prop} {J : Int32 → (Nat → Int32) → (Nat → Int32) → (Nat → Int64) → (Nat → Int32) → (Nat → Int32) → (Nat → Int32) → (Nat → Int32) → Prop} {a c y i : Nat} {f l : Int32} (ha : a < 2048) (hc : c < 24) (hy : y < 32) (hi : i < 64) (hn : 64 * y + i ≠ a)
    (h0 : ¬ (be i ≠ 0 ∧ ho (64 * c + i) ≠ 0) → J (nI (i + 1)) ho we en (upd fa a f) (upd nl a l) be ro)
    (h1 : be i ≠ 0 ∧ ho (64 * c + i) ≠ 0 → J (nI (i + 1)) ho we en (upd fa a (od_or f (fa (64 * y + i)))) (upd nl a (od_or l (od_or (nl (64 * y + i)) (ro i)))) be ro) : wY_loop_67 post J (nI a) (nI c) (nI y) (nI i) cd pr gr ho we en (upd fa a f) (upd nl a l) be ro := by
  have hva : vp_in (nI a) 2048 := vp_in_nI ha (by decide)
  have hca : (nI a).toNatClampNeg = a := nI_clamp (by omega)
  have hv : vp_in (nI i) 64 := vp_in_nI (by omega) (by decide)
  have hci : (nI i).toNatClampNeg = i := nI_clamp (by omega)
  have hvh : vp_in (64 * nI c + nI i) 1536 := by rw [od_ix]; exact vp_in_nI (by omega) (by decide)
  have hch : (64 * nI c + nI i).toNatClampNeg = 64 * c + i := by rw [od_ix]; exact nI_clamp (by omega)
  have hve : vp_in (64 * nI y + nI i) 2048 := by rw [od_ix]; exact vp_in_nI (by omega) (by decide)
  have hce : (64 * nI y + nI i).toNatClampNeg = 64 * y + i := by rw [od_ix]; exact nI_clamp (by omega)
  refine And.intro hv ?_
  by_cases c1 : be i = 0
  · exact br_t (by rw [hci]; exact c1) (nm_r (nI_1 i) (h0 (fun q => q.1 c1)))
  refine br_f (by rw [hci]; exact c1) (And.intro hvh ?_)
  by_cases c2 : ho (64 * c + i) = 0
  · exact br_t (by rw [hch]; exact c2) (nm_r (nI_1 i) (h0 (fun q => q.2 c2)))
  refine br_f (by rw [hch]; exact c2) (And.intro hva ?_)
  have h1' := h1 ⟨c1, c2⟩
  have eo : od_or f (fa (64 * y + i)) = if f = 0 then (if fa (64 * y + i) = 0 then 0 else 1) else 1 := rfl
  rw [eo] at h1'
  by_cases c3 : f = 0
  · rw [if_pos c3] at h1'
    refine br_t (by rw [hca, pk_us]; exact c3) (And.intro hve ?_)
    by_cases c4 : fa (64 * y + i) = 0
    · rw [if_pos c4] at h1'
      exact br_t (by rw [hce, pk_un hn]; exact c4) (od_lp127 ha hy hi hn (Or.inl rfl) h1')
    · rw [if_neg c4] at h1'
      exact br_f (by rw [hce, pk_un hn]; exact c4) (od_lp127 ha hy hi hn (Or.inr rfl) h1')
  · rw [if_neg c3] at h1'
    exact br_f (by rw [hca, pk_us]; exact c3) (od_lp127 ha hy hi hn (Or.inr rfl) h1')
theorem od_lp18 {post : SY → Prop} {en0 : Nat → Int64} {fa0 nl0 : Nat → Int32} {a c y np : Nat} (ha : a < 2048) (hna : 64 * np ≤ a) (hc : c < 24) (hy : y < np) (hA : ∀ j, j < 64 * np → en j = en0 j ∧ fa j = fa0 j ∧ nl j = nl0 j)
    (h : ∀ e f l, (f = 0 ∨ f = 1) → (l = 0 ∨ l = 1) → (∀ t, t < 64 → (od_b e t = true ↔ be t ≠ 0 ∧ ho (64 * c + t) = 0)) → (f ≠ 0 ↔ ∃ t, t < 64 ∧ be t ≠ 0 ∧ ho (64 * c + t) ≠ 0 ∧ fa0 (64 * y + t) ≠ 0) → (l ≠ 0 ↔ ∃ t, t < 64 ∧ be t ≠ 0 ∧ ho (64 * c + t) ≠ 0 ∧ (nl0 (64 * y + t) ≠ 0 ∨ ro t ≠ 0)) → post (cd, pr, gr, ho, we, vp_updL en a e, upd fa a f, upd nl a l, be, ro)) :
    ∀ k i e f l, i + k = 64 → (f = 0 ∨ f = 1) → (l = 0 ∨ l = 1) → (∀ t, t < 64 → (od_b e t = true ↔ t < i ∧ be t ≠ 0 ∧ ho (64 * c + t) = 0)) → (f ≠ 0 ↔ ∃ t, t < i ∧ be t ≠ 0 ∧ ho (64 * c + t) ≠ 0 ∧ fa0 (64 * y + t) ≠ 0) → (l ≠ 0 ↔ ∃ t, t < i ∧ be t ≠ 0 ∧ ho (64 * c + t) ≠ 0 ∧ (nl0 (64 * y + t) ≠ 0 ∨ ro t ≠ 0)) → wY_loop_18 post (nI a) (nI c) (nI y) cd pr gr (k + 1) (nI i) ho we (vp_updL en a e) (upd fa a f) (upd nl a l) be ro := by
  intro k
  induction k with
  | zero =>
    intro i e f l hi hf hl he hf2 hl2
    have hi' : i = 64 := by omega
    subst hi'
    refine br_t (by decide) (h e f l hf hl (fun t ht => ?_) hf2 hl2)
    rw [he t ht]
    exact ⟨fun q => q.2, fun q => ⟨ht, q⟩⟩
  | succ k ih =>
    intro i e f l hi hf hl he hf2 hl2
    have hva : vp_in (nI a) 2048 := vp_in_nI ha (by decide)
    have hca : (nI a).toNatClampNeg = a := nI_clamp (by omega)
    have hv : vp_in (nI i) 64 := vp_in_nI (by omega) (by decide)
    have hci : (nI i).toNatClampNeg = i := nI_clamp (by omega)
    have hvh : vp_in (64 * nI c + nI i) 1536 := by rw [od_ix]; exact vp_in_nI (by omega) (by decide)
    have hch : (64 * nI c + nI i).toNatClampNeg = 64 * c + i := by rw [od_ix]; exact nI_clamp (by omega)
    obtain ⟨a1, a2, a3⟩ := hA (64 * y + i) (by omega)
    -- what follows, once the row's ends are right
    have rest : ∀ e', (∀ t, t < 64 → (od_b e' t = true ↔ t < i + 1 ∧ be t ≠ 0 ∧ ho (64 * c + t) = 0)) → wY_loop_67 post (wY_loop_18 post (nI a) (nI c) (nI y) cd pr gr (k + 1)) (nI a) (nI c) (nI y) (nI i) cd pr gr ho we (vp_updL en a e') (upd fa a f) (upd nl a l) be ro := by
      intro e' he'
      refine od_lp67 ha hc (by omega) (by omega) (by omega) (fun no => ?_) (fun yes => ?_)
      · refine ih (i + 1) e' f l (by omega) hf hl he' ?_ ?_
        · rw [hf2, od_ex1]
          exact ⟨Or.inl, fun q => q.elim id (fun w => absurd ⟨w.1, w.2.1⟩ no)⟩
        · rw [hl2, od_ex1]
          exact ⟨Or.inl, fun q => q.elim id (fun w => absurd ⟨w.1, w.2.1⟩ no)⟩
      · rw [a2, a3]
        refine ih (i + 1) e' _ _ (by omega) (od_or01 _ _) (od_or01 _ _) he' ?_ ?_
        · rw [od_orN, hf2, od_ex1]
          exact ⟨fun q => q.elim Or.inl (fun w => Or.inr ⟨yes.1, yes.2, w⟩), fun q => q.elim Or.inl (fun w => Or.inr w.2.2)⟩
        · rw [od_orN, od_orN, hl2, od_ex1]
          exact ⟨fun q => q.elim Or.inl (fun w => Or.inr ⟨yes.1, yes.2, w⟩), fun q => q.elim Or.inl (fun w => Or.inr w.2.2)⟩
    have keep : ¬ (be i ≠ 0 ∧ ho (64 * c + i) = 0) → ∀ t, t < 64 → (od_b e t = true ↔ t < i + 1 ∧ be t ≠ 0 ∧ ho (64 * c + t) = 0) := by
      intro no t ht
      rw [he t ht]
      constructor
      · intro q
        exact ⟨by omega, q.2⟩
      · intro q
        by_cases e2 : t = i
        · subst e2; exact absurd q.2 no
        · exact ⟨by omega, q.2⟩
    refine br_f (nI_ge (b := 64) (by omega) (by decide)) (And.intro hv ?_)
    by_cases c1 : be i = 0
    · exact br_t (by rw [hci]; exact c1) (rest e (keep (fun q => q.1 c1)))
    refine br_f (by rw [hci]; exact c1) (And.intro hvh ?_)
    by_cases c2 : ho (64 * c + i) = 0
    · refine br_t (by rw [hch]; exact c2) (And.intro hva (And.intro hva (nm_r (e' := vp_updL en a (e ||| od_1 i)) (by rw [hca, od_ule, pk_uLs]; rfl) (rest _ (fun t ht => ?_)))))
      rw [od_bor, Bool.or_eq_true, he t ht, od_b1 (by omega)]
      constructor
      · intro q
        rcases q with q | q
        · exact ⟨by omega, q.2⟩
        · have := of_decide_eq_true q
          subst this
          exact ⟨by omega, c1, c2⟩
      · intro q
        by_cases e2 : t = i
        · exact Or.inr (decide_eq_true e2)
        · exact Or.inl ⟨by omega, q.2⟩
    · exact br_f (by rw [hch]; exact c2) (rest e (keep (fun q => c2 q.2)))
theorem od_loop {post : SY → Prop} {en0 : Nat → Int64} {fa0 nl0 : Nat → Int32} {a c y z s np : Nat} (hn : np ≤ 31) (ha : a = 64 * np + s) (hs : s < 64) (hc : c < 24) (hy : y < np) (hA : ∀ j, j < 64 * np → en j = en0 j ∧ fa j = fa0 j ∧ nl j = nl0 j)
    (h : ∀ gr be ro e f l, od_O ho en0 fa0 nl0 c y z s e f l 9 → post (cd, pr, gr, ho, we, vp_updL en a e, upd fa a f, upd nl a l, be, ro)) : wpY_loop post (cd, pr, gr, ho, we, vp_updL en a 0, upd fa a 0, upd nl a 0, be, ro) (nI a) (nI s) (nI c) (nI y) := by
  have hE : ∀ t, t < 64 → vp_updL en a 0 (64 * y + t) = en0 (64 * y + t) := fun t ht => by rw [pk_uLn (by omega)]; exact (hA _ (by omega)).1
  refine od_spread (en0 := en0) hc (by omega) hs hE (fun gr1 be1 b1 b2 b3 => ?_)
  refine od_findRounds (en0 := en0) hc (by omega) hE (fun gr2 ro2 r1 r2 r3 => ?_)
  refine ⟨65, od_lp18 (np := np) (by omega) (by omega) hc hy hA (fun e f l hf hl he hf2 hl2 => h gr2 be1 ro2 e f l ⟨hf, hl, fun t => be1 t ≠ 0, fun t => ro2 t ≠ 0, ⟨b1, b3, b2, fun t ht q => ?_, r1⟩, he, hf2, hl2⟩) 64 0 0 0 0 rfl (Or.inl rfl) (Or.inl rfl) (fun t ht => ?_) ?_ ?_⟩
  · obtain ⟨q1, q2⟩ := r2 t ht q
    exact ⟨q1, q2, r3 t ht q⟩
  · rw [od_b0]
    exact ⟨fun q => absurd q (by decide), fun q => absurd q.1 (Nat.not_lt_zero t)⟩
  · exact ⟨fun q => absurd rfl q, fun ⟨t, ht, _⟩ => absurd ht (Nat.not_lt_zero t)⟩
  · exact ⟨fun q => absurd rfl q, fun ⟨t, ht, _⟩ => absurd ht (Nat.not_lt_zero t)⟩
end
/-- operands that fit -/
def od_ops (nc np K x y z : Nat) (ax ay az : Int32) : Prop :=
  (K = 2 → ax = nI x ∧ ay = nI y ∧ az = nI z ∧ x < 3 ∧ y < 4 ∧ z < 4) ∧ (K = 3 → ax = nI x ∧ x < 3) ∧ (K = 4 ∨ K = 5 → ax = nI x ∧ x < nc)
  ∧ (K = 6 ∨ K = 8 → ax = nI x ∧ ay = nI y ∧ x < np ∧ y < np) ∧ (K = 7 → ax = nI x ∧ ay = nI y ∧ az = nI z ∧ x < nc ∧ y < np ∧ z < np) ∧ (K = 9 → ax = nI x ∧ ay = nI y ∧ x < nc ∧ y < np)
section
variable {cd pr gr : Int32} {ho we : Nat → Int32} {en : Nat → Int64} {fa nl be ro : Nat → Int32}
abbrev od_JT : Type := Int32 → Int32 → Int32 → Int32 → (Nat → Int32) → (Nat → Int32) → (Nat → Int64) → (Nat → Int32) → (Nat → Int32) → (Nat → Int32) → (Nat → Int32) → Prop
theorem od_275 {post : Int32 → SY → Prop} {J : od_JT} {x2 x3 x4 x7 : Int32} {K s : Nat} (hK : K < 9) (h : J (nI (s + 1)) cd pr gr ho we en fa nl be ro) : wY_program_275 post J (nI K) x2 x3 x4 (nI s) x7 cd pr gr ho we en fa nl be ro := br_f (fun z => absurd ((nI_eq (b := 9) (by omega) (by decide)).mp z) (by omega)) (nm_r (nI_1 s) h)
theorem od_243 {post : Int32 → SY → Prop} {J : od_JT} {x2 x3 x4 x7 : Int32} {K s : Nat} (hK : K < 8) (h : J (nI (s + 1)) cd pr gr ho we en fa nl be ro) : wY_program_243 post J (nI K) x2 x3 x4 (nI s) x7 cd pr gr ho we en fa nl be ro := br_f (fun z => absurd ((nI_eq (b := 8) (by omega) (by decide)).mp z) (by omega)) (od_275 (by omega) h)
theorem od_204 {post : Int32 → SY → Prop} {J : od_JT} {x2 x3 x4 x7 : Int32} {K s : Nat} (hK : K < 7) (h : J (nI (s + 1)) cd pr gr ho we en fa nl be ro) : wY_program_204 post J (nI K) x2 x3 x4 (nI s) x7 cd pr gr ho we en fa nl be ro := br_f (fun z => absurd ((nI_eq (b := 7) (by omega) (by decide)).mp z) (by omega)) (od_243 (by omega) h)
theorem od_184 {post : Int32 → SY → Prop} {J : od_JT} {x2 x3 x4 x7 : Int32} {K s : Nat} (hK : K < 6) (h : J (nI (s + 1)) cd pr gr ho we en fa nl be ro) : wY_program_184 post J (nI K) x2 x3 x4 (nI s) x7 cd pr gr ho we en fa nl be ro := br_f (fun z => absurd ((nI_eq (b := 6) (by omega) (by decide)).mp z) (by omega)) (od_204 (by omega) h)
theorem od_orZ {v : Int32} (h : v = 0 ∨ v = 1) : od_or 0 v = v := by rcases h with h | h <;> subst h <;> rfl
theorem od_bodyB {post : Int32 → SY → Prop} {J : od_JT} {en0 : Nat → Int64} {fa0 nl0 : Nat → Int32} {a K x y z s nc np : Nat} {v2 v3 v4 : Int32} (hn : np ≤ 31) (hc : nc ≤ 24) (ha : a = 64 * np + s) (hs : s < 64) (h6 : 6 ≤ K) (hK : K < 10) (hop : od_ops nc np K x y z v2 v3 v4) (hA : ∀ j, j < 64 * np → en j = en0 j ∧ fa j = fa0 j ∧ nl j = nl0 j) (h01 : ∀ j, j < 64 * np → (fa0 j = 0 ∨ fa0 j = 1) ∧ (nl0 j = 0 ∨ nl0 j = 1))
    (h : ∀ gr be ro e f l, od_O ho en0 fa0 nl0 x y z s e f l K → J (nI (s + 1)) cd pr gr ho we (vp_updL en a e) (upd fa a f) (upd nl a l) be ro) : wY_program_184 post J (nI K) v2 v3 v4 (nI s) (nI a) cd pr gr ho we (vp_updL en a 0) (upd fa a 0) (upd nl a 0) be ro := by
  obtain ⟨_, _, _, o68, o7, o9⟩ := hop
  have hK' : K = 6 ∨ K = 7 ∨ K = 8 ∨ K = 9 := by omega
  rcases hK' with k | k | k | k <;> subst k
  · obtain ⟨e2, e3, hx, hy⟩ := o68 (Or.inl rfl)
    subst e2 e3
    exact br_t rfl (od_follow (z := z) hn ha hs hx hy hA (h01 _ (by omega)) (od_ix x s) (fun e f l hO => od_204 (by decide) (h gr be ro e f l hO)))
  · obtain ⟨e2, e3, e4, hx, hy, hz⟩ := o7 rfl
    subst e2 e3 e4
    have hvh : vp_in (64 * nI x + nI s) 1536 := by rw [od_ix]; exact vp_in_nI (by omega) (by decide)
    have hch : (64 * nI x + nI s).toNatClampNeg = 64 * x + s := by rw [od_ix]; exact nI_clamp (by omega)
    have tk : ∀ q, q < np → q = (if ho (64 * x + s) = 0 then z else y) → wY_program_236 post J (nI 7) (nI x) (nI y) (nI z) (nI s) (nI a) (nI q) 64 (nI a) cd pr gr ho we (vp_updL en a 0) (upd fa a 0) (upd nl a 0) be ro := by
      intro q hq eq
      obtain ⟨a1, a2, a3⟩ := hA (64 * q + s) (by omega)
      obtain ⟨b1, b2⟩ := h01 (64 * q + s) (by omega)
      refine od_takeU (q := 64 * q + s) (by omega) (by omega) (by omega) (od_ix q s) ?_
      rw [a1, a2, a3, od_orZ b1, od_orZ b2]
      refine od_243 (by decide) (h gr be ro _ _ _ ⟨b1, b2, ?_⟩)
      show _ = en0 (64 * (if ho (64 * x + s) = 0 then z else y) + s) ∧ (_ ≠ 0 ↔ fa0 (64 * (if ho (64 * x + s) = 0 then z else y) + s) ≠ 0) ∧ (_ ≠ 0 ↔ nl0 (64 * (if ho (64 * x + s) = 0 then z else y) + s) ≠ 0)
      rw [← eq]
      refine ⟨od_bx (fun i _ => by rw [od_bor, od_b0, Bool.false_or]), Iff.rfl, Iff.rfl⟩
    refine br_f (by decide) (br_t rfl (And.intro hvh ?_))
    by_cases c : ho (64 * x + s) = 0
    · exact br_t (by rw [hch]; exact c) (tk z hz (if_pos c).symm)
    · exact br_f (by rw [hch]; exact c) (tk y hy (if_neg c).symm)
  · obtain ⟨e2, e3, hx, hy⟩ := o68 (Or.inr rfl)
    subst e2 e3
    obtain ⟨a1, a2, a3⟩ := hA (64 * x + s) (by omega)
    obtain ⟨b1, b2, b3⟩ := hA (64 * y + s) (by omega)
    obtain ⟨z1, z2⟩ := h01 (64 * x + s) (by omega)
    refine br_f (by decide) (br_f (by decide) (br_t rfl (od_takeU (q := 64 * x + s) (by omega) (by omega) (by omega) (od_ix x s) (od_takeU (q := 64 * y + s) (by omega) (by omega) (by omega) (od_ix y s) ?_))))
    rw [a1, a2, a3, b1, b2, b3, od_orZ z1, od_orZ z2]
    refine od_275 (by decide) (h gr be ro _ _ _ ⟨od_or01 _ _, od_or01 _ _, ?_, od_orN _ _, od_orN _ _⟩)
    exact od_bx (fun i _ => by rw [od_bor, od_bor, od_b0, Bool.false_or, od_bor])
  · obtain ⟨e2, e3, hx, hy⟩ := o9 rfl
    subst e2 e3
    exact br_f (by decide) (br_f (by decide) (br_f (by decide) (br_t rfl (od_loop (z := z) hn ha hs (by omega) hy hA (fun gr be ro e f l hO => nm_r (nI_1 s) (h gr be ro e f l hO))))))
theorem od_prog_loop {post : Int32 → SY → Prop} {en0 : Nat → Int64} {fa0 nl0 : Nat → Int32} {K x y z nc np : Nat} {v2 v3 v4 : Int32} (hn : np ≤ 31) (hc : nc ≤ 24) (hK : K < 10) (hop : od_ops nc np K x y z v2 v3 v4) (h01 : ∀ j, j < 64 * np → (fa0 j = 0 ∨ fa0 j = 1) ∧ (nl0 j = 0 ∨ nl0 j = 1))
    (h : ∀ gr en fa nl be ro, (∀ j, j < 64 * np → en j = en0 j ∧ fa j = fa0 j ∧ nl j = nl0 j) → (∀ s, s < 64 → od_O ho en0 fa0 nl0 x y z s (en (64 * np + s)) (fa (64 * np + s)) (nl (64 * np + s)) K) → post (nI np) (cd, nI (np + 1), gr, ho, we, en, fa, nl, be, ro)) :
    ∀ k i gr en fa nl be ro, i + k = 64 → (∀ j, j < 64 * np → en j = en0 j ∧ fa j = fa0 j ∧ nl j = nl0 j) → (∀ s, s < i → od_O ho en0 fa0 nl0 x y z s (en (64 * np + s)) (fa (64 * np + s)) (nl (64 * np + s)) K) → wY_program_122 post (nI K) v2 v3 v4 (k + 1) (nI i) cd (nI np) gr ho we en fa nl be ro := by
  intro k
  induction k with
  | zero =>
    intro i gr en fa nl be ro hi hA hO
    have hi' : i = 64 := by omega
    subst hi'
    refine br_t (by decide) (nm_r (e' := nI (np + 1)) (nI_1 np) ?_)
    rw [nI_pred]
    exact h gr en fa nl be ro hA hO
  | succ k ih =>
    intro i gr en fa nl be ro hi hA hO
    have hva : vp_in (nI (64 * np + i)) 2048 := vp_in_nI (by omega) (by decide)
    have hca : (nI (64 * np + i)).toNatClampNeg = 64 * np + i := nI_clamp (by omega)
    have nxt : ∀ gr be ro e f l, od_O ho en0 fa0 nl0 x y z i e f l K → wY_program_122 post (nI K) v2 v3 v4 (k + 1) (nI (i + 1)) cd (nI np) gr ho we (vp_updL en (64 * np + i) e) (upd fa (64 * np + i) f) (upd nl (64 * np + i) l) be ro := by
      intro gr be ro e f l ho'
      refine ih (i + 1) gr _ _ _ be ro (by omega) (fun j hj => ?_) (fun s hs => ?_)
      · rw [pk_uLn (by omega), pk_un (by omega), pk_un (by omega)]
        exact hA j hj
      · by_cases e2 : s = i
        · subst e2
          rw [pk_uLs, pk_us, pk_us]
          exact ho'
        · rw [pk_uLn (by omega), pk_un (by omega), pk_un (by omega)]
          exact hO s (by omega)
    refine br_f (nI_ge (b := 64) (by omega) (by decide)) (nm_r (e' := nI (64 * np + i)) (od_ix np i) (And.intro hva (nm_r (e' := vp_updL en (64 * np + i) 0) (by rw [hca]) (And.intro hva (nm_r (e' := upd fa (64 * np + i) 0) (by rw [hca, od_bo0]) (And.intro hva (nm_r (e' := upd nl (64 * np + i) 0) (by rw [hca, od_bo0]) ?_)))))))
    by_cases c : 6 ≤ K
    · exact br_t ((nI_leI (a := 6) (by decide) (by omega)).mpr c) (od_bodyB hn hc rfl (by omega) c hK hop hA h01 nxt)
    · refine br_f (fun q => c ((nI_leI (a := 6) (by decide) (by omega)).mp q)) ?_
      exact od_simple (en0 := en0) (fa0 := fa0) (nl0 := nl0) (y := y) (z := z) (by omega) hc (by omega) (by omega) hop.1 hop.2.1 hop.2.2.1 (fun e f l hO' => od_184 (by omega) (nxt gr be ro e f l hO'))
end
end
section
/-! the relation, range checks, the law of a new program -/
def od_in (v : Int32) (n : Nat) : Int32 := if v < 0 then 0 else if nI n ≤ v then 0 else 1
theorem od_in_c (v : Int32) {n : Nat} (hn : n < 2 ^ 31) : (od_in v n = 0 ∧ ∀ j, j < n → v ≠ nI j) ∨ (od_in v n = 1 ∧ ∃ j, j < n ∧ v = nI j) := by
  unfold od_in
  rcases pk_ix v hn with h | h | ⟨j, hj, e⟩
  · refine Or.inl ⟨if_pos h, fun j hj e => ?_⟩
    rw [e] at h
    exact nI_pos (by omega) h
  · refine Or.inl ⟨?_, fun j hj e => ?_⟩
    · split
      · rfl
      · rfl
    · rw [e] at h
      exact nI_ge hj hn h
  · refine Or.inr ⟨?_, j, hj, e⟩
    rw [e, if_neg (nI_pos (by omega)), if_neg (nI_ge hj hn)]
theorem od_in01 (v : Int32) (n : Nat) : od_in v n = 0 ∨ od_in v n = 1 := by
  unfold od_in
  split
  · exact Or.inl rfl
  · split
    · exact Or.inl rfl
    · exact Or.inr rfl
/-- a range check written out: below 0, above b -/
theorem od_inl {v b : Int32} {n : Nat} {A B : Prop} (hn : n < 2 ^ 30) (hb : b.toInt = (n : Int) - 1) (h0 : od_in v n = 0 → A) (h1 : od_in v n = 1 → B) : (v < 0 → A) ∧ (¬ v < 0 → ((b < v → A) ∧ (¬ b < v → B))) := by
  unfold od_in at h0 h1
  by_cases c : v < 0
  · rw [if_pos c] at h0
    exact br_t c (h0 rfl)
  · rw [if_neg c] at h0 h1
    refine br_f c ?_
    have e : b < v ↔ nI n ≤ v := by
      rw [Int32.lt_iff_toInt_lt, Int32.le_iff_toInt_le, hb, nI_toInt (by omega)]
      omega
    by_cases d : nI n ≤ v
    · rw [if_pos d] at h0
      exact br_t (e.mpr d) (h0 rfl)
    · rw [if_neg d] at h1
      exact br_f (fun q => d (e.mp q)) (h1 rfl)
theorem od_inm {v : Int32} {n : Nat} {A B : Prop} (h0 : od_in v n = 0 → A) (h1 : od_in v n = 1 → B) : (v < 0 → A) ∧ (¬ v < 0 → ((nI n ≤ v → A) ∧ (¬ nI n ≤ v → B))) := by
  unfold od_in at h0 h1
  by_cases c : v < 0
  · rw [if_pos c] at h0
    exact br_t c (h0 rfl)
  · rw [if_neg c] at h0 h1
    refine br_f c ?_
    by_cases d : nI n ≤ v
    · rw [if_pos d] at h0
      exact br_t d (h0 rfl)
    · rw [if_neg d] at h1
      exact br_f d (h1 rfl)
theorem od_nar {v : Int32} (h : v = 0 ∨ v = 1) : narrow .boolean (.int v) = .int v := by rcases h with h | h <;> subst h <;> rfl
theorem od_pm {n : Nat} (hn : n < 2 ^ 30) : (nI n - 1).toInt = (n : Int) - 1 := pk_sub_toInt (b := 1) hn (by decide)
section
variable {cc pc lv dp : Int32} {st : Int64} {wh : Nat → Int64} {ko px py pz wo na ph nu : Nat → Int32} {go ke : Nat → Int64} {ib : Nat → Int32} {re : Nat → Int64} {cf : Nat → Int32} {cg cr : Nat → Int64}
theorem od_xvar {post : Int32 → Prop} {v : Int32} (h : post (od_in v 3)) : wpX_isVariable post (cc, pc, lv, dp, st, wh, ko, px, py, pz, wo, na, ph, nu, go, ke, ib, re, cf, cg, cr) v := od_inl (n := 3) (by decide) (by decide) (fun e => by rw [e] at h; exact h) (fun e => by rw [e] at h; exact h)
theorem od_xcon {post : Int32 → Prop} {v : Int32} {nc : Nat} (h : post (od_in v nc)) : wpX_isCondition post (nI nc, pc, lv, dp, st, wh, ko, px, py, pz, wo, na, ph, nu, go, ke, ib, re, cf, cg, cr) v := od_inm (n := nc) (fun e => by rw [e] at h; exact h) (fun e => by rw [e] at h; exact h)
theorem od_xpro {post : Int32 → Prop} {v : Int32} {np : Nat} (h : post (od_in v np)) : wpX_isProgram post (cc, nI np, lv, dp, st, wh, ko, px, py, pz, wo, na, ph, nu, go, ke, ib, re, cf, cg, cr) v := od_inm (n := np) (fun e => by rw [e] at h; exact h) (fun e => by rw [e] at h; exact h)
end
section
variable {cd pr gr : Int32} {ho we : Nat → Int32} {en : Nat → Int64} {fa nl be ro : Nat → Int32}
theorem od_yin {post : Int32 → Prop} {v b : Int32} {n : Nat} (hn : n < 2 ^ 30) (hb : b.toInt = (n : Int) - 1) (h : post (od_in v n)) : wpY_in post (cd, pr, gr, ho, we, en, fa, nl, be, ro) v 0 b := od_inl hn hb (fun e => by rw [e] at h; exact h) (fun e => by rw [e] at h; exact h)
theorem od_ycon {post : Int32 → Prop} {v : Int32} {nc : Nat} (hn : nc ≤ 24) (h : post (od_in v nc)) : wpY_isCondition post (nI nc, pr, gr, ho, we, en, fa, nl, be, ro) v := by
  unfold wpY_isCondition
  dsimp only
  exact od_yin (n := nc) (by omega) (od_pm (by omega)) ⟨od_nar (od_in01 v nc), h⟩
theorem od_ypro {post : Int32 → Prop} {v : Int32} {np : Nat} (hn : np ≤ 32) (h : post (od_in v np)) : wpY_isProgram post (cd, nI np, gr, ho, we, en, fa, nl, be, ro) v := by
  unfold wpY_isProgram
  dsimp only
  exact od_yin (n := np) (by omega) (od_pm (by omega)) ⟨od_nar (od_in01 v np), h⟩
end
def od_F (nc np : Nat) (wh : Nat → Int64) (ko px py pz wo ho we : Nat → Int32) (en : Nat → Int64) (fa nl : Nat → Int32) : Prop :=
  nc ≤ 24 ∧ np ≤ 32 ∧ (∀ c, c < nc → ∀ s, s < 64 → (od_b (wh c) s = true ↔ ho (64 * c + s) ≠ 0)) ∧ (∀ p, p < np → od_P nc wh ko px py pz wo (od_M en fa nl) p) ∧ (∀ p, p < np → we p = wo p) ∧ (∀ j, j < 64 * np → (fa j = 0 ∨ fa j = 1) ∧ (nl j = 0 ∨ nl j = 1))
/-- the two states: counts alike, conditions by their bits, programs that obey their laws, a cache that is right -/
def i_Rel (k : Nat) (u : SX) (v : SY) : Prop := ∃ (nc np : Nat) (lv : Int32) (wh : Nat → Int64) (ko px py pz wo : Nat → Int32) (gr : Int32) (ho we : Nat → Int32) (en : Nat → Int64) (fa nl be ro : Nat → Int32), v = (nI nc, nI np, gr, ho, we, en, fa, nl, be, ro) ∧ od_X nc np lv wh ko px py pz wo (od_M en fa nl) u ∧ od_F nc np wh ko px py pz wo ho we en fa nl
theorem i_up {k : Nat} {u : SX} {v : SY} (h : i_Rel k u v) : i_Rel (k + 5) u v := h
theorem od_mkR {k nc np : Nat} {lv : Int32} {wh : Nat → Int64} {ko px py pz wo : Nat → Int32} {gr : Int32} {ho we : Nat → Int32} {en : Nat → Int64} {fa nl be ro : Nat → Int32} {u : SX} (hX : od_X nc np lv wh ko px py pz wo (od_M en fa nl) u) (hF : od_F nc np wh ko px py pz wo ho we en fa nl) : i_Rel k u (nI nc, nI np, gr, ho, we, en, fa, nl, be, ro) := ⟨nc, np, lv, wh, ko, px, py, pz, wo, gr, ho, we, en, fa, nl, be, ro, rfl, hX, hF⟩
theorem od_el {P : SX → SY → Prop} (h : ∀ (nc np : Nat) (lv : Int32) (wh : Nat → Int64) (ko px py pz wo : Nat → Int32) (gr : Int32) (ho we : Nat → Int32) (en : Nat → Int64) (fa nl be ro : Nat → Int32) (u : SX), od_X nc np lv wh ko px py pz wo (od_M en fa nl) u → od_F nc np wh ko px py pz wo ho we en fa nl → P u (nI nc, nI np, gr, ho, we, en, fa, nl, be, ro)) {k : Nat} {u : SX} {v : SY} (I : i_Rel k u v) : P u v := by
  obtain ⟨nc, np, lv, wh, ko, px, py, pz, wo, gr, ho, we, en, fa, nl, be, ro, rfl, hX, hF⟩ := I
  exact h nc np lv wh ko px py pz wo gr ho we en fa nl be ro u hX hF
theorem i_vc0 : wpX_init (fun u => wpY_init (fun v => i_Rel 0 u v)) := by
  show i_Rel 0 _ _
  refine od_mkR (nc := 0) (np := 0) (lv := 1) (wh := fun _ => 0) (ko := fun _ => 0) (px := fun _ => 0) (py := fun _ => 0) (pz := fun _ => 0) (wo := fun _ => 0) (gr := 0) (ho := fun _ => 0) (we := fun _ => 0) (en := fun _ => 0) (fa := fun _ => 0) (nl := fun _ => 0) (be := fun _ => 0) (ro := fun _ => 0) ?_ ?_
  · exact ⟨_, _, _, _, _, _, _, _, _, _, _, _, rfl, fun k _ => ⟨rfl, by show (0 : Int32).toNatClampNeg < 1; decide, fun p m hp => absurd hp (Nat.not_lt_zero p)⟩⟩
  · exact ⟨by decide, by decide, fun c hc => absurd hc (Nat.not_lt_zero c), fun c hc => absurd hc (Nat.not_lt_zero c), fun c hc => absurd hc (Nat.not_lt_zero c), fun j hj => absurd hj (by omega)⟩
/-! the law of a new program -/
def od_w (W : Nat → Nat) (K x y z : Nat) : Nat := if K < 6 then 1 else if K = 7 then 1 + W y + W z else if K = 9 then 1 + W y else 1 + W x + W y
theorem od_newL {nc np K x y z : Nat} {wh : Nat → Int64} {ho : Nat → Int32} {en en' : Nat → Int64} {fa nl fa' nl' : Nat → Int32} {W : Nat → Nat} {ax ay az : Int32} (hH : ∀ c, c < nc → ∀ s, s < 64 → (od_b (wh c) s = true ↔ ho (64 * c + s) ≠ 0)) (hO : ∀ s, s < 64 → od_O ho en fa nl x y z s (en' (64 * np + s)) (fa' (64 * np + s)) (nl' (64 * np + s)) K) (hM : ∀ q, q < np → od_M en' fa' nl' q = od_M en fa nl q) (hW : W np = od_w W K x y z) (hop : od_ops nc np K x y z ax ay az) : od_L nc wh W (od_M en' fa' nl') np K x y z ax ay az := by
  obtain ⟨o2, o3, o45, o68, o7, o9⟩ := hop
  have hO' : ∀ s, s < 64 → od_Ob ho en fa nl x y z s (en' (64 * np + s)) (fa' (64 * np + s)) (nl' (64 * np + s)) K := fun s hs => (hO s hs).2.2
  unfold od_w at hW
  refine ⟨fun k => ?_, fun k => ?_, fun k => ?_, fun k => ?_, fun k => ?_⟩
  · rw [if_pos k] at hW
    refine ⟨hW, o2, o3, o45, fun m g _ => od_bxT (fun s hs => ?_)⟩
    rw [od_Mb hs]
    exact od_leafb hH k hs (fun e => (o2 e).2.2.2) (fun e => (o3 e).2) (fun e => (o45 e).2) (hO' s hs)
  · subst k
    obtain ⟨e1, e2, hx, hy⟩ := o68 (Or.inl rfl)
    refine ⟨e1, e2, hx, hy, hW, fun m g _ => od_bxT (fun s hs => ?_)⟩
    rw [od_Mb hs, hM x hx, hM y hy]
    exact od_b6 hs (hO' s hs)
  · subst k
    obtain ⟨e1, e2, e3, hx, hy, hz⟩ := o7 rfl
    refine ⟨e1, e2, e3, hx, hy, hz, hW, fun m g _ => od_bxT (fun s hs => ?_)⟩
    rw [od_Mb hs, hM y hy, hM z hz]
    exact od_b7 hH hx hs (hO' s hs)
  · subst k
    obtain ⟨e1, e2, hx, hy⟩ := o68 (Or.inr rfl)
    refine ⟨e1, e2, hx, hy, hW, fun m g _ => od_bxT (fun s hs => ?_)⟩
    rw [od_Mb hs, hM x hx, hM y hy]
    exact od_b8 hs (hO' s hs)
  · subst k
    obtain ⟨e1, e2, hx, hy⟩ := o9 rfl
    refine ⟨e1, e2, hx, hy, hW, fun m g _ => ?_⟩
    rw [hM y hy]
    exact od_b9 hH hx (E := fun s => en' (64 * np + s)) (F := fun s => fa' (64 * np + s)) (L := fun s => nl' (64 * np + s)) hO' g _ (fun s hs => od_Mb hs)
/-! level, drop -/
theorem i_vc_level {k : Nat} {u : SX} {v : SY} (I : i_Rel k u v) (hk : k + 5 ≤ 2560) (v1 : Int32) : wpX_level (fun r u' => wpY_level (fun r' => r' = r ∧ i_Rel (k + 5) u' v) v v1) u v1 := by
  refine od_el (P := fun u v => wpX_level (fun r u' => wpY_level (fun r' => r' = r ∧ i_Rel (k + 5) u' v) v v1) u v1) ?_ I
  intro nc np lv wh ko px py pz wo gr ho we en fa nl be ro u hX hF
  have hX' := hX
  obtain ⟨dp, st, na, ph, nu, go, ke, ib, re, cf, cg, cr, rfl, hC⟩ := hX
  by_cases c0 : v1 < 0
  · have n0 : ¬ v1 = 0 := fun e => by rw [e] at c0; exact absurd c0 (by decide)
    have n1 : ¬ v1 = 1 := fun e => by rw [e] at c0; exact absurd c0 (by decide)
    exact br_t c0 (br_f n0 (br_f n1 ⟨rfl, od_mkR hX' hF⟩))
  refine br_f c0 ?_
  by_cases c1 : v1 ≤ 1
  · refine br_t c1 ?_
    have hY : i_Rel (k + 5) (nI nc, nI np, v1, dp, st, wh, ko, px, py, pz, wo, na, ph, nu, go, ke, ib, re, cf, cg, cr) (nI nc, nI np, gr, ho, we, en, fa, nl, be, ro) := od_mkR (lv := v1) ⟨dp, st, na, ph, nu, go, ke, ib, re, cf, cg, cr, rfl, hC⟩ hF
    obtain ⟨j, hj, e⟩ := nI_of2 (x := v1) (M := 1) (n := 1) (by decide) c0 c1
    by_cases z : j = 0
    · subst z
      exact br_t e ⟨rfl, hY⟩
    · have : j = 1 := by omega
      subst this
      exact br_f (by rw [e]; decide) (br_t e ⟨rfl, hY⟩)
  · have n0 : ¬ v1 = 0 := fun e => by rw [e] at c1; exact absurd (by decide) c1
    have n1 : ¬ v1 = 1 := fun e => by rw [e] at c1; exact absurd (by decide) c1
    exact br_f c1 (br_f n0 (br_f n1 ⟨rfl, od_mkR hX' hF⟩))
theorem od_drop {cc pc lv dp : Int32} {st : Int64} {wh : Nat → Int64} {ko px py pz wo na ph nu : Nat → Int32} {go ke : Nat → Int64} {ib : Nat → Int32} {re : Nat → Int64} {cg cr : Nat → Int64} {post : Int32 → SX → Prop} {x1 : Int32} (h : ∀ cf : Nat → Int32, (∀ t, t < 64 → cf t = 0) → post x1 (cc, pc, lv, dp, st, wh, ko, px, py, pz, wo, na, ph, nu, go, ke, ib, re, cf, cg, cr)) : ∀ k i (cf : Nat → Int32), i + k = 64 → (∀ t, t < i → cf t = 0) → wX_drop_17 post x1 cc pc lv dp st (k + 1) (nI i) wh ko px py pz wo na ph nu go ke ib re cf cg cr := by
  intro k
  induction k with
  | zero =>
    intro i cf hi hz
    have hi' : i = 64 := by omega
    subst hi'
    exact br_t (by decide) (h cf hz)
  | succ k ih =>
    intro i cf hi hz
    have hv : vp_in (nI i) 64 := vp_in_nI (by omega) (by decide)
    refine br_f (nI_ge (b := 64) (by omega) (by decide)) (And.intro hv (nm_r (e' := upd cf i 0) (by rw [nI_clamp (by omega), vp_nar_short]; rfl) (nm_r (nI_1 i) (ih (i + 1) _ (by omega) (fun t ht => ?_)))))
    by_cases c : t = i
    · subst c; exact pk_us
    · rw [pk_un c]; exact hz t (by omega)
theorem i_vc_drop {k : Nat} {u : SX} {v : SY} (I : i_Rel k u v) (hk : k + 5 ≤ 2560) : wpX_drop (fun r u' => wpY_drop (fun r' v' => r' = r ∧ i_Rel (k + 5) u' v') v) u := by
  refine od_el (P := fun u v => wpX_drop (fun r u' => wpY_drop (fun r' v' => r' = r ∧ i_Rel (k + 5) u' v') v) u) ?_ I
  intro nc np lv wh ko px py pz wo gr ho we en fa nl be ro u hX hF
  obtain ⟨dp, st, na, ph, nu, go, ke, ib, re, cf, cg, cr, rfl, hC⟩ := hX
  refine ⟨65, od_drop (fun cf' hz => ?_) 64 0 cf rfl (fun t ht => absurd ht (Nat.not_lt_zero t))⟩
  refine ⟨rfl, ?_⟩
  refine od_mkR (nc := 0) (np := 0) (lv := lv) (wh := wh) (ko := ko) (px := px) (py := py) (pz := pz) (wo := wo) ?_ ?_
  · refine ⟨_, _, _, _, _, _, _, _, _, _, _, _, rfl, fun j hj => ?_⟩
    have e : od_n cf' j = 0 := by
      unfold od_n
      rw [hz j hj]
      rfl
    rw [e, hz j hj]
    exact ⟨rfl, by decide, fun p m hp => absurd hp (Nat.not_lt_zero p)⟩
  · exact ⟨by decide, by decide, fun c hc => absurd hc (Nat.not_lt_zero c), fun c hc => absurd hc (Nat.not_lt_zero c), fun c hc => absurd hc (Nat.not_lt_zero c), fun j hj => absurd hj (by omega)⟩
end
section
/-! condition, holds -/
def od_cd (ho : Nat → Int32) (x y s : Nat) : Nat → Prop
  | 0 => od_vi s x = nI y
  | 1 => ¬ od_vi s y < od_vi s x
  | 2 => ho (64 * x + s) = 0
  | 3 => ho (64 * x + s) ≠ 0 ∧ ho (64 * y + s) ≠ 0
  | _ => ho (64 * x + s) ≠ 0 ∨ ho (64 * y + s) ≠ 0
theorem od_cdec (ho : Nat → Int32) (x y s K : Nat) : od_cd ho x y s K ∨ ¬ od_cd ho x y s K := Classical.em _
section
variable {cc pc lv dp : Int32} {st : Int64} {wh : Nat → Int64} {ko px py pz wo na ph nu : Nat → Int32} {go ke : Nat → Int64} {ib : Nat → Int32} {re : Nat → Int64} {cf : Nat → Int32} {cg cr : Nat → Int64}
theorem od_c273 {post : Int32 → SX → Prop} {nc : Nat} {b : Int64} (hc : nc < 24) (h : post (nI nc) (nI (nc + 1), pc, lv, dp, st, vp_updL wh nc b, ko, px, py, pz, wo, na, ph, nu, go, ke, ib, re, cf, cg, cr)) : wX_condition_273 post b (nI nc) pc lv dp st wh ko px py pz wo na ph nu go ke ib re cf cg cr := by
  have hv : vp_in (nI nc) 24 := vp_in_nI hc (by decide)
  refine And.intro hv (nm_r (e' := vp_updL wh nc b) (by rw [nI_clamp (by omega)]) (nm_r (e' := nI (nc + 1)) (nI_1 nc) ?_))
  rw [nI_pred]
  exact h
theorem od_c199 {post : Int32 → SX → Prop} {nc x y K : Nat} {ho : Nat → Int32} (hc : nc < 24) (hK : K < 2) (hx : x < 3) (hy : y < 4) (hy1 : K = 1 → y < 3) (h : ∀ b, (∀ s, s < 64 → (od_b b s = true ↔ od_cd ho x y s K)) → post (nI nc) (nI (nc + 1), pc, lv, dp, st, vp_updL wh nc b, ko, px, py, pz, wo, na, ph, nu, go, ke, ib, re, cf, cg, cr)) :
    ∀ k i b, i + k = 64 → (∀ s, s < 64 → (od_b b s = true ↔ s < i ∧ od_cd ho x y s K)) → wX_condition_199 post (nI K) (nI x) (nI y) (nI nc) pc lv dp st wh ko px py pz wo na ph nu go ke ib re cf cg cr (k + 1) b (nI i) := by
  intro k
  induction k with
  | zero =>
    intro i b hi hb
    have hi' : i = 64 := by omega
    subst hi'
    exact br_t (by decide) (od_c273 hc (h b (fun s hs => by rw [hb s hs]; exact ⟨fun q => q.2, fun q => ⟨hs, q⟩⟩)))
  | succ k ih =>
    intro i b hi hb
    have yes : od_cd ho x y i K → wX_condition_258 post (wX_condition_199 post (nI K) (nI x) (nI y) (nI nc) pc lv dp st wh ko px py pz wo na ph nu go ke ib re cf cg cr (k + 1)) (nI K) (nI x) (nI y) b (nI i) (nI nc) pc lv dp st wh ko px py pz wo na ph nu go ke ib re cf cg cr := by
      intro q
      refine nm_e (nm_r (nI_1 i) (ih (i + 1) _ (by omega) (fun s hs => ?_)))
      show od_b (b ||| od_1 i) s = true ↔ _
      rw [od_bor, Bool.or_eq_true, hb s hs, od_b1 (by omega)]
      constructor
      · intro w
        rcases w with w | w
        · exact ⟨by omega, w.2⟩
        · have := of_decide_eq_true w
          subst this
          exact ⟨by omega, q⟩
      · intro w
        by_cases e : s = i
        · exact Or.inr (decide_eq_true e)
        · exact Or.inl ⟨by omega, w.2⟩
    have no : ¬ od_cd ho x y i K → ∀ x7, x7 = nI i + 1 → wX_condition_199 post (nI K) (nI x) (nI y) (nI nc) pc lv dp st wh ko px py pz wo na ph nu go ke ib re cf cg cr (k + 1) b x7 := by
      intro q
      refine nm_r (nI_1 i) (ih (i + 1) _ (by omega) (fun s hs => ?_))
      rw [hb s hs]
      constructor
      · intro w
        exact ⟨by omega, w.2⟩
      · intro w
        by_cases e : s = i
        · subst e; exact absurd w.2 q
        · exact ⟨by omega, w.2⟩
    have hK' : K = 0 ∨ K = 1 := by omega
    refine br_f (nI_ge (b := 64) (by omega) (by decide)) ?_
    rcases hK' with e | e <;> subst e
    · refine br_f (by decide) (br_t rfl (od_valueIn (s := i) (y := x) (by omega) (br_t rfl ?_)))
      by_cases q : od_vi i x = nI y
      · exact br_t q (yes q)
      · exact br_f q (no q)
    · refine br_f (by decide) (br_f (by decide) (od_valueIn (s := i) (y := y) hy (od_valueIn (s := i) (y := x) (by omega) (br_f (by decide) ?_))))
      by_cases q : od_vi i y < od_vi i x
      · exact br_t q (no (fun w => w q))
      · exact br_f q (yes q)
theorem od_c199b {post : Int32 → SX → Prop} {nc K : Nat} {x2 x3 : Int32} {b : Int64} (hc : nc < 24) (hK : 2 ≤ K) (hK5 : K < 5) (h : post (nI nc) (nI (nc + 1), pc, lv, dp, st, vp_updL wh nc b, ko, px, py, pz, wo, na, ph, nu, go, ke, ib, re, cf, cg, cr)) : ∃ n, wX_condition_199 post (nI K) x2 x3 (nI nc) pc lv dp st wh ko px py pz wo na ph nu go ke ib re cf cg cr n b 0 :=
  ⟨1, br_f (by decide) (br_t ((nI_leI (a := 2) (by decide) (by omega)).mpr hK) (od_c273 hc h))⟩
theorem od_c125 {post : Int32 → SX → Prop} {nc x y K : Nat} {ho : Nat → Int32} {v3 : Int32} (hc : nc < 24) (hH : ∀ c, c < nc → ∀ s, s < 64 → (od_b (wh c) s = true ↔ ho (64 * c + s) ≠ 0)) (hK : K < 5) (h0 : K < 2 → v3 = nI y ∧ x < 3 ∧ y < 4 ∧ (K = 1 → y < 3)) (h2 : K = 2 → x < nc) (h34 : 3 ≤ K → v3 = nI y ∧ x < nc ∧ y < nc) (h : ∀ b, (∀ s, s < 64 → (od_b b s = true ↔ od_cd ho x y s K)) → post (nI nc) (nI (nc + 1), pc, lv, dp, st, vp_updL wh nc b, ko, px, py, pz, wo, na, ph, nu, go, ke, ib, re, cf, cg, cr)) : wX_condition_125 post (nI K) (nI x) v3 1 (nI nc) pc lv dp st wh ko px py pz wo na ph nu go ke ib re cf cg cr := by
  refine br_f (by decide) ?_
  by_cases k2 : K = 2
  · subst k2
    have hx := h2 rfl
    have hv : vp_in (nI x) 24 := vp_in_nI (by omega) (by decide)
    have hcx : (nI x).toNatClampNeg = x := nI_clamp (by omega)
    refine br_t rfl (And.intro hv (nm_r (e' := wh x ^^^ (-1)) (by rw [hcx]) (od_c199b hc (by decide) (by decide) (h _ (fun s hs => ?_)))))
    have q := hH x hx s hs
    rw [od_bnot _ hs]
    show _ ↔ ho (64 * x + s) = 0
    cases c : od_b (wh x) s
    · exact ⟨fun _ => Classical.byContradiction (fun w => absurd (c.symm.trans (q.mpr w)) (by decide)), fun _ => rfl⟩
    · exact ⟨fun w => absurd w (by decide), fun w => absurd w (q.mp c)⟩
  refine br_f (fun z => k2 ((nI_eq (b := 2) (by omega) (by decide)).mp z)) ?_
  by_cases k01 : K < 2
  · obtain ⟨e3, hx, hy, hy1⟩ := h0 k01
    subst e3
    refine br_t ((nI_leI (b := 2) (by omega) (by decide)).mpr (by omega)) ⟨65, od_c199 (ho := ho) hc k01 hx hy hy1 h 64 0 0 rfl (fun s _ => ?_)⟩
    rw [od_b0]
    exact ⟨fun q => absurd q (by decide), fun q => absurd q.1 (Nat.not_lt_zero s)⟩
  refine br_f (fun z => absurd ((nI_leI (b := 2) (by omega) (by decide)).mp z) (by omega)) ?_
  obtain ⟨e3, hx, hy⟩ := h34 (by omega)
  subst e3
  have hv : vp_in (nI x) 24 := vp_in_nI (by omega) (by decide)
  have hcx : (nI x).toNatClampNeg = x := nI_clamp (by omega)
  have hvy : vp_in (nI y) 24 := vp_in_nI (by omega) (by decide)
  have hcy : (nI y).toNatClampNeg = y := nI_clamp (by omega)
  have hK' : K = 3 ∨ K = 4 := by omega
  rcases hK' with e | e <;> subst e
  · refine br_t rfl (And.intro hv (And.intro hvy (nm_r (e' := wh x &&& wh y) (by rw [hcx, hcy]) (od_c199b hc (by decide) (by decide) (h _ (fun s hs => ?_))))))
    rw [od_band, Bool.and_eq_true, hH x hx s hs, hH y hy s hs]
    exact Iff.rfl
  · refine br_f (by decide) (And.intro hv (And.intro hvy (nm_r (e' := wh x ||| wh y) (by rw [hcx, hcy]) (od_c199b hc (by decide) (by decide) (h _ (fun s hs => ?_))))))
    rw [od_bor, Bool.or_eq_true, hH x hx s hs, hH y hy s hs]
    exact Iff.rfl
end
section
variable {cd pr gr : Int32} {ho we : Nat → Int32} {en : Nat → Int64} {fa nl be ro : Nat → Int32}
theorem od_y112 {post : Int32 → SY → Prop} {nc x y K : Nat} {ho0 : Nat → Int32} {v3 : Int32} (hc : nc < 24) (hK : K < 5) (h0 : K < 2 → v3 = nI y ∧ x < 3 ∧ y < 4 ∧ (K = 1 → y < 3)) (h2 : K = 2 → x < nc) (h34 : 3 ≤ K → v3 = nI y ∧ x < nc ∧ y < nc) (h : ∀ ho, (∀ j, j < 64 * nc → ho j = ho0 j) → (∀ s, s < 64 → (ho (64 * nc + s) ≠ 0 ↔ od_cd ho0 x y s K)) → post (nI nc) (nI (nc + 1), pr, gr, ho, we, en, fa, nl, be, ro)) :
    ∀ k i ho, i + k = 64 → (∀ j, j < 64 * nc → ho j = ho0 j) → (∀ s, s < i → (ho (64 * nc + s) ≠ 0 ↔ od_cd ho0 x y s K)) → wY_condition_112 post (nI K) (nI x) v3 (nI nc) pr gr (k + 1) (nI i) ho we en fa nl be ro := by
  intro k
  induction k with
  | zero =>
    intro i ho hi hA hb
    have hi' : i = 64 := by omega
    subst hi'
    refine br_t (by decide) (nm_r (e' := nI (nc + 1)) (nI_1 nc) ?_)
    rw [nI_pred]
    exact h ho hA hb
  | succ k ih =>
    intro i ho hi hA hb
    have put : ∀ v : Int32, v = 0 ∨ v = 1 → (v ≠ 0 ↔ od_cd ho0 x y i K) → wY_condition_288 post (wY_condition_112 post (nI K) (nI x) v3 (nI nc) pr gr (k + 1)) (nI K) (nI x) v3 (nI i) v (nI nc) pr gr ho we en fa nl be ro := by
      intro v hv01 hv
      have hvh : vp_in (64 * nI nc + nI i) 1536 := by rw [od_ix]; exact vp_in_nI (by omega) (by decide)
      have hch : (64 * nI nc + nI i).toNatClampNeg = 64 * nc + i := by rw [od_ix]; exact nI_clamp (by omega)
      refine And.intro hvh (nm_r (e' := upd ho (64 * nc + i) v) (by rw [hch, od_bo hv01]) (nm_r (nI_1 i) (ih (i + 1) _ (by omega) (fun j hj => ?_) (fun s hs => ?_))))
      · rw [pk_un (by omega)]; exact hA j hj
      · by_cases e : s = i
        · subst e; rw [pk_us]; exact hv
        · rw [pk_un (by omega)]; exact hb s (by omega)
    have put0 : ¬ od_cd ho0 x y i K → wY_condition_288 post (wY_condition_112 post (nI K) (nI x) v3 (nI nc) pr gr (k + 1)) (nI K) (nI x) v3 (nI i) 0 (nI nc) pr gr ho we en fa nl be ro := fun q => put 0 (Or.inl rfl) ⟨fun w => absurd rfl w, fun w => absurd w q⟩
    have put1 : od_cd ho0 x y i K → wY_condition_288 post (wY_condition_112 post (nI K) (nI x) v3 (nI nc) pr gr (k + 1)) (nI K) (nI x) v3 (nI i) 1 (nI nc) pr gr ho we en fa nl be ro := fun q => put 1 (Or.inr rfl) ⟨fun _ => q, fun _ => by decide⟩
    clear put
    refine br_f (nI_ge (b := 64) (by omega) (by decide)) ?_
    have hK' : K = 0 ∨ K = 1 ∨ K = 2 ∨ K = 3 ∨ K = 4 := by omega
    have rd : ∀ x, x < nc → vp_in (64 * nI x + nI i) 1536 ∧ ho (64 * nI x + nI i).toNatClampNeg = ho0 (64 * x + i) := by
      intro x hx
      refine ⟨by rw [od_ix]; exact vp_in_nI (by omega) (by decide), ?_⟩
      rw [od_ix, nI_clamp (by omega)]
      exact hA _ (by omega)
    rcases hK' with e | e | e | e | e <;> subst e
    · obtain ⟨e3, hx, hy, _⟩ := h0 (by decide)
      subst e3
      have ev : ((nI i >>> ((2 * nI x) &&& 31)) &&& 3) = od_vi i x := (if_neg (by omega)).symm
      refine br_t rfl ?_
      show (((nI i >>> ((2 * nI x) &&& 31)) &&& 3) = nI y → _) ∧ (¬ ((nI i >>> ((2 * nI x) &&& 31)) &&& 3) = nI y → _)
      rw [ev]
      by_cases q : od_vi i x = nI y
      · exact br_t q (put1 q)
      · exact br_f q (put0 q)
    · obtain ⟨e3, hx, hy, hy1⟩ := h0 (by decide)
      subst e3
      have hy1 := hy1 rfl
      have ev : ((nI i >>> ((2 * nI x) &&& 31)) &&& 3) = od_vi i x := (if_neg (by omega)).symm
      have ew : ((nI i >>> ((2 * nI y) &&& 31)) &&& 3) = od_vi i y := (if_neg (by omega)).symm
      refine br_f (by decide) (br_t rfl ?_)
      show (((nI i >>> ((2 * nI y) &&& 31)) &&& 3) < ((nI i >>> ((2 * nI x) &&& 31)) &&& 3) → _) ∧ (¬ ((nI i >>> ((2 * nI y) &&& 31)) &&& 3) < ((nI i >>> ((2 * nI x) &&& 31)) &&& 3) → _)
      rw [ev, ew]
      by_cases q : od_vi i y < od_vi i x
      · exact br_t q (put0 (fun w => w q))
      · exact br_f q (put1 q)
    · obtain ⟨r1, r2⟩ := rd x (h2 rfl)
      refine br_f (by decide) (br_f (by decide) (br_t rfl (And.intro r1 ?_)))
      rw [r2]
      by_cases q : ho0 (64 * x + i) = 0
      · exact br_t q (put1 q)
      · exact br_f q (put0 q)
    · obtain ⟨e3, hx, hy⟩ := h34 (by decide)
      subst e3
      obtain ⟨r1, r2⟩ := rd x hx
      obtain ⟨s1, s2⟩ := rd y hy
      refine br_f (by decide) (br_f (by decide) (br_f (by decide) (br_t rfl (And.intro r1 ?_))))
      rw [r2, s2]
      by_cases q : ho0 (64 * x + i) = 0
      · exact br_t q (put0 (fun w => w.1 q))
      · refine br_f q (And.intro s1 ?_)
        by_cases q2 : ho0 (64 * y + i) = 0
        · exact br_t q2 (put0 (fun w => w.2 q2))
        · exact br_f q2 (put1 ⟨q, q2⟩)
    · obtain ⟨e3, hx, hy⟩ := h34 (by decide)
      subst e3
      obtain ⟨r1, r2⟩ := rd x hx
      obtain ⟨s1, s2⟩ := rd y hy
      refine br_f (by decide) (br_f (by decide) (br_f (by decide) (br_f (by decide) (And.intro r1 ?_))))
      rw [r2, s2]
      by_cases q : ho0 (64 * x + i) = 0
      · refine br_t q (And.intro s1 ?_)
        by_cases q2 : ho0 (64 * y + i) = 0
        · exact br_t q2 (put0 (fun w => w.elim (fun z => z q) (fun z => z q2)))
        · exact br_f q2 (put1 (Or.inr q2))
      · exact br_f q (put1 (Or.inl q))
end
end
section
/-! condition: both walks -/
def od_ca (v1 v2 : Int32) (nc : Nat) : Int32 := if v1 = 0 ∨ v1 = 1 then od_in v2 3 else od_in v2 nc
def od_cb (v1 v3 : Int32) (nc : Nat) : Int32 := if v1 = 0 then od_in v3 4 else if v1 = 1 then od_in v3 3 else if v1 = 2 then 1 else od_in v3 nc
section
variable {cd pr gr : Int32} {ho we : Nat → Int32} {en : Nat → Int64} {fa nl be ro : Nat → Int32}
theorem od_ycw {post : Int32 → SY → Prop} {nc : Nat} {v1 v2 v3 : Int32} (hc : nc < 24) (h : wY_condition_85 post v1 v2 v3 (od_ca v1 v2 nc) (od_cb v1 v3 nc) (nI nc) pr gr ho we en fa nl be ro) : wpY_condition post (nI nc, pr, gr, ho, we, en, fa, nl, be, ro) v1 v2 v3 := by
  unfold od_ca od_cb at h
  have nz : ¬ nI nc = 24 := fun z => absurd ((nI_eq (b := 24) (by omega) (by decide)).mp z) (by omega)
  refine br_f nz ?_
  by_cases k0 : v1 = 0
  · rw [if_pos (Or.inl k0), if_pos k0] at h
    exact br_t k0 (od_yin (n := 3) (by decide) (by decide) (br_t k0 (od_yin (n := 4) (by decide) (by decide) h)))
  · refine br_f k0 ?_
    by_cases k1 : v1 = 1
    · rw [if_pos (Or.inr k1), if_neg k0, if_pos k1] at h
      exact br_t k1 (od_yin (n := 3) (by decide) (by decide) (br_f k0 (br_t k1 (od_yin (n := 3) (by decide) (by decide) h))))
    · rw [if_neg (fun q => q.elim k0 k1), if_neg k0, if_neg k1] at h
      refine br_f k1 (od_ycon (by omega) (br_f k0 (br_f k1 ?_)))
      by_cases k2 : v1 = 2
      · rw [if_pos k2] at h
        exact br_t k2 h
      · rw [if_neg k2] at h
        refine br_f k2 (od_ycon (by omega) ?_)
        rcases od_in01 v3 nc with e | e
        · rw [e] at h ⊢
          exact br_t rfl h
        · rw [e] at h ⊢
          exact br_f (by decide) h
theorem od_y85b {post : Int32 → SY → Prop} {v1 v2 v3 a b : Int32} (hb : od_in v1 5 = 0 ∨ a = 0 ∨ b = 0) (h : post (-1) (cd, pr, gr, ho, we, en, fa, nl, be, ro)) : wY_condition_85 post v1 v2 v3 a b cd pr gr ho we en fa nl be ro := by
  refine od_yin (n := 5) (by decide) (by decide) ?_
  by_cases c : od_in v1 5 = 0
  · exact br_t c h
  refine br_f c ?_
  by_cases d : a = 0
  · exact br_t d h
  refine br_f d ?_
  by_cases e : b = 0
  · exact br_t e h
  · exact absurd hb (fun q => q.elim c (fun w => w.elim d e))
theorem od_y85g {post : Int32 → SY → Prop} {v1 v2 v3 a b : Int32} (h1 : od_in v1 5 = 1) (ha : a = 1) (hb : b = 1) (h : ∃ n, wY_condition_112 post v1 v2 v3 cd pr gr n 0 ho we en fa nl be ro) : wY_condition_85 post v1 v2 v3 a b cd pr gr ho we en fa nl be ro := by
  refine od_yin (n := 5) (by decide) (by decide) ?_
  rw [h1, ha, hb]
  exact br_f (by decide) (br_f (by decide) (br_f (by decide) h))
end
section
variable {cc pc lv dp : Int32} {st : Int64} {wh : Nat → Int64} {ko px py pz wo na ph nu : Nat → Int32} {go ke : Nat → Int64} {ib : Nat → Int32} {re : Nat → Int64} {cf : Nat → Int32} {cg cr : Nat → Int64}
theorem od_xcw {post : Int32 → SX → Prop} {nc : Nat} {v1 v2 v3 : Int32} (hc : nc < 24) (h0 : ¬ (od_in v1 5 = 1 ∧ od_ca v1 v2 nc = 1 ∧ od_cb v1 v3 nc = 1) → post (-1) (nI nc, pc, lv, dp, st, wh, ko, px, py, pz, wo, na, ph, nu, go, ke, ib, re, cf, cg, cr)) (h1 : od_in v1 5 = 1 → od_ca v1 v2 nc = 1 → od_cb v1 v3 nc = 1 → wX_condition_125 post v1 v2 v3 1 (nI nc) pc lv dp st wh ko px py pz wo na ph nu go ke ib re cf cg cr) : wpX_condition post (nI nc, pc, lv, dp, st, wh, ko, px, py, pz, wo, na, ph, nu, go, ke, ib, re, cf, cg, cr) v1 v2 v3 := by
  have b0 : ¬ (od_in v1 5 = 1 ∧ od_ca v1 v2 nc = 1 ∧ od_cb v1 v3 nc = 1) → wX_condition_125 post v1 v2 v3 0 (nI nc) pc lv dp st wh ko px py pz wo na ph nu go ke ib re cf cg cr := fun q => br_t rfl (h0 q)
  clear h0
  unfold od_ca od_cb at b0 h1
  refine br_t (nI_lt (b := 24) hc (by decide)) ?_
  by_cases k0 : v1 = 0
  · rw [if_pos (Or.inl k0), if_pos k0] at b0 h1
    refine br_t k0 (od_xvar ?_)
    have e5 : od_in v1 5 = 1 := by rw [k0]; decide
    rcases od_in01 v2 3 with e | e
    · exact br_t e (b0 (fun q => absurd (e.symm.trans q.2.1) (by decide)))
    · refine br_f (by rw [e]; decide) (od_inl (n := 4) (by decide) (by decide) (fun e2 => b0 (fun q => absurd (e2.symm.trans q.2.2) (by decide))) (fun e2 => h1 e5 e e2))
  refine br_f k0 ?_
  by_cases k1 : v1 = 1
  · rw [if_pos (Or.inr k1), if_neg k0, if_pos k1] at b0 h1
    refine br_t k1 (od_xvar ?_)
    have e5 : od_in v1 5 = 1 := by rw [k1]; decide
    rcases od_in01 v2 3 with e | e
    · exact br_t e (b0 (fun q => absurd (e.symm.trans q.2.1) (by decide)))
    · refine br_f (by rw [e]; decide) (od_xvar ?_)
      rcases od_in01 v3 3 with e2 | e2
      · exact br_t e2 (b0 (fun q => absurd (e2.symm.trans q.2.2) (by decide)))
      · exact br_f (by rw [e2]; decide) (h1 e5 e e2)
  refine br_f k1 ?_
  rw [if_neg (fun q => q.elim k0 k1), if_neg k0, if_neg k1] at b0 h1
  by_cases k2 : v1 = 2
  · rw [if_pos k2] at b0 h1
    have e5 : od_in v1 5 = 1 := by rw [k2]; decide
    refine br_t k2 (od_xcon ?_)
    rcases od_in01 v2 nc with e | e
    · rw [e]; exact b0 (fun q => absurd (e.symm.trans q.2.1) (by decide))
    · rw [e]; exact h1 e5 e rfl
  refine br_f k2 ?_
  rw [if_neg k2] at b0 h1
  have w102 : od_in v1 5 = 1 → wX_condition_102 post v1 v2 v3 (nI nc) pc lv dp st wh ko px py pz wo na ph nu go ke ib re cf cg cr := by
    intro e5
    refine od_xcon ?_
    rcases od_in01 v2 nc with e | e
    · exact br_t e (b0 (fun q => absurd (e.symm.trans q.2.1) (by decide)))
    · refine br_f (by rw [e]; decide) (od_xcon ?_)
      rcases od_in01 v3 nc with e2 | e2
      · exact br_t e2 (b0 (fun q => absurd (e2.symm.trans q.2.2) (by decide)))
      · exact br_f (by rw [e2]; decide) (h1 e5 e e2)
  by_cases k3 : v1 = 3
  · exact br_t k3 (w102 (by rw [k3]; decide))
  refine br_f k3 ?_
  by_cases k4 : v1 = 4
  · exact br_t k4 (w102 (by rw [k4]; decide))
  refine br_f k4 (b0 (fun q => ?_))
  rcases od_in_c v1 (n := 5) (by decide) with ⟨e, _⟩ | ⟨_, j, hj, e⟩
  · exact absurd (e.symm.trans q.1) (by decide)
  · have hj' : j = 0 ∨ j = 1 ∨ j = 2 ∨ j = 3 ∨ j = 4 := by omega
    rcases hj' with z | z | z | z | z <;> subst z
    · exact k0 e
    · exact k1 e
    · exact k2 e
    · exact k3 e
    · exact k4 e
end
theorem od_P_nc {nc nc' : Nat} {wh wh' : Nat → Int64} {ko px py pz wo : Nat → Int32} {M : Nat → Nat → Int64 → Int64} {p : Nat} (hn : nc ≤ nc') (hw : ∀ c, c < nc → wh' c = wh c) (h : od_P nc wh ko px py pz wo M p) : od_P nc' wh' ko px py pz wo M p := by
  obtain ⟨a, b, c, d, e, f⟩ := h
  exact ⟨a, b, c, d, e, od_L_congr hn hw (fun _ _ => rfl) (fun _ _ => rfl) f⟩
theorem i_vc_condition {k : Nat} {u : SX} {v : SY} (I : i_Rel k u v) (hk : k + 5 ≤ 2560) (v1 : Int32) (v2 : Int32) (v3 : Int32) : wpX_condition (fun r u' => wpY_condition (fun r' v' => r' = r ∧ i_Rel (k + 5) u' v') v v1 v2 v3) u v1 v2 v3 := by
  refine od_el (P := fun u v => wpX_condition (fun r u' => wpY_condition (fun r' v' => r' = r ∧ i_Rel (k + 5) u' v') v v1 v2 v3) u v1 v2 v3) ?_ I
  intro nc np lv wh ko px py pz wo gr ho we en fa nl be ro u hX hF
  have hR : i_Rel (k + 5) u (nI nc, nI np, gr, ho, we, en, fa, nl, be, ro) := od_mkR hX hF
  obtain ⟨dp, st, na, ph, nu, go, ke, ib, re, cf, cg, cr, rfl, hC⟩ := hX
  have hF' := hF
  obtain ⟨f1, f2, f3, f4, f5, f6⟩ := hF'
  by_cases full : nc = 24
  · subst full
    exact br_f (by decide) (br_t rfl ⟨rfl, hR⟩)
  have hc : nc < 24 := by omega
  refine od_xcw hc (fun q => ?_) (fun q1 q2 q3 => ?_)
  · refine od_ycw hc (od_y85b ?_ ⟨rfl, hR⟩)
    have a01 : od_ca v1 v2 nc = 0 ∨ od_ca v1 v2 nc = 1 := by unfold od_ca; split <;> exact od_in01 _ _
    have b01 : od_cb v1 v3 nc = 0 ∨ od_cb v1 v3 nc = 1 := by
      unfold od_cb
      split
      · exact od_in01 _ _
      · split
        · exact od_in01 _ _
        · split
          · exact Or.inr rfl
          · exact od_in01 _ _
    rcases od_in01 v1 5 with e | e
    · exact Or.inl e
    rcases a01 with e2 | e2
    · exact Or.inr (Or.inl e2)
    rcases b01 with e3 | e3
    · exact Or.inr (Or.inr e3)
    · exact absurd ⟨e, e2, e3⟩ q
  · rcases od_in_c v1 (n := 5) (by decide) with ⟨e, _⟩ | ⟨_, K, hK, e⟩
    · exact absurd (e.symm.trans q1) (by decide)
    subst e
    have ops : ∃ x y, v2 = nI x ∧ (K < 2 → v3 = nI y ∧ x < 3 ∧ y < 4 ∧ (K = 1 → y < 3)) ∧ (K = 2 → x < nc) ∧ (3 ≤ K → v3 = nI y ∧ x < nc ∧ y < nc) := by
      have get : ∀ {v : Int32} {n : Nat}, n < 2 ^ 31 → od_in v n = 1 → ∃ j, j < n ∧ v = nI j := by
        intro v n hn e
        rcases od_in_c v hn with ⟨e2, _⟩ | ⟨_, w⟩
        · exact absurd (e2.symm.trans e) (by decide)
        · exact w
      have hK' : K = 0 ∨ K = 1 ∨ K = 2 ∨ K = 3 ∨ K = 4 := by omega
      unfold od_ca at q2
      unfold od_cb at q3
      rcases hK' with z | z | z | z | z <;> subst z
      · rw [if_pos (by decide)] at q2
        rw [if_pos (by decide)] at q3
        obtain ⟨x, hx, ex⟩ := get (by decide) q2
        obtain ⟨y, hy, ey⟩ := get (by decide) q3
        exact ⟨x, y, ex, fun _ => ⟨ey, hx, hy, fun z => absurd z (by decide)⟩, fun z => absurd z (by decide), fun z => absurd z (by decide)⟩
      · rw [if_pos (by decide)] at q2
        rw [if_neg (by decide), if_pos (by decide)] at q3
        obtain ⟨x, hx, ex⟩ := get (by decide) q2
        obtain ⟨y, hy, ey⟩ := get (by decide) q3
        exact ⟨x, y, ex, fun _ => ⟨ey, hx, by omega, fun _ => hy⟩, fun z => absurd z (by decide), fun z => absurd z (by decide)⟩
      · rw [if_neg (by decide)] at q2
        obtain ⟨x, hx, ex⟩ := get (by omega) q2
        exact ⟨x, 0, ex, fun z => absurd z (by decide), fun _ => hx, fun z => absurd z (by decide)⟩
      · rw [if_neg (by decide)] at q2
        rw [if_neg (by decide), if_neg (by decide), if_neg (by decide)] at q3
        obtain ⟨x, hx, ex⟩ := get (by omega) q2
        obtain ⟨y, hy, ey⟩ := get (by omega) q3
        exact ⟨x, y, ex, fun z => absurd z (by decide), fun z => absurd z (by decide), fun _ => ⟨ey, hx, hy⟩⟩
      · rw [if_neg (by decide)] at q2
        rw [if_neg (by decide), if_neg (by decide), if_neg (by decide)] at q3
        obtain ⟨x, hx, ex⟩ := get (by omega) q2
        obtain ⟨y, hy, ey⟩ := get (by omega) q3
        exact ⟨x, y, ex, fun z => absurd z (by decide), fun z => absurd z (by decide), fun _ => ⟨ey, hx, hy⟩⟩
    obtain ⟨x, y, ex, o1, o2, o3⟩ := ops
    subst ex
    refine od_c125 (ho := ho) hc f3 hK o1 o2 o3 (fun b hb => ?_)
    refine od_ycw hc (od_y85g q1 q2 q3 ⟨65, od_y112 (ho0 := ho) hc hK o1 o2 o3 (fun ho' hA hB => ⟨rfl, ?_⟩) 64 0 ho rfl (fun _ _ => rfl) (fun s hs => absurd hs (Nat.not_lt_zero s))⟩)
    refine od_mkR (nc := nc + 1) (lv := lv) (wh := vp_updL wh nc b) (ko := ko) (px := px) (py := py) (pz := pz) (wo := wo) ⟨dp, st, na, ph, nu, go, ke, ib, re, cf, cg, cr, rfl, hC⟩ ⟨by omega, f2, fun c hc' s hs => ?_, fun p hp => od_P_nc (Nat.le_succ nc) (fun c hc' => pk_uLn (by omega)) (f4 p hp), f5, f6⟩
    by_cases e : c = nc
    · subst e
      rw [pk_uLs, hb s hs, hB s hs]
    · rw [pk_uLn e, f3 c (by omega) s hs, hA _ (by omega)]
/-! holds -/
theorem i_vc_holds {k : Nat} {u : SX} {v : SY} (I : i_Rel k u v) (hk : k + 5 ≤ 2560) (v1 : Int32) (v2 : Int32) : wpX_holds (fun r => wpY_holds (fun r' => r' = r ∧ i_Rel (k + 5) u v) v v1 v2) u v1 v2 := by
  refine od_el (P := fun u v => wpX_holds (fun r => wpY_holds (fun r' => r' = r ∧ i_Rel (k + 5) u v) v v1 v2) u v1 v2) ?_ I
  intro nc np lv wh ko px py pz wo gr ho we en fa nl be ro u hX hF
  have hR : i_Rel (k + 5) u (nI nc, nI np, gr, ho, we, en, fa, nl, be, ro) := od_mkR hX hF
  obtain ⟨dp, st, na, ph, nu, go, ke, ib, re, cf, cg, cr, rfl, hC⟩ := hX
  obtain ⟨f1, f2, f3, f4, f5, f6⟩ := hF
  unfold wpX_holds wpY_holds
  dsimp only
  refine od_xcon ?_
  rcases od_in_c v1 (n := nc) (by omega) with ⟨e, _⟩ | ⟨e, c, hc, ec⟩
  · exact br_t e (od_ycon f1 (br_t e ⟨rfl, hR⟩))
  · have ne : ¬ od_in v1 nc = 0 := by rw [e]; decide
    refine br_f ne (?_ : (v2 < 0 → _) ∧ (¬ v2 < 0 → ((64 ≤ v2 → _) ∧ (¬ 64 ≤ v2 → _))))
    rcases od_in_c v2 (n := 64) (by decide) with ⟨e2, _⟩ | ⟨e2, s, hs, es⟩
    · refine od_inm (n := 64) (fun _ => od_ycon f1 (br_f ne (od_yin (n := 64) (by decide) (by decide) (br_t e2 ⟨rfl, hR⟩)))) (fun q => absurd (e2.symm.trans q) (by decide))
    · have ne2 : ¬ od_in v2 64 = 0 := by rw [e2]; decide
      refine od_inm (n := 64) (fun q => absurd (e2.symm.trans q) (by decide)) (fun _ => ?_)
      subst ec es
      have hv : vp_in (nI c) 24 := vp_in_nI (by omega) (by decide)
      have hcc : (nI c).toNatClampNeg = c := nI_clamp (by omega)
      have hvh : vp_in (64 * nI c + nI s) 1536 := by rw [od_ix]; exact vp_in_nI (by omega) (by decide)
      have hch : (64 * nI c + nI s).toNatClampNeg = 64 * c + s := by rw [od_ix]; exact nI_clamp (by omega)
      refine And.intro hv ?_
      rw [hcc]
      have q := f3 c hc s hs
      have yw : ∀ post : Int32 → Prop, ((ho (64 * c + s) = 0 → post 0) ∧ (¬ ho (64 * c + s) = 0 → post 1)) → wpY_isCondition (fun r_1 => (((r_1 = 0 → (post 0)) ∧ (¬ r_1 = 0 → (wpY_in (fun r_13 => (((r_13 = 0 → (post 0)) ∧ (¬ r_13 = 0 → (vp_in ((64 * nI c) + nI s) 1536 ∧ ((((ho ((64 * nI c) + nI s).toNatClampNeg) = 0 → (post 0)) ∧ (¬ (ho ((64 * nI c) + nI s).toNatClampNeg) = 0 → (post 1))))))))) (nI nc, nI np, gr, ho, we, en, fa, nl, be, ro) (nI s) 0 63))))) (nI nc, nI np, gr, ho, we, en, fa, nl, be, ro) (nI c) := by
        intro post hp
        refine od_ycon f1 (br_f ne (od_yin (n := 64) (by decide) (by decide) (br_f ne2 (And.intro hvh ?_))))
        rw [hch]
        exact hp
      cases c1 : od_b (wh c) s
      · have z : ho (64 * c + s) = 0 := Classical.byContradiction (fun w => absurd (c1.symm.trans (q.mpr w)) (by decide))
        exact br_t ((od_t0 hs).mpr c1) (yw (fun r' => r' = 0 ∧ i_Rel (k + 5) (nI nc, nI np, lv, dp, st, wh, ko, px, py, pz, wo, na, ph, nu, go, ke, ib, re, cf, cg, cr) (nI nc, nI np, gr, ho, we, en, fa, nl, be, ro)) (br_t z ⟨rfl, hR⟩))
      · have z := q.mp c1
        exact br_f (fun w => absurd (((od_t0 hs).mp w).symm.trans c1) (by decide)) (yw (fun r' => r' = 1 ∧ i_Rel (k + 5) (nI nc, nI np, lv, dp, st, wh, ko, px, py, pz, wo, na, ph, nu, go, ke, ib, re, cf, cg, cr) (nI nc, nI np, gr, ho, we, en, fa, nl, be, ro)) (br_f z ⟨rfl, hR⟩))
end
section
/-! program: do the operands fit -/
section
variable {lv dp : Int32} {st : Int64} {wh : Nat → Int64} {ko px py pz wo na ph nu : Nat → Int32} {go ke : Nat → Int64} {ib : Nat → Int32} {re : Nat → Int64} {cf : Nat → Int32} {cg cr : Nat → Int64}
variable {gr : Int32} {ho we : Nat → Int32} {en : Nat → Int64} {fa nl be ro : Nat → Int32}
theorem od_n1 {v : Int32} (h : v = 1) : ¬ v = 0 := by rw [h]; decide
theorem od_fit {nc np K : Nat} (hn : nc ≤ 24) (hp : np ≤ 32) (hK : K < 10) (v2 v3 v4 : Int32) : ∃ r : Int32, (r = 0 ∨ (r = 1 ∧ ∃ x y z, od_ops nc np K x y z v2 v3 v4)) ∧ (∀ post : Int32 → Prop, post r → wpX_operandsFit post (nI nc, nI np, lv, dp, st, wh, ko, px, py, pz, wo, na, ph, nu, go, ke, ib, re, cf, cg, cr) (nI K) v2 v3 v4) ∧ (∀ post : Int32 → Prop, post r → wpY_fits post (nI nc, nI np, gr, ho, we, en, fa, nl, be, ro) (nI K) v2 v3 v4) := by
  have hK' : K = 0 ∨ K = 1 ∨ K = 2 ∨ K = 3 ∨ K = 4 ∨ K = 5 ∨ K = 6 ∨ K = 7 ∨ K = 8 ∨ K = 9 := by omega
  have nar0 : narrow .boolean (.int 0) = .int 0 := rfl
  have nar1 : narrow .boolean (.int 1) = .int 1 := rfl
  have d : ∀ {c A B : Prop}, ¬ c → B → (c → A) ∧ (¬ c → B) := fun h b => br_f h b
  rcases hK' with k | k | k | k | k | k | k | k | k | k <;> subst k
  · refine ⟨1, Or.inr ⟨rfl, 0, 0, 0, fun z => by omega, fun z => by omega, fun z => by omega, fun z => by omega, fun z => by omega, fun z => by omega⟩, fun post h => br_t rfl h, fun post h => ?_⟩
    exact br_f (by decide) (br_f (by decide) (br_f (by decide) (br_f (by decide) (br_f (by decide) (br_f (by decide) (br_f (by decide) (br_t (by decide) h)))))))
  · refine ⟨1, Or.inr ⟨rfl, 0, 0, 0, fun z => by omega, fun z => by omega, fun z => by omega, fun z => by omega, fun z => by omega, fun z => by omega⟩, fun post h => br_f (by decide) (br_t rfl h), fun post h => ?_⟩
    exact br_f (by decide) (br_f (by decide) (br_f (by decide) (br_f (by decide) (br_f (by decide) (br_f (by decide) (br_f (by decide) (br_t (by decide) h)))))))
  · rcases od_in_c v2 (n := 3) (by decide) with ⟨e1, _⟩ | ⟨e1, x, hx, ex⟩
    · exact ⟨0, Or.inl rfl, fun post h => br_f (by decide) (br_f (by decide) (br_t rfl (od_xvar (br_t e1 h)))), fun post h => br_t rfl (od_yin (n := 3) (by decide) (by decide) (br_t e1 h))⟩
    rcases od_in_c v3 (n := 4) (by decide) with ⟨e2, _⟩ | ⟨e2, y, hy, ey⟩
    · exact ⟨0, Or.inl rfl, fun post h => br_f (by decide) (br_f (by decide) (br_t rfl (od_xvar (br_f (od_n1 e1) (od_inl (n := 4) (by decide) (by decide) (fun _ => h) (fun q => absurd (e2.symm.trans q) (by decide))))))), fun post h => br_t rfl (od_yin (n := 3) (by decide) (by decide) (br_f (od_n1 e1) (od_yin (n := 4) (by decide) (by decide) (br_t e2 h))))⟩
    rcases od_in_c v4 (n := 4) (by decide) with ⟨e3, _⟩ | ⟨e3, z, hz, ez⟩
    · exact ⟨0, Or.inl rfl, fun post h => br_f (by decide) (br_f (by decide) (br_t rfl (od_xvar (br_f (od_n1 e1) (od_inl (n := 4) (by decide) (by decide) (fun _ => h) (fun _ => od_inl (n := 4) (by decide) (by decide) (fun _ => h) (fun q => absurd (e3.symm.trans q) (by decide)))))))), fun post h => br_t rfl (od_yin (n := 3) (by decide) (by decide) (br_f (od_n1 e1) (od_yin (n := 4) (by decide) (by decide) (br_f (od_n1 e2) (od_yin (n := 4) (by decide) (by decide) (br_t e3 h))))))⟩
    · refine ⟨1, Or.inr ⟨rfl, x, y, z, fun _ => ⟨ex, ey, ez, hx, hy, hz⟩, fun z => by omega, fun z => by omega, fun z => by omega, fun z => by omega, fun z => by omega⟩, fun post h => br_f (by decide) (br_f (by decide) (br_t rfl (od_xvar (br_f (od_n1 e1) (od_inl (n := 4) (by decide) (by decide) (fun q => absurd (e2.symm.trans q) (by decide)) (fun _ => od_inl (n := 4) (by decide) (by decide) (fun q => absurd (e3.symm.trans q) (by decide)) (fun _ => h))))))), fun post h => br_t rfl (od_yin (n := 3) (by decide) (by decide) (br_f (od_n1 e1) (od_yin (n := 4) (by decide) (by decide) (br_f (od_n1 e2) (od_yin (n := 4) (by decide) (by decide) (br_f (od_n1 e3) h))))))⟩
  · rcases od_in_c v2 (n := 3) (by decide) with ⟨e1, _⟩ | ⟨e1, x, hx, ex⟩
    · refine ⟨0, Or.inl rfl, fun post h => br_f (by decide) (br_f (by decide) (br_f (by decide) (br_t rfl (od_xvar ?_)))), fun post h => br_f (by decide) (br_t rfl (od_yin (n := 3) (by decide) (by decide) ?_))⟩
      · rw [e1]; exact ⟨nar0, h⟩
      · rw [e1]; exact ⟨nar0, h⟩
    · refine ⟨1, Or.inr ⟨rfl, x, 0, 0, fun z => by omega, fun _ => ⟨ex, hx⟩, fun z => by omega, fun z => by omega, fun z => by omega, fun z => by omega⟩, fun post h => br_f (by decide) (br_f (by decide) (br_f (by decide) (br_t rfl (od_xvar ?_)))), fun post h => br_f (by decide) (br_t rfl (od_yin (n := 3) (by decide) (by decide) ?_))⟩
      · rw [e1]; exact ⟨nar1, h⟩
      · rw [e1]; exact ⟨nar1, h⟩
  · rcases od_in_c v2 (n := nc) (by omega) with ⟨e1, _⟩ | ⟨e1, x, hx, ex⟩
    · refine ⟨0, Or.inl rfl, fun post h => br_f (by decide) (br_f (by decide) (br_f (by decide) (br_f (by decide) (br_f (by decide) (br_f (by decide) (od_xcon (br_t e1 h))))))), fun post h => br_f (by decide) (br_f (by decide) (br_t rfl (od_ycon hn ?_)))⟩
      rw [e1]; exact ⟨nar0, h⟩
    · refine ⟨1, Or.inr ⟨rfl, x, 0, 0, fun z => by omega, fun z => by omega, fun _ => ⟨ex, hx⟩, fun z => by omega, fun z => by omega, fun z => by omega⟩, fun post h => br_f (by decide) (br_f (by decide) (br_f (by decide) (br_f (by decide) (br_f (by decide) (br_f (by decide) (od_xcon (br_f (od_n1 e1) (br_f (by decide) (br_f (by decide) h))))))))), fun post h => br_f (by decide) (br_f (by decide) (br_t rfl (od_ycon hn ?_)))⟩
      rw [e1]; exact ⟨nar1, h⟩
  · rcases od_in_c v2 (n := nc) (by omega) with ⟨e1, _⟩ | ⟨e1, x, hx, ex⟩
    · refine ⟨0, Or.inl rfl, fun post h => br_f (by decide) (br_f (by decide) (br_f (by decide) (br_f (by decide) (br_f (by decide) (br_f (by decide) (od_xcon (br_t e1 h))))))), fun post h => br_f (by decide) (br_f (by decide) (br_f (by decide) (br_t rfl (od_ycon hn ?_))))⟩
      rw [e1]; exact ⟨nar0, h⟩
    · refine ⟨1, Or.inr ⟨rfl, x, 0, 0, fun z => by omega, fun z => by omega, fun _ => ⟨ex, hx⟩, fun z => by omega, fun z => by omega, fun z => by omega⟩, fun post h => br_f (by decide) (br_f (by decide) (br_f (by decide) (br_f (by decide) (br_f (by decide) (br_f (by decide) (od_xcon (br_f (od_n1 e1) (br_f (by decide) (br_f (by decide) h))))))))), fun post h => br_f (by decide) (br_f (by decide) (br_f (by decide) (br_t rfl (od_ycon hn ?_))))⟩
      rw [e1]; exact ⟨nar1, h⟩
  · rcases od_in_c v2 (n := np) (by omega) with ⟨e1, _⟩ | ⟨e1, x, hx, ex⟩
    · exact ⟨0, Or.inl rfl, fun post h => br_f (by decide) (br_f (by decide) (br_f (by decide) (br_f (by decide) (br_t rfl (od_xpro (br_t e1 h)))))), fun post h => br_f (by decide) (br_f (by decide) (br_f (by decide) (br_f (by decide) (br_t rfl (od_ypro hp (br_t e1 h))))))⟩
    rcases od_in_c v3 (n := np) (by omega) with ⟨e2, _⟩ | ⟨e2, y, hy, ey⟩
    · exact ⟨0, Or.inl rfl, fun post h => br_f (by decide) (br_f (by decide) (br_f (by decide) (br_f (by decide) (br_t rfl (od_xpro (br_f (od_n1 e1) (od_xpro (br_t e2 h)))))))), fun post h => br_f (by decide) (br_f (by decide) (br_f (by decide) (br_f (by decide) (br_t rfl (od_ypro hp (br_f (od_n1 e1) (od_ypro hp (br_t e2 h))))))))⟩
    · exact ⟨1, Or.inr ⟨rfl, x, y, 0, fun z => by omega, fun z => by omega, fun z => by omega, fun _ => ⟨ex, ey, hx, hy⟩, fun z => by omega, fun z => by omega⟩, fun post h => br_f (by decide) (br_f (by decide) (br_f (by decide) (br_f (by decide) (br_t rfl (od_xpro (br_f (od_n1 e1) (od_xpro (br_f (od_n1 e2) h)))))))), fun post h => br_f (by decide) (br_f (by decide) (br_f (by decide) (br_f (by decide) (br_t rfl (od_ypro hp (br_f (od_n1 e1) (od_ypro hp (br_f (od_n1 e2) h))))))))⟩
  · rcases od_in_c v2 (n := nc) (by omega) with ⟨e1, _⟩ | ⟨e1, x, hx, ex⟩
    · exact ⟨0, Or.inl rfl, fun post h => br_f (by decide) (br_f (by decide) (br_f (by decide) (br_f (by decide) (br_f (by decide) (br_f (by decide) (od_xcon (br_t e1 h))))))), fun post h => br_f (by decide) (br_f (by decide) (br_f (by decide) (br_f (by decide) (br_f (by decide) (br_f (by decide) (br_t rfl (od_ycon hn (br_t e1 h))))))))⟩
    rcases od_in_c v3 (n := np) (by omega) with ⟨e2, _⟩ | ⟨e2, y, hy, ey⟩
    · exact ⟨0, Or.inl rfl, fun post h => br_f (by decide) (br_f (by decide) (br_f (by decide) (br_f (by decide) (br_f (by decide) (br_f (by decide) (od_xcon (br_f (od_n1 e1) (br_t rfl (od_xpro (br_t e2 h)))))))))), fun post h => br_f (by decide) (br_f (by decide) (br_f (by decide) (br_f (by decide) (br_f (by decide) (br_f (by decide) (br_t rfl (od_ycon hn (br_f (od_n1 e1) (od_ypro hp (br_t e2 h))))))))))⟩
    rcases od_in_c v4 (n := np) (by omega) with ⟨e3, _⟩ | ⟨e3, z, hz, ez⟩
    · exact ⟨0, Or.inl rfl, fun post h => br_f (by decide) (br_f (by decide) (br_f (by decide) (br_f (by decide) (br_f (by decide) (br_f (by decide) (od_xcon (br_f (od_n1 e1) (br_t rfl (od_xpro (br_f (od_n1 e2) (od_xpro (br_t e3 h)))))))))))), fun post h => br_f (by decide) (br_f (by decide) (br_f (by decide) (br_f (by decide) (br_f (by decide) (br_f (by decide) (br_t rfl (od_ycon hn (br_f (od_n1 e1) (od_ypro hp (br_f (od_n1 e2) (od_ypro hp (br_t e3 h))))))))))))⟩
    · exact ⟨1, Or.inr ⟨rfl, x, y, z, fun z => by omega, fun z => by omega, fun z => by omega, fun z => by omega, fun _ => ⟨ex, ey, ez, hx, hy, hz⟩, fun z => by omega⟩, fun post h => br_f (by decide) (br_f (by decide) (br_f (by decide) (br_f (by decide) (br_f (by decide) (br_f (by decide) (od_xcon (br_f (od_n1 e1) (br_t rfl (od_xpro (br_f (od_n1 e2) (od_xpro (br_f (od_n1 e3) h)))))))))))), fun post h => br_f (by decide) (br_f (by decide) (br_f (by decide) (br_f (by decide) (br_f (by decide) (br_f (by decide) (br_t rfl (od_ycon hn (br_f (od_n1 e1) (od_ypro hp (br_f (od_n1 e2) (od_ypro hp (br_f (od_n1 e3) h))))))))))))⟩
  · rcases od_in_c v2 (n := np) (by omega) with ⟨e1, _⟩ | ⟨e1, x, hx, ex⟩
    · exact ⟨0, Or.inl rfl, fun post h => br_f (by decide) (br_f (by decide) (br_f (by decide) (br_f (by decide) (br_f (by decide) (br_t rfl (od_xpro (br_t e1 h))))))), fun post h => br_f (by decide) (br_f (by decide) (br_f (by decide) (br_f (by decide) (br_f (by decide) (br_t rfl (od_ypro hp (br_t e1 h)))))))⟩
    rcases od_in_c v3 (n := np) (by omega) with ⟨e2, _⟩ | ⟨e2, y, hy, ey⟩
    · exact ⟨0, Or.inl rfl, fun post h => br_f (by decide) (br_f (by decide) (br_f (by decide) (br_f (by decide) (br_f (by decide) (br_t rfl (od_xpro (br_f (od_n1 e1) (od_xpro (br_t e2 h))))))))), fun post h => br_f (by decide) (br_f (by decide) (br_f (by decide) (br_f (by decide) (br_f (by decide) (br_t rfl (od_ypro hp (br_f (od_n1 e1) (od_ypro hp (br_t e2 h)))))))))⟩
    · exact ⟨1, Or.inr ⟨rfl, x, y, 0, fun z => by omega, fun z => by omega, fun z => by omega, fun _ => ⟨ex, ey, hx, hy⟩, fun z => by omega, fun z => by omega⟩, fun post h => br_f (by decide) (br_f (by decide) (br_f (by decide) (br_f (by decide) (br_f (by decide) (br_t rfl (od_xpro (br_f (od_n1 e1) (od_xpro (br_f (od_n1 e2) h))))))))), fun post h => br_f (by decide) (br_f (by decide) (br_f (by decide) (br_f (by decide) (br_f (by decide) (br_t rfl (od_ypro hp (br_f (od_n1 e1) (od_ypro hp (br_f (od_n1 e2) h)))))))))⟩
  · rcases od_in_c v2 (n := nc) (by omega) with ⟨e1, _⟩ | ⟨e1, x, hx, ex⟩
    · exact ⟨0, Or.inl rfl, fun post h => br_f (by decide) (br_f (by decide) (br_f (by decide) (br_f (by decide) (br_f (by decide) (br_f (by decide) (od_xcon (br_t e1 h))))))), fun post h => br_f (by decide) (br_f (by decide) (br_f (by decide) (br_f (by decide) (br_f (by decide) (br_f (by decide) (br_f (by decide) (br_f (by decide) (od_ycon hn (br_t e1 h)))))))))⟩
    rcases od_in_c v3 (n := np) (by omega) with ⟨e2, _⟩ | ⟨e2, y, hy, ey⟩
    · exact ⟨0, Or.inl rfl, fun post h => br_f (by decide) (br_f (by decide) (br_f (by decide) (br_f (by decide) (br_f (by decide) (br_f (by decide) (od_xcon (br_f (od_n1 e1) (br_f (by decide) (br_t rfl (od_xpro (br_t e2 h))))))))))), fun post h => br_f (by decide) (br_f (by decide) (br_f (by decide) (br_f (by decide) (br_f (by decide) (br_f (by decide) (br_f (by decide) (br_f (by decide) (od_ycon hn (br_f (od_n1 e1) (od_ypro hp (br_t e2 h)))))))))))⟩
    · exact ⟨1, Or.inr ⟨rfl, x, y, 0, fun z => by omega, fun z => by omega, fun z => by omega, fun z => by omega, fun z => by omega, fun _ => ⟨ex, ey, hx, hy⟩⟩, fun post h => br_f (by decide) (br_f (by decide) (br_f (by decide) (br_f (by decide) (br_f (by decide) (br_f (by decide) (od_xcon (br_f (od_n1 e1) (br_f (by decide) (br_t rfl (od_xpro (br_f (od_n1 e2) h))))))))))), fun post h => br_f (by decide) (br_f (by decide) (br_f (by decide) (br_f (by decide) (br_f (by decide) (br_f (by decide) (br_f (by decide) (br_f (by decide) (od_ycon hn (br_f (od_n1 e1) (od_ypro hp (br_f (od_n1 e2) h)))))))))))⟩
end
end
section
/-! program: weights, the new program -/
theorem od_w3 (a b : Nat) : (1 : Int32) + (nI a + nI b) = nI (1 + a + b) := by
  rw [nI_add]
  show nI 1 + nI (a + b) = _
  rw [nI_add, Nat.add_assoc]
theorem od_w2 (a : Nat) : (1 : Int32) + nI a = nI (1 + a) := by
  show nI 1 + nI a = _
  rw [nI_add]
def od_bn (v : Int32) : Int32 := vp_nar .byte v.toInt8.toInt32
theorem od_bnv {v : Int32} {j : Nat} (h : v = nI j) (hj : j < 128) : od_bn v = nI j ∧ (od_bn v).toNatClampNeg = j := by
  have e : od_bn v = nI j := by rw [h]; exact od_by hj
  exact ⟨e, by rw [e]; exact nI_clamp (by omega)⟩
theorem od_ops_bn {nc np K x y z : Nat} {v2 v3 v4 : Int32} (hc : nc ≤ 24) (hp : np ≤ 32) (h : od_ops nc np K x y z v2 v3 v4) : od_ops nc np K (od_bn v2).toNatClampNeg (od_bn v3).toNatClampNeg (od_bn v4).toNatClampNeg v2 v3 v4 ∧ od_ops nc np K (od_bn v2).toNatClampNeg (od_bn v3).toNatClampNeg (od_bn v4).toNatClampNeg (od_bn v2) (od_bn v3) (od_bn v4) := by
  obtain ⟨o2, o3, o45, o68, o7, o9⟩ := h
  refine ⟨⟨fun k => ?_, fun k => ?_, fun k => ?_, fun k => ?_, fun k => ?_, fun k => ?_⟩, ⟨fun k => ?_, fun k => ?_, fun k => ?_, fun k => ?_, fun k => ?_, fun k => ?_⟩⟩
  · obtain ⟨a, b, c, d, e, f⟩ := o2 k
    rw [(od_bnv a (by omega)).2, (od_bnv b (by omega)).2, (od_bnv c (by omega)).2]
    exact ⟨a, b, c, d, e, f⟩
  · obtain ⟨a, d⟩ := o3 k
    rw [(od_bnv a (by omega)).2]
    exact ⟨a, d⟩
  · obtain ⟨a, d⟩ := o45 k
    rw [(od_bnv a (by omega)).2]
    exact ⟨a, d⟩
  · obtain ⟨a, b, d, e⟩ := o68 k
    rw [(od_bnv a (by omega)).2, (od_bnv b (by omega)).2]
    exact ⟨a, b, d, e⟩
  · obtain ⟨a, b, c, d, e, f⟩ := o7 k
    rw [(od_bnv a (by omega)).2, (od_bnv b (by omega)).2, (od_bnv c (by omega)).2]
    exact ⟨a, b, c, d, e, f⟩
  · obtain ⟨a, b, d, e⟩ := o9 k
    rw [(od_bnv a (by omega)).2, (od_bnv b (by omega)).2]
    exact ⟨a, b, d, e⟩
  · obtain ⟨a, b, c, d, e, f⟩ := o2 k
    rw [(od_bnv a (by omega)).2, (od_bnv b (by omega)).2, (od_bnv c (by omega)).2]
    exact ⟨(od_bnv a (by omega)).1, (od_bnv b (by omega)).1, (od_bnv c (by omega)).1, d, e, f⟩
  · obtain ⟨a, d⟩ := o3 k
    rw [(od_bnv a (by omega)).2]
    exact ⟨(od_bnv a (by omega)).1, d⟩
  · obtain ⟨a, d⟩ := o45 k
    rw [(od_bnv a (by omega)).2]
    exact ⟨(od_bnv a (by omega)).1, d⟩
  · obtain ⟨a, b, d, e⟩ := o68 k
    rw [(od_bnv a (by omega)).2, (od_bnv b (by omega)).2]
    exact ⟨(od_bnv a (by omega)).1, (od_bnv b (by omega)).1, d, e⟩
  · obtain ⟨a, b, c, d, e, f⟩ := o7 k
    rw [(od_bnv a (by omega)).2, (od_bnv b (by omega)).2, (od_bnv c (by omega)).2]
    exact ⟨(od_bnv a (by omega)).1, (od_bnv b (by omega)).1, (od_bnv c (by omega)).1, d, e, f⟩
  · obtain ⟨a, b, d, e⟩ := o9 k
    rw [(od_bnv a (by omega)).2, (od_bnv b (by omega)).2]
    exact ⟨(od_bnv a (by omega)).1, (od_bnv b (by omega)).1, d, e⟩
theorem od_nK {K j : Nat} (hK : K < 10) (hj : j < 10) (h : K ≠ j) : ¬ nI K = nI j := fun z => h ((nI_eq (by omega) (by omega)).mp z)
section
variable {cc pc lv dp : Int32} {st : Int64} {wh : Nat → Int64} {ko px py pz wo na ph nu : Nat → Int32} {go ke : Nat → Int64} {ib : Nat → Int32} {re : Nat → Int64} {cf : Nat → Int32} {cg cr : Nat → Int64}
theorem od_xwt {post : Int32 → SX → Prop} {nc np K x y z : Nat} {v2 v3 v4 : Int32} (hp : np ≤ 32) (hK : K < 10) (hop : od_ops nc np K x y z v2 v3 v4) (hw : ∀ q, q < np → wo q = nI (od_n wo q)) (h : wX_program_111 post (nI K) v2 v3 v4 (nI (od_w (od_n wo) K x y z)) cc pc lv dp st wh ko px py pz wo na ph nu go ke ib re cf cg cr) : (nI K = 6 → wX_program_51 post (nI K) v2 v3 v4 1 cc pc lv dp st wh ko px py pz wo na ph nu go ke ib re cf cg cr) ∧ (¬ nI K = 6 → ((nI K = 8 → wX_program_51 post (nI K) v2 v3 v4 1 cc pc lv dp st wh ko px py pz wo na ph nu go ke ib re cf cg cr) ∧ (¬ nI K = 8 → wX_program_69 post (nI K) v2 v3 v4 1 cc pc lv dp st wh ko px py pz wo na ph nu go ke ib re cf cg cr))) := by
  obtain ⟨_, _, _, o68, o7, o9⟩ := hop
  have c32 : ∀ q, q < np → vp_in (nI q) 32 ∧ (nI q).toNatClampNeg = q := fun q hq => ⟨vp_in_nI (by omega) (by decide), nI_clamp (by omega)⟩
  unfold od_w at h
  have w51 : K = 6 ∨ K = 8 → wX_program_51 post (nI K) v2 v3 v4 1 cc pc lv dp st wh ko px py pz wo na ph nu go ke ib re cf cg cr := by
    intro k
    obtain ⟨e2, e3, hx, hy⟩ := o68 k
    subst e2 e3
    rw [if_neg (by omega), if_neg (by omega), if_neg (by omega)] at h
    obtain ⟨x1, x2⟩ := c32 x hx
    obtain ⟨y1, y2⟩ := c32 y hy
    refine And.intro x1 (And.intro y1 (nm_r (e' := nI (1 + od_n wo x + od_n wo y)) (by rw [x2, y2, hw x hx, hw y hy, od_w3]) ?_))
    exact br_f (od_nK (j := 7) hK (by decide) (by omega)) (br_f (od_nK (j := 9) hK (by decide) (by omega)) h)
  by_cases k6 : K = 6
  · exact br_t (by rw [k6]; rfl) (w51 (Or.inl k6))
  refine br_f (od_nK (j := 6) hK (by decide) k6) ?_
  by_cases k8 : K = 8
  · exact br_t (by rw [k8]; rfl) (w51 (Or.inr k8))
  refine br_f (od_nK (j := 8) hK (by decide) k8) ?_
  by_cases k7 : K = 7
  · obtain ⟨e2, e3, e4, hx, hy, hz⟩ := o7 k7
    subst e2 e3 e4
    rw [if_neg (by omega), if_pos k7] at h
    obtain ⟨y1, y2⟩ := c32 y hy
    obtain ⟨z1, z2⟩ := c32 z hz
    refine br_t (by rw [k7]; rfl) (And.intro y1 (And.intro z1 (nm_r (e' := nI (1 + od_n wo y + od_n wo z)) (by rw [y2, z2, hw y hy, hw z hz, od_w3]) ?_)))
    exact br_f (od_nK (j := 9) hK (by decide) (by omega)) h
  refine br_f (od_nK (j := 7) hK (by decide) k7) ?_
  by_cases k9 : K = 9
  · obtain ⟨e2, e3, hx, hy⟩ := o9 k9
    subst e2 e3
    rw [if_neg (by omega), if_neg k7, if_pos k9] at h
    obtain ⟨y1, y2⟩ := c32 y hy
    exact br_t (by rw [k9]; rfl) (And.intro y1 (nm_r (e' := nI (1 + od_n wo y)) (by rw [y2, hw y hy, od_w2]) h))
  · rw [if_pos (by omega)] at h
    exact br_f (od_nK (j := 9) hK (by decide) k9) h
theorem od_x111 {post : Int32 → SX → Prop} {np K w : Nat} {v2 v3 v4 : Int32} (hK : K < 10) (hw1 : 20 < w → w < 100 → post (-2) (cc, nI np, lv, dp, st, wh, ko, px, py, pz, wo, na, ph, nu, go, ke, ib, re, cf, cg, cr)) (hw0 : w < 100) (hp : np < 32) (h : w ≤ 20 → post (nI np) (cc, nI (np + 1), lv, dp, st, wh, upd ko np (nI K), upd px np (od_bn v2), upd py np (od_bn v3), upd pz np (od_bn v4), upd wo np (nI w), na, ph, nu, go, ke, ib, re, cf, cg, cr)) : wX_program_111 post (nI K) v2 v3 v4 (nI w) cc (nI np) lv dp st wh ko px py pz wo na ph nu go ke ib re cf cg cr := by
  have hv : vp_in (nI np) 32 := vp_in_nI hp (by decide)
  have hcn : (nI np).toNatClampNeg = np := nI_clamp (by omega)
  by_cases c : w ≤ 20
  · refine br_t ((nI_leI (b := 20) (by omega) (by decide)).mpr c) ?_
    exact nm_r (e' := nI (np + 1)) (nI_1 np) (And.intro hv (nm_r (e' := upd ko np (nI K)) (by rw [hcn, od_by (by omega)]) (And.intro hv (nm_r (e' := upd px np (od_bn v2)) (by rw [hcn]; rfl) (And.intro hv (nm_r (e' := upd py np (od_bn v3)) (by rw [hcn]; rfl) (And.intro hv (nm_r (e' := upd pz np (od_bn v4)) (by rw [hcn]; rfl) (And.intro hv (nm_r (e' := upd wo np (nI w)) (by rw [hcn, od_by (by omega)]) (h c)))))))))))
  · exact br_f (fun z => c ((nI_leI (b := 20) (by omega) (by decide)).mp z)) (hw1 (by omega) hw0)
end
section
variable {cd pr gr : Int32} {ho we : Nat → Int32} {en : Nat → Int64} {fa nl be ro : Nat → Int32}
theorem od_ywt {post : Int32 → SY → Prop} {nc np K x y z : Nat} {v2 v3 v4 : Int32} {W : Nat → Nat} (hp : np ≤ 32) (hK : K < 10) (hop : od_ops nc np K x y z v2 v3 v4) (hw : ∀ q, q < np → we q = nI (W q)) (h : wY_program_98 post (nI K) v2 v3 v4 (nI (od_w W K x y z)) cd pr gr ho we en fa nl be ro) : (nI K = 6 → wY_program_52 post (nI K) v2 v3 v4 1 cd pr gr ho we en fa nl be ro) ∧ (¬ nI K = 6 → ((nI K = 8 → wY_program_52 post (nI K) v2 v3 v4 1 cd pr gr ho we en fa nl be ro) ∧ (¬ nI K = 8 → wY_program_63 post (nI K) v2 v3 v4 1 cd pr gr ho we en fa nl be ro))) := by
  obtain ⟨_, _, _, o68, o7, o9⟩ := hop
  have c32 : ∀ q, q < np → vp_in (nI q) 32 ∧ (nI q).toNatClampNeg = q := fun q hq => ⟨vp_in_nI (by omega) (by decide), nI_clamp (by omega)⟩
  unfold od_w at h
  have n6 : 6 ≤ K → ¬ nI K < 6 := fun q z => absurd ((nI_ltI (b := 6) (by omega) (by decide)).mp z) (by omega)
  have w52 : K = 6 ∨ K = 8 → wY_program_52 post (nI K) v2 v3 v4 1 cd pr gr ho we en fa nl be ro := by
    intro k
    obtain ⟨e2, e3, hx, hy⟩ := o68 k
    subst e2 e3
    rw [if_neg (by omega), if_neg (by omega), if_neg (by omega)] at h
    obtain ⟨x1, x2⟩ := c32 x hx
    obtain ⟨y1, y2⟩ := c32 y hy
    refine And.intro x1 (nm_r (e' := nI (1 + W x)) (by rw [x2, hw x hx, od_w2]) ?_)
    refine br_f (n6 (by omega)) (And.intro y1 (nm_r (e' := nI (1 + W x + W y)) (by rw [y2, hw y hy, nI_add]) ?_))
    exact br_f (od_nK (j := 7) hK (by decide) (by omega)) h
  by_cases k6 : K = 6
  · exact br_t (by rw [k6]; rfl) (w52 (Or.inl k6))
  refine br_f (od_nK (j := 6) hK (by decide) k6) ?_
  by_cases k8 : K = 8
  · exact br_t (by rw [k8]; rfl) (w52 (Or.inr k8))
  refine br_f (od_nK (j := 8) hK (by decide) k8) ?_
  by_cases k7 : K = 7
  · obtain ⟨e2, e3, e4, hx, hy, hz⟩ := o7 k7
    subst e2 e3 e4
    rw [if_neg (by omega), if_pos k7] at h
    obtain ⟨y1, y2⟩ := c32 y hy
    obtain ⟨z1, z2⟩ := c32 z hz
    refine br_f (n6 (by omega)) (And.intro y1 (nm_r (e' := nI (1 + W y)) (by rw [y2, hw y hy, od_w2]) ?_))
    exact br_t (by rw [k7]; rfl) (And.intro z1 (nm_r (e' := nI (1 + W y + W z)) (by rw [z2, hw z hz, nI_add]) h))
  by_cases k9 : K = 9
  · obtain ⟨e2, e3, hx, hy⟩ := o9 k9
    subst e2 e3
    rw [if_neg (by omega), if_neg k7, if_pos k9] at h
    obtain ⟨y1, y2⟩ := c32 y hy
    refine br_f (n6 (by omega)) (And.intro y1 (nm_r (e' := nI (1 + W y)) (by rw [y2, hw y hy, od_w2]) ?_))
    exact br_f (od_nK (j := 7) hK (by decide) k7) h
  · rw [if_pos (by omega)] at h
    exact br_t ((nI_ltI (b := 6) (by omega) (by decide)).mpr (by omega)) (br_f (od_nK (j := 7) hK (by decide) k7) h)
end
theorem od_nu {a : Nat → Int32} {k p : Nat} {v : Int32} (h : p ≠ k) : od_n (upd a k v) p = od_n a p := by unfold od_n; rw [pk_un h]
theorem od_ns {a : Nat → Int32} {k : Nat} {v : Int32} : od_n (upd a k v) k = v.toNatClampNeg := by unfold od_n; rw [pk_us]
/-- the facts after a new program -/
theorem od_newF {nc np K w : Nat} {wh : Nat → Int64} {ko px py pz wo ho we : Nat → Int32} {en en' : Nat → Int64} {fa nl fa' nl' : Nat → Int32} {v2 v3 v4 : Int32} (hF : od_F nc np wh ko px py pz wo ho we en fa nl) (hp : np < 32) (hK : K < 10) (hop : od_ops nc np K (od_bn v2).toNatClampNeg (od_bn v3).toNatClampNeg (od_bn v4).toNatClampNeg (od_bn v2) (od_bn v3) (od_bn v4)) (hw : w = od_w (od_n wo) K (od_bn v2).toNatClampNeg (od_bn v3).toNatClampNeg (od_bn v4).toNatClampNeg) (hw20 : w ≤ 20) (hw1 : 1 ≤ w) (hA : ∀ j, j < 64 * np → en' j = en j ∧ fa' j = fa j ∧ nl' j = nl j) (hO : ∀ s, s < 64 → od_O ho en fa nl (od_bn v2).toNatClampNeg (od_bn v3).toNatClampNeg (od_bn v4).toNatClampNeg s (en' (64 * np + s)) (fa' (64 * np + s)) (nl' (64 * np + s)) K) : od_F nc (np + 1) wh (upd ko np (nI K)) (upd px np (od_bn v2)) (upd py np (od_bn v3)) (upd pz np (od_bn v4)) (upd wo np (nI w)) ho (upd we np (nI w)) en' fa' nl' ∧ ∀ q, q < np → od_M en' fa' nl' q = od_M en fa nl q := by
  obtain ⟨f1, f2, f3, f4, f5, f6⟩ := hF
  have hM : ∀ q, q < np → od_M en' fa' nl' q = od_M en fa nl q := fun q hq => od_M_congr (fun s hs => hA _ (by omega))
  refine ⟨⟨f1, by omega, f3, fun p hp' => ?_, fun p hp' => ?_, fun j hj => ?_⟩, hM⟩
  · by_cases e : p = np
    · subst e
      have hcK : (nI K).toNatClampNeg = K := nI_clamp (by omega)
      have hcw : (nI w).toNatClampNeg = w := nI_clamp (by omega)
      unfold od_P
      rw [od_ns, od_ns, od_ns, od_ns, od_ns, pk_us, pk_us, pk_us, pk_us, pk_us, hcK, hcw]
      refine ⟨rfl, hK, rfl, hw1, hw20, od_newL f3 hO hM ?_ hop⟩
      rw [od_ns, hcw]
      have hw' := hw
      obtain ⟨_, _, _, o68, o7, o9⟩ := hop
      unfold od_w at hw' ⊢
      by_cases k6 : K < 6
      · rw [if_pos k6] at hw' ⊢; exact hw'
      rw [if_neg k6] at hw' ⊢
      by_cases k7 : K = 7
      · rw [if_pos k7] at hw' ⊢
        obtain ⟨_, _, _, _, hy, hz⟩ := o7 k7
        rw [od_nu (by omega), od_nu (by omega)]; exact hw'
      rw [if_neg k7] at hw' ⊢
      by_cases k9 : K = 9
      · rw [if_pos k9] at hw' ⊢
        obtain ⟨_, _, _, hy⟩ := o9 k9
        rw [od_nu (by omega)]; exact hw'
      rw [if_neg k9] at hw' ⊢
      obtain ⟨_, _, hx, hy⟩ := o68 (by omega)
      rw [od_nu (by omega), od_nu (by omega)]; exact hw'
    · have hp'' : p < np := by omega
      have P := f4 p hp''
      unfold od_P at P ⊢
      rw [od_nu e, od_nu e, od_nu e, od_nu e, od_nu e, pk_un e, pk_un e, pk_un e, pk_un e, pk_un e]
      obtain ⟨a, b, c, d, e', f⟩ := P
      exact ⟨a, b, c, d, e', od_L_congr (Nat.le_refl nc) (fun _ _ => rfl) (fun q hq => od_nu (by omega)) (fun q hq => hM q (by omega)) f⟩
  · by_cases e : p = np
    · subst e
      rw [pk_us, pk_us]
    · rw [pk_un e, pk_un e]
      exact f5 p (by omega)
  · by_cases c : j < 64 * np
    · rw [(hA j c).2.1, (hA j c).2.2]
      exact f6 j c
    · obtain ⟨s, hs, e⟩ : ∃ s, s < 64 ∧ j = 64 * np + s := ⟨j - 64 * np, by omega, by omega⟩
      subst e
      exact ⟨(hO s hs).1, (hO s hs).2.1⟩
theorem od_C_new {np : Nat} {M M' : Nat → Nat → Int64 → Int64} {cf : Nat → Int32} {cg cr : Nat → Int64} (hM : ∀ q, q < np → M' q = M q) (h : od_C np M cf cg cr) : od_C (np + 1) M' cf cg cr := by
  intro k hk
  obtain ⟨a, b, c⟩ := h k hk
  refine ⟨a, by omega, fun p m hp hm e => ?_⟩
  rw [hM p (by omega)]
  exact c p m (by omega) hm e
theorem i_vc_program {k : Nat} {u : SX} {v : SY} (I : i_Rel k u v) (hk : k + 5 ≤ 2560) (v1 : Int32) (v2 : Int32) (v3 : Int32) (v4 : Int32) : wpX_program (fun r u' => wpY_program (fun r' v' => r' = r ∧ i_Rel (k + 5) u' v') v v1 v2 v3 v4) u v1 v2 v3 v4 := by
  refine od_el (P := fun u v => wpX_program (fun r u' => wpY_program (fun r' v' => r' = r ∧ i_Rel (k + 5) u' v') v v1 v2 v3 v4) u v1 v2 v3 v4) ?_ I
  intro nc np lv wh ko px py pz wo gr ho we en fa nl be ro u hX hF
  have hR : i_Rel (k + 5) u (nI nc, nI np, gr, ho, we, en, fa, nl, be, ro) := od_mkR hX hF
  obtain ⟨dp, st, na, ph, nu, go, ke, ib, re, cf, cg, cr, rfl, hC⟩ := hX
  have hF' := hF
  obtain ⟨f1, f2, f3, f4, f5, f6⟩ := hF'
  by_cases full : np = 32
  · subst full
    exact br_f (by decide) (br_t rfl ⟨rfl, hR⟩)
  have hp : np < 32 := by omega
  have n32 : ¬ nI np = 32 := fun z => full ((nI_eq (b := 32) (by omega) (by decide)).mp z)
  refine br_t (nI_lt (b := 32) hp (by decide)) ?_
  rcases od_in_c v1 (n := 10) (by decide) with ⟨e1, _⟩ | ⟨e1, K, hK, eK⟩
  · exact od_inl (n := 10) (by decide) (by decide) (fun _ => br_f n32 (od_yin (n := 10) (by decide) (by decide) (br_t e1 ⟨rfl, hR⟩))) (fun q => absurd (e1.symm.trans q) (by decide))
  refine od_inl (n := 10) (by decide) (by decide) (fun q => absurd (e1.symm.trans q) (by decide)) (fun _ => ?_)
  subst eK
  obtain ⟨r, hr, hfX, hfY⟩ := od_fit (lv := lv) (dp := dp) (st := st) (wh := wh) (ko := ko) (px := px) (py := py) (pz := pz) (wo := wo) (na := na) (ph := ph) (nu := nu) (go := go) (ke := ke) (ib := ib) (re := re) (cf := cf) (cg := cg) (cr := cr) (gr := gr) (ho := ho) (we := we) (en := en) (fa := fa) (nl := nl) (be := be) (ro := ro) f1 f2 hK v2 v3 v4
  refine hfX _ ?_
  have yw : ∀ post : Int32 → SY → Prop, ((r = 0 → post (-1) (nI nc, nI np, gr, ho, we, en, fa, nl, be, ro)) ∧ (¬ r = 0 → ((nI K = 6 → wY_program_52 post (nI K) v2 v3 v4 1 (nI nc) (nI np) gr ho we en fa nl be ro) ∧ (¬ nI K = 6 → ((nI K = 8 → wY_program_52 post (nI K) v2 v3 v4 1 (nI nc) (nI np) gr ho we en fa nl be ro) ∧ (¬ nI K = 8 → wY_program_63 post (nI K) v2 v3 v4 1 (nI nc) (nI np) gr ho we en fa nl be ro)))))) → wpY_program post (nI nc, nI np, gr, ho, we, en, fa, nl, be, ro) (nI K) v2 v3 v4 := by
    intro post h
    exact br_f n32 (od_yin (n := 10) (by decide) (by decide) (br_f (od_n1 e1) (hfY _ h)))
  rcases hr with r0 | ⟨r1, x, y, z, hops⟩
  · exact br_t r0 (yw _ (br_t r0 ⟨rfl, hR⟩))
  obtain ⟨opA, opB⟩ := od_ops_bn f1 f2 hops
  have hwn : ∀ q, q < np → wo q = nI (od_n wo q) := fun q hq => (f4 q hq).2.2.1
  have hwe : ∀ q, q < np → we q = nI (od_n wo q) := fun q hq => by rw [f5 q hq]; exact hwn q hq
  have hw20 : ∀ q, q < np → od_n wo q ≤ 20 := fun q hq => (f4 q hq).2.2.2.2.1
  have hwb : od_w (od_n wo) K (od_bn v2).toNatClampNeg (od_bn v3).toNatClampNeg (od_bn v4).toNatClampNeg < 100 ∧ 1 ≤ od_w (od_n wo) K (od_bn v2).toNatClampNeg (od_bn v3).toNatClampNeg (od_bn v4).toNatClampNeg := by
    obtain ⟨_, _, _, o68, o7, o9⟩ := opA
    unfold od_w
    by_cases k6 : K < 6
    · rw [if_pos k6]; omega
    rw [if_neg k6]
    by_cases k7 : K = 7
    · rw [if_pos k7]
      obtain ⟨_, _, _, _, hy, hz⟩ := o7 k7
      have := hw20 _ hy
      have := hw20 _ hz
      omega
    rw [if_neg k7]
    by_cases k9 : K = 9
    · rw [if_pos k9]
      obtain ⟨_, _, _, hy⟩ := o9 k9
      have := hw20 _ hy
      omega
    rw [if_neg k9]
    obtain ⟨_, _, hx, hy⟩ := o68 (by omega)
    have := hw20 _ hx
    have := hw20 _ hy
    omega
  refine br_f (od_n1 r1) (od_xwt f2 hK opA hwn (od_x111 hK (fun hbig _ => ?_) hwb.1 hp (fun hle => ?_)))
  · refine yw _ (br_f (od_n1 r1) (od_ywt f2 hK opA hwe ?_))
    exact br_f (fun q => absurd ((nI_leI (b := 20) (by omega) (by decide)).mp q) (by omega)) ⟨rfl, hR⟩
  · refine yw _ (br_f (od_n1 r1) (od_ywt f2 hK opA hwe ?_))
    have hv : vp_in (nI np) 32 := vp_in_nI hp (by decide)
    have hcn : (nI np).toNatClampNeg = np := nI_clamp (by omega)
    refine br_t ((nI_leI (b := 20) (by omega) (by decide)).mpr hle) (And.intro hv (nm_r (e' := upd we np (nI (od_w (od_n wo) K (od_bn v2).toNatClampNeg (od_bn v3).toNatClampNeg (od_bn v4).toNatClampNeg))) (by rw [hcn]) ⟨65, ?_⟩))
    refine od_prog_loop (en0 := en) (fa0 := fa) (nl0 := nl) (by omega) f1 hK opA f6 (fun gr' en' fa' nl' be' ro' hA hO => ⟨rfl, ?_⟩) 64 0 gr en fa nl be ro rfl (fun _ _ => ⟨rfl, rfl, rfl⟩) (fun s hs => absurd hs (Nat.not_lt_zero s))
    obtain ⟨nF, nM⟩ := od_newF hF hp hK opB rfl hle hwb.2 hA hO
    exact od_mkR (lv := lv) ⟨dp, st, na, ph, nu, go, ke, ib, re, cf, cg, cr, rfl, od_C_new nM hC⟩ nF
end
section
/-! questions: what both sides share -/
theorem od_ins {v : Int32} {n : Nat} {A B : Prop} (h0 : od_in v n = 0 → A) (h1 : od_in v n = 1 → B) : (v < 0 → A) ∧ (¬ v < 0 → ((v < nI n → B) ∧ (¬ v < nI n → A))) := by
  unfold od_in at h0 h1
  by_cases c : v < 0
  · rw [if_pos c] at h0
    exact br_t c (h0 rfl)
  · rw [if_neg c] at h0 h1
    refine br_f c ?_
    by_cases d : nI n ≤ v
    · rw [if_pos d] at h0
      exact br_f (Int32.not_lt.mpr d) (h0 rfl)
    · rw [if_neg d] at h1
      exact br_t (Int32.not_le.mp d) (h1 rfl)
theorem od_cnS (f : Nat → Bool) (n : Nat) : od_cn f (n + 1) = od_cn f n + (if f n = true then 1 else 0) := rfl
theorem od_cn_step {f : Nat → Bool} {a b : Nat} (h : a < b) (hf : f a = true) : od_cn f a + 1 ≤ od_cn f b := by
  induction b with
  | zero => exact absurd h (Nat.not_lt_zero a)
  | succ b ih =>
    rw [od_cnS]
    by_cases e : a = b
    · subst e
      rw [if_pos hf]
      exact Nat.le_refl _
    · have := ih (by omega)
      omega
theorem od_rank {f : Nat → Bool} {i : Nat} : ∀ n, i < od_cn f n → ∃ t, t < n ∧ f t = true ∧ od_cn f t = i
  | 0, h => absurd h (Nat.not_lt_zero i)
  | n + 1, h => by
    rw [od_cnS] at h
    by_cases c : i < od_cn f n
    · obtain ⟨t, ht, a, b⟩ := od_rank n c
      exact ⟨t, by omega, a, b⟩
    · by_cases d : f n = true
      · rw [if_pos d] at h
        exact ⟨n, by omega, d, by omega⟩
      · rw [if_neg d] at h
        omega
theorem od_rank_u {f : Nat → Bool} {a b : Nat} (ha : f a = true) (hb : f b = true) (h : od_cn f a = od_cn f b) : a = b := by
  rcases Nat.lt_trichotomy a b with c | c | c
  · have := od_cn_step c ha; omega
  · exact c
  · have := od_cn_step c hb; omega
section
variable {cc pc lv dp : Int32} {st : Int64} {wh : Nat → Int64} {ko px py pz wo na ph nu : Nat → Int32} {go ke : Nat → Int64} {ib : Nat → Int32} {re : Nat → Int64} {cf : Nat → Int32} {cg cr : Nat → Int64}
theorem od_ones {post : Int32 → Prop} {x : Int64} (h : post (nI (od_cn (od_b x) 64))) : wpX_onesIn post (cc, pc, lv, dp, st, wh, ko, px, py, pz, wo, na, ph, nu, go, ke, ib, re, cf, cg, cr) x := by
  have lp : ∀ N a x, od_cn (od_b x) 64 = N → post (nI (a + N)) → wX_onesIn_5 post cc pc lv dp st wh ko px py pz wo na ph nu go ke ib re cf cg cr (N + 1) (nI a) x := by
    intro N
    induction N with
    | zero =>
      intro a x e h
      exact br_t (od_is0 (od_cn_z e)) h
    | succ N ih =>
      intro a x e h
      have nz : x ≠ 0 := by
        intro z
        rw [z, od_cn_0 (fun i _ => od_b0 i)] at e
        omega
      obtain ⟨m, hm, h1, h0⟩ := od_low nz
      have e2 := od_cn_clr (f := od_b x) (g := od_b (x &&& (x - 1))) h1 (n := 64) (fun i _ => od_clr hm h1 h0 i)
      rw [if_pos hm, e] at e2
      have e3 : a + 1 + N = a + (N + 1) := by omega
      exact br_f nz (nm_e (nm_r (nI_1 a) (ih (a + 1) _ (by omega) (by rw [e3]; exact h))))
  exact ⟨_, lp _ 0 x rfl (by rw [Nat.zero_add]; exact h)⟩
theorem od_lowest {post : Int32 → Prop} {x : Int64} {m : Nat} (hm : m < 64) (h1 : od_b x m = true) (h0 : ∀ i, i < m → od_b x i = false) (h : post (nI m)) : wpX_lowestIn post (cc, pc, lv, dp, st, wh, ko, px, py, pz, wo, na, ph, nu, go, ke, ib, re, cf, cg, cr) x := by
  have lp : ∀ k i, i + k = m → wX_lowestIn_2 post x cc pc lv dp st wh ko px py pz wo na ph nu go ke ib re cf cg cr (k + 1) (nI i) := by
    intro k
    induction k with
    | zero =>
      intro i hi
      have hi' : i = m := by omega
      subst hi'
      exact br_f (fun w => absurd (((od_t0 hm).mp w).symm.trans h1) (by decide)) h
    | succ k ih =>
      intro i hi
      exact br_t ((od_t0 (by omega)).mpr (h0 i (by omega))) (nm_r (nI_1 i) (ih (i + 1) (by omega)))
  exact ⟨m + 1, lp m 0 (Nat.zero_add m)⟩
theorem od_end48 {post : Int32 → SX → Prop} {e : Int64} {t : Nat} (ht : t < 64) (hb : od_b e t = true) (h : post (nI t) (cc, pc, lv, dp, st, wh, ko, px, py, pz, wo, na, ph, nu, go, ke, ib, re, cf, cg, cr)) : ∀ k i x, i + k = od_cn (od_b e) t → (∀ s, s < 64 → (od_b x s = true ↔ od_b e s = true ∧ i ≤ od_cn (od_b e) s)) → wX_end_48 post (nI (od_cn (od_b e) t)) cc pc lv dp st wh ko px py pz wo na ph nu go ke ib re cf cg cr (k + 1) x (nI i) := by
  have hle : ∀ n, od_cn (od_b e) n ≤ n := od_cn_le _
  have ht1 := hle t
  intro k
  induction k with
  | zero =>
    intro i x hi hx
    have hi' : i = od_cn (od_b e) t := by omega
    refine br_t ((nI_leI (by omega) (by omega)).mpr (by omega)) (od_lowest ht ((hx t ht).mpr ⟨hb, by omega⟩) (fun j hj => ?_) h)
    apply od_bT
    intro q
    obtain ⟨q1, q2⟩ := (hx j (by omega)).mp q
    have := od_cn_step hj q1
    omega
  | succ k ih =>
    intro i x hi hx
    have h64 : i < od_cn (od_b e) t := by omega
    obtain ⟨m, hm, m1, m2⟩ := od_rank (f := od_b e) t h64
    refine br_f (fun z => absurd ((nI_leI (by omega) (by omega)).mp z) (by omega)) (nm_e (nm_r (nI_1 i) (ih (i + 1) _ (by omega) (fun s hs => ?_))))
    have c := od_clr (x := x) (m := m) (by omega) ((hx m (by omega)).mpr ⟨m1, by omega⟩) (fun j hj => by
      apply od_bT
      intro q
      obtain ⟨q1, q2⟩ := (hx j (by omega)).mp q
      have := od_cn_step hj q1
      omega) s
    rw [c, Bool.and_eq_true, hx s hs]
    constructor
    · intro ⟨⟨q1, q2⟩, q3⟩
      refine ⟨q1, ?_⟩
      by_cases z : s = m
      · rw [decide_eq_true z] at q3; exact absurd q3 (by decide)
      · have : od_cn (od_b e) s ≠ i := fun w => z (od_rank_u q1 m1 (w.trans m2.symm))
        omega
    · intro ⟨q1, q2⟩
      refine ⟨⟨q1, by omega⟩, ?_⟩
      have : s ≠ m := fun w => by rw [w] at q2; omega
      rw [decide_eq_false this]
      rfl
end
section
variable {cd pr gr : Int32} {ho we : Nat → Int32} {en : Nat → Int64} {fa nl be ro : Nat → Int32}
theorem od_size {post : Int32 → Prop} {x : Int64} (h : post (nI (od_cn (od_b x) 64))) : wpY_size post (cd, pr, gr, ho, we, en, fa, nl, be, ro) x := by
  have lp : ∀ k i, i + k = 64 → wY_size_5 post x cd pr gr ho we en fa nl be ro (k + 1) (nI (od_cn (od_b x) i)) (nI i) := by
    intro k
    induction k with
    | zero =>
      intro i hi
      have hi' : i = 64 := by omega
      subst hi'
      exact br_t (by decide) h
    | succ k ih =>
      intro i hi
      have g := ih (i + 1) (by omega)
      rw [od_cnS] at g
      refine br_f (nI_ge (b := 64) (by omega) (by decide)) ?_
      by_cases c : od_b x i = true
      · rw [if_pos c] at g
        exact br_t ((od_t1 (by omega)).mpr c) (nm_r (nI_1 _) (nm_r (nI_1 i) g))
      · rw [if_neg c] at g
        exact br_f (fun q => c ((od_t1 (by omega)).mp q)) (nm_r (nI_1 i) g)
  exact ⟨65, lp 64 0 rfl⟩
theorem od_yend0 {post : Int32 → Prop} {p s : Nat} {v3 : Int32} (hp : p < 32) (hs : s < 64) (hv : ∀ c, c < od_cn (od_b (en (64 * p + s))) 64 → nI c ≠ v3) (h : post (-3)) : ∀ k i, i + k = 64 → wY_end_27 post (nI p) (nI s) v3 cd pr gr ho we en fa nl be ro (k + 1) (nI (od_cn (od_b (en (64 * p + s))) i)) (nI i) := by
  have hve : vp_in (64 * nI p + nI s) 2048 := by rw [od_ix]; exact vp_in_nI (by omega) (by decide)
  have hce : (64 * nI p + nI s).toNatClampNeg = 64 * p + s := by rw [od_ix]; exact nI_clamp (by omega)
  intro k
  induction k with
  | zero =>
    intro i hi
    have hi' : i = 64 := by omega
    subst hi'
    exact br_t (by decide) h
  | succ k ih =>
    intro i hi
    have g := ih (i + 1) (by omega)
    rw [od_cnS] at g
    refine br_f (nI_ge (b := 64) (by omega) (by decide)) (And.intro hve ?_)
    rw [hce]
    by_cases c : od_b (en (64 * p + s)) i = true
    · rw [if_pos c] at g
      have := od_cn_step (b := 64) (by omega) c
      exact br_t ((od_t1 (by omega)).mpr c) (br_f (hv _ (by omega)) (nm_r (nI_1 _) (nm_r (nI_1 i) g)))
    · rw [if_neg c] at g
      exact br_f (fun q => c ((od_t1 (by omega)).mp q)) (nm_r (nI_1 i) g)
theorem od_yend1 {post : Int32 → Prop} {p s t : Nat} (hp : p < 32) (hs : s < 64) (ht : t < 64) (hb : od_b (en (64 * p + s)) t = true) (h : post (nI t)) : ∀ k i, i + k = t → wY_end_27 post (nI p) (nI s) (nI (od_cn (od_b (en (64 * p + s))) t)) cd pr gr ho we en fa nl be ro (k + 1) (nI (od_cn (od_b (en (64 * p + s))) i)) (nI i) := by
  have hve : vp_in (64 * nI p + nI s) 2048 := by rw [od_ix]; exact vp_in_nI (by omega) (by decide)
  have hce : (64 * nI p + nI s).toNatClampNeg = 64 * p + s := by rw [od_ix]; exact nI_clamp (by omega)
  have hle := od_cn_le (od_b (en (64 * p + s)))
  intro k
  induction k with
  | zero =>
    intro i hi
    have hi' : i = t := by omega
    subst hi'
    refine br_f (nI_ge (b := 64) (by omega) (by decide)) (And.intro hve ?_)
    rw [hce]
    exact br_t ((od_t1 ht).mpr hb) (br_t rfl h)
  | succ k ih =>
    intro i hi
    have g := ih (i + 1) (by omega)
    rw [od_cnS] at g
    refine br_f (nI_ge (b := 64) (by omega) (by decide)) (And.intro hve ?_)
    rw [hce]
    by_cases c : od_b (en (64 * p + s)) i = true
    · rw [if_pos c] at g
      have h1 := od_cn_step (b := t) (by omega) c
      have h2 := hle i
      have h3 := hle t
      exact br_t ((od_t1 (by omega)).mpr c) (br_f (fun z => absurd ((nI_eq (by omega) (by omega)).mp z) (by omega)) (nm_r (nI_1 _) (nm_r (nI_1 i) g)))
    · rw [if_neg c] at g
      exact br_f (fun q => c ((od_t1 (by omega)).mp q)) (nm_r (nI_1 i) g)
end
/-! kinds of questions -/
noncomputable def od_kd (wh : Nat → Int64) (M : Nat → Nat → Int64 → Int64) (K p c : Nat) : Int64 :=
  if K = 0 then M p 3 (wh c ^^^ (-1)) ^^^ (-1) else if K = 1 then M p 1 (wh c ^^^ (-1)) ^^^ (-1) else if K = 2 then M p 0 (wh c) else if K = 3 then M p 1 0 else if K = 4 then M p 2 0 else M p 3 (-1) ^^^ (-1)
theorem od_bnT (x : Int64) {s : Nat} (hs : s < 64) : od_b (x ^^^ (-1)) s = true ↔ ¬ od_b x s = true := by
  rw [od_bnot x hs]
  cases od_b x s <;> simp
section
variable {nc np : Nat} {wh : Nat → Int64} {ho : Nat → Int32} {en : Nat → Int64} {fa nl : Nat → Int32}
theorem od_kd0 (hH : ∀ c, c < nc → ∀ s, s < 64 → (od_b (wh c) s = true ↔ ho (64 * c + s) ≠ 0)) {p c s : Nat} (hc : c < nc) (hs : s < 64) : od_b (od_kd wh (od_M en fa nl) 0 p c) s = true ↔ (fa (64 * p + s) = 0 ∧ nl (64 * p + s) = 0) ∧ ¬ ∃ t, t < 64 ∧ od_b (en (64 * p + s)) t = true ∧ ho (64 * c + t) = 0 := by
  show od_b (od_M en fa nl p 3 (wh c ^^^ (-1)) ^^^ (-1)) s = true ↔ _
  rw [od_bnT _ hs, od_Mb hs]
  constructor
  · intro q
    refine ⟨⟨Classical.byContradiction (fun w => q (Or.inr (Or.inl ⟨rfl, w⟩))), Classical.byContradiction (fun w => q (Or.inr (Or.inr ⟨by decide, w⟩)))⟩, fun ⟨t, ht, w1, w2⟩ => q (Or.inl ⟨t, ht, w1, ?_⟩)⟩
    rw [od_bnT _ ht, hH c hc t ht]
    exact fun z => z w2
  · intro ⟨⟨q1, q2⟩, q3⟩ w
    rcases w with ⟨t, ht, w1, w2⟩ | w | w
    · rw [od_bnT _ ht, hH c hc t ht] at w2
      exact q3 ⟨t, ht, w1, Classical.byContradiction w2⟩
    · exact w.2 q1
    · exact w.2 q2
theorem od_kd1 (hH : ∀ c, c < nc → ∀ s, s < 64 → (od_b (wh c) s = true ↔ ho (64 * c + s) ≠ 0)) {p c s : Nat} (hc : c < nc) (hs : s < 64) : od_b (od_kd wh (od_M en fa nl) 1 p c) s = true ↔ fa (64 * p + s) = 0 ∧ ¬ ∃ t, t < 64 ∧ od_b (en (64 * p + s)) t = true ∧ ho (64 * c + t) = 0 := by
  show od_b (od_M en fa nl p 1 (wh c ^^^ (-1)) ^^^ (-1)) s = true ↔ _
  rw [od_bnT _ hs, od_Mb hs]
  constructor
  · intro q
    refine ⟨Classical.byContradiction (fun w => q (Or.inr (Or.inl ⟨rfl, w⟩))), fun ⟨t, ht, w1, w2⟩ => q (Or.inl ⟨t, ht, w1, ?_⟩)⟩
    rw [od_bnT _ ht, hH c hc t ht]
    exact fun z => z w2
  · intro ⟨q1, q3⟩ w
    rcases w with ⟨t, ht, w1, w2⟩ | w | w
    · rw [od_bnT _ ht, hH c hc t ht] at w2
      exact q3 ⟨t, ht, w1, Classical.byContradiction w2⟩
    · exact w.2 q1
    · exact absurd w.1 (by decide)
theorem od_kd2 (hH : ∀ c, c < nc → ∀ s, s < 64 → (od_b (wh c) s = true ↔ ho (64 * c + s) ≠ 0)) {p c s : Nat} (hc : c < nc) (hs : s < 64) : od_b (od_kd wh (od_M en fa nl) 2 p c) s = true ↔ ∃ t, t < 64 ∧ od_b (en (64 * p + s)) t = true ∧ ho (64 * c + t) ≠ 0 := by
  show od_b (od_M en fa nl p 0 (wh c)) s = true ↔ _
  rw [od_Mb hs]
  constructor
  · intro w
    rcases w with ⟨t, ht, w1, w2⟩ | w | w
    · exact ⟨t, ht, w1, (hH c hc t ht).mp w2⟩
    · exact absurd w.1 (by decide)
    · exact absurd w.1 (by decide)
  · intro ⟨t, ht, w1, w2⟩
    exact Or.inl ⟨t, ht, w1, (hH c hc t ht).mpr w2⟩
theorem od_M10 {p s : Nat} (hs : s < 64) : od_b (od_M en fa nl p 1 0) s = true ↔ fa (64 * p + s) ≠ 0 := by
  rw [od_Mb hs]
  constructor
  · intro w
    rcases w with ⟨t, ht, w1, w2⟩ | w | w
    · rw [od_b0] at w2; exact absurd w2 (by decide)
    · exact w.2
    · exact absurd w.1 (by decide)
  · intro w
    exact Or.inr (Or.inl ⟨rfl, w⟩)
theorem od_M20 {p s : Nat} (hs : s < 64) : od_b (od_M en fa nl p 2 0) s = true ↔ nl (64 * p + s) ≠ 0 := by
  rw [od_Mb hs]
  constructor
  · intro w
    rcases w with ⟨t, ht, w1, w2⟩ | w | w
    · rw [od_b0] at w2; exact absurd w2 (by decide)
    · exact absurd w.1 (by decide)
    · exact w.2
  · intro w
    exact Or.inr (Or.inr ⟨by decide, w⟩)
theorem od_M30 {p s : Nat} (hs : s < 64) : od_b (od_M en fa nl p 3 0) s = true ↔ fa (64 * p + s) ≠ 0 ∨ nl (64 * p + s) ≠ 0 := by
  rw [od_Mb hs]
  constructor
  · intro w
    rcases w with ⟨t, ht, w1, w2⟩ | w | w
    · rw [od_b0] at w2; exact absurd w2 (by decide)
    · exact Or.inl w.2
    · exact Or.inr w.2
  · intro w
    rcases w with w | w
    · exact Or.inr (Or.inl ⟨rfl, w⟩)
    · exact Or.inr (Or.inr ⟨by decide, w⟩)
theorem od_M01 {p s t : Nat} (hs : s < 64) (ht : t < 64) : od_b (od_M en fa nl p 0 (od_1 t)) s = true ↔ od_b (en (64 * p + s)) t = true := by
  rw [od_Mb hs]
  constructor
  · intro w
    rcases w with ⟨u, hu, w1, w2⟩ | w | w
    · rw [od_b1 ht] at w2
      have := of_decide_eq_true w2
      subst this
      exact w1
    · exact absurd w.1 (by decide)
    · exact absurd w.1 (by decide)
  · intro w
    exact Or.inl ⟨t, ht, w, by rw [od_b1 ht]; exact decide_eq_true rfl⟩
theorem od_kd5 {p c s : Nat} (hs : s < 64) : od_b (od_kd wh (od_M en fa nl) 5 p c) s = true ↔ (fa (64 * p + s) = 0 ∧ nl (64 * p + s) = 0) ∧ en (64 * p + s) = 0 := by
  show od_b (od_M en fa nl p 3 (-1) ^^^ (-1)) s = true ↔ _
  rw [od_bnT _ hs, od_Mb hs]
  constructor
  · intro q
    refine ⟨⟨Classical.byContradiction (fun w => q (Or.inr (Or.inl ⟨rfl, w⟩))), Classical.byContradiction (fun w => q (Or.inr (Or.inr ⟨by decide, w⟩)))⟩, od_is0 (fun i hi => od_bT (fun w => q (Or.inl ⟨i, hi, w, od_bm1 hi⟩)))⟩
  · intro ⟨⟨q1, q2⟩, q3⟩ w
    rcases w with ⟨t, ht, w1, w2⟩ | w | w
    · rw [q3, od_b0] at w1; exact absurd w1 (by decide)
    · exact w.2 q1
    · exact w.2 q2
end
end
section
/-! count, first, is -/
section
variable {nc np : Nat} {lv : Int32} {wh : Nat → Int64} {ko px py pz wo : Nat → Int32}
variable {gr : Int32} {ho we : Nat → Int32} {en : Nat → Int64} {fa nl be ro : Nat → Int32}
theorem od_mapF {post : Int64 → SX → Prop} {p m : Nat} {g : Int64} {u : SX} (hF : od_F nc np wh ko px py pz wo ho we en fa nl) (hX : od_X nc np lv wh ko px py pz wo (od_M en fa nl) u) (hm : m < 4) (hp : p < np) (h : ∀ u', od_X nc np lv wh ko px py pz wo (od_M en fa nl) u' → post (od_M en fa nl p m g) u') : wpX_map post u (nI p) g (nI m) :=
  od_map hm hF.1 hF.2.1 hp hF.2.2.2.1 (fun q g g' w => od_M_mono en fa nl q m m w) hX h
theorem od_ofKind {post : Int64 → SX → Prop} {K p c : Nat} {v3 : Int32} {u : SX} (hF : od_F nc np wh ko px py pz wo ho we en fa nl) (hX : od_X nc np lv wh ko px py pz wo (od_M en fa nl) u) (hK : K < 6) (hp : p < np) (hc : K ≤ 2 → v3 = nI c ∧ c < nc) (h : ∀ u', od_X nc np lv wh ko px py pz wo (od_M en fa nl) u' → post (od_kd wh (od_M en fa nl) K p c) u') : wpX_ofKind post u (nI K) (nI p) v3 := by
  have hX0 := hX
  obtain ⟨dp, st, na, ph, nu, go, ke, ib, re, cf, cg, cr, rfl, hC⟩ := hX
  have f1 := hF.1
  have hK' : K = 0 ∨ K = 1 ∨ K = 2 ∨ K = 3 ∨ K = 4 ∨ K = 5 := by omega
  have vc : K ≤ 2 → vp_in v3 24 ∧ wh v3.toNatClampNeg = wh c := by
    intro q
    obtain ⟨e, hc⟩ := hc q
    subst e
    exact ⟨vp_in_nI (by omega) (by decide), by rw [nI_clamp (by omega)]⟩
  rcases hK' with k | k | k | k | k | k <;> subst k
  · obtain ⟨v, ew⟩ := vc (by decide)
    refine br_f (by decide) (And.intro v (br_t rfl ?_))
    rw [ew]
    refine od_mapF (m := 3) hF hX0 (by decide) hp (fun u' hu' => ?_)
    have := h u' hu'
    obtain ⟨dp', st', na', ph', nu', go', ke', ib', re', cf', cg', cr', rfl, hC'⟩ := hu'
    exact this
  · obtain ⟨v, ew⟩ := vc (by decide)
    refine br_f (by decide) (And.intro v (br_f (by decide) ?_))
    rw [ew]
    refine od_mapF (m := 1) hF hX0 (by decide) hp (fun u' hu' => ?_)
    have := h u' hu'
    obtain ⟨dp', st', na', ph', nu', go', ke', ib', re', cf', cg', cr', rfl, hC'⟩ := hu'
    exact this
  · obtain ⟨v, ew⟩ := vc (by decide)
    refine br_t (by decide) (br_t rfl (And.intro v ?_))
    rw [ew]
    refine od_mapF (m := 0) hF hX0 (by decide) hp (fun u' hu' => ?_)
    have := h u' hu'
    obtain ⟨dp', st', na', ph', nu', go', ke', ib', re', cf', cg', cr', rfl, hC'⟩ := hu'
    exact this
  · refine br_t (by decide) (br_f (by decide) (br_f (by decide) (br_t rfl ?_)))
    refine od_mapF (m := 1) hF hX0 (by decide) hp (fun u' hu' => ?_)
    have := h u' hu'
    obtain ⟨dp', st', na', ph', nu', go', ke', ib', re', cf', cg', cr', rfl, hC'⟩ := hu'
    exact this
  · refine br_t (by decide) (br_f (by decide) (br_f (by decide) (br_f (by decide) ?_)))
    refine od_mapF (m := 2) hF hX0 (by decide) hp (fun u' hu' => ?_)
    have := h u' hu'
    obtain ⟨dp', st', na', ph', nu', go', ke', ib', re', cf', cg', cr', rfl, hC'⟩ := hu'
    exact this
  · refine br_t (by decide) (br_f (by decide) (br_t rfl ?_))
    refine od_mapF (m := 3) hF hX0 (by decide) hp (fun u' hu' => ?_)
    have := h u' hu'
    obtain ⟨dp', st', na', ph', nu', go', ke', ib', re', cf', cg', cr', rfl, hC'⟩ := hu'
    exact this
/-- an answer by a bit -/
def od_ans (b : Bool) : Int32 := if b = true then 1 else 0
theorem od_ansI {P : Prop} {b : Bool} {post : Int32 → Prop} (e : b = true ↔ P) (h : post (od_ans b)) : (P → post 1) ∧ (¬ P → post 0) := by
  unfold od_ans at h
  constructor
  · intro q
    rw [if_pos (e.mpr q)] at h
    exact h
  · intro q
    rw [if_neg (fun w => q (e.mp w))] at h
    exact h
theorem od_isK {post : Int32 → Prop} {K p c s : Nat} {v3 : Int32} (hF : od_F nc np wh ko px py pz wo ho we en fa nl) (hK : K < 6) (hp : p < np) (hs : s < 64) (hc : K ≤ 2 → v3 = nI c ∧ c < nc) (h : post (od_ans (od_b (od_kd wh (od_M en fa nl) K p c) s))) :
    ∀ k i x6 x7, i + k = 64 → (x6 = 0 ∨ x6 = 1) → (x6 ≠ 0 ↔ K ≤ 2 ∧ ∃ t, t < i ∧ od_b (en (64 * p + s)) t = true ∧ ho (64 * c + t) ≠ 0) → (x7 ≠ 0 ↔ ¬ (K ≤ 2 ∧ ∃ t, t < i ∧ od_b (en (64 * p + s)) t = true ∧ ho (64 * c + t) = 0)) → wY_isKind_18 post (nI K) v3 (nI (64 * p + s)) (nI nc) (nI np) gr ho we en fa nl be ro (k + 1) x6 x7 (nI i) := by
  obtain ⟨f1, f2, f3, f4, f5, f6⟩ := hF
  have hv : vp_in (nI (64 * p + s)) 2048 := vp_in_nI (by omega) (by decide)
  have hcp : (nI (64 * p + s)).toNatClampNeg = 64 * p + s := nI_clamp (by omega)
  obtain ⟨g1, g2⟩ := f6 (64 * p + s) (by omega)
  intro k
  induction k with
  | zero =>
    intro i x6 x7 hi h01 h6 h7
    have hi' : i = 64 := by omega
    subst hi'
    refine br_t (by decide) ?_
    rw [hcp]
    have hK' : K = 0 ∨ K = 1 ∨ K = 2 ∨ K = 3 ∨ K = 4 ∨ K = 5 := by omega
    rcases hK' with k | k | k | k | k | k <;> subst k
    · have q := od_ansI (od_kd0 (en := en) (fa := fa) (nl := nl) (p := p) f3 (hc (by decide)).2 hs) h
      refine br_t rfl (And.intro hv ?_)
      by_cases c1 : fa (64 * p + s) = 0
      · refine br_t c1 (And.intro hv ?_)
        by_cases c2 : nl (64 * p + s) = 0
        · refine br_t c2 ?_
          by_cases c3 : x7 = 0
          · refine br_t c3 (q.2 (fun w => ?_))
            exact absurd c3 (h7.mpr (fun z => w.2 z.2))
          · exact br_f c3 (q.1 ⟨⟨c1, c2⟩, fun z => (h7.mp c3) ⟨by decide, z⟩⟩)
        · exact br_f c2 (q.2 (fun w => c2 w.1.2))
      · exact br_f c1 (q.2 (fun w => c1 w.1.1))
    · have q := od_ansI (od_kd1 (en := en) (fa := fa) (nl := nl) (p := p) f3 (hc (by decide)).2 hs) h
      refine br_f (by decide) (br_t rfl (And.intro hv ?_))
      by_cases c1 : fa (64 * p + s) = 0
      · refine br_t c1 ?_
        by_cases c3 : x7 = 0
        · refine br_t c3 (q.2 (fun w => ?_))
          exact absurd c3 (h7.mpr (fun z => w.2 z.2))
        · exact br_f c3 (q.1 ⟨c1, fun z => (h7.mp c3) ⟨by decide, z⟩⟩)
      · exact br_f c1 (q.2 (fun w => c1 w.1))
    · have q := od_ansI (od_kd2 (en := en) (fa := fa) (nl := nl) (p := p) f3 (hc (by decide)).2 hs) h
      refine br_f (by decide) (br_f (by decide) (br_t rfl (And.intro (od_nar h01) ?_)))
      rcases h01 with z | z
      · rw [z]
        exact q.2 (fun w => absurd z (h6.mpr ⟨by decide, w⟩))
      · rw [z]
        exact q.1 (h6.mp (by rw [z]; decide)).2
    · have q := od_ansI (od_M10 (en := en) (fa := fa) (nl := nl) (p := p) hs) h
      refine br_f (by decide) (br_f (by decide) (br_f (by decide) (br_t rfl (And.intro hv (And.intro (od_nar g1) ?_)))))
      rcases g1 with z | z
      · rw [z]; exact q.2 (fun w => w z)
      · rw [z]; exact q.1 (by rw [z]; decide)
    · have q := od_ansI (od_M20 (en := en) (fa := fa) (nl := nl) (p := p) hs) h
      refine br_f (by decide) (br_f (by decide) (br_f (by decide) (br_f (by decide) (br_t rfl (And.intro hv (And.intro (od_nar g2) ?_))))))
      rcases g2 with z | z
      · rw [z]; exact q.2 (fun w => w z)
      · rw [z]; exact q.1 (by rw [z]; decide)
    · have q := od_ansI (od_kd5 (wh := wh) (c := c) (en := en) (fa := fa) (nl := nl) (p := p) hs) h
      refine br_f (by decide) (br_f (by decide) (br_f (by decide) (br_f (by decide) (br_f (by decide) (And.intro hv ?_)))))
      by_cases c1 : fa (64 * p + s) = 0
      · refine br_t c1 (And.intro hv ?_)
        by_cases c2 : nl (64 * p + s) = 0
        · refine br_t c2 (And.intro hv ?_)
          by_cases c3 : en (64 * p + s) = 0
          · exact br_t c3 (q.1 ⟨⟨c1, c2⟩, c3⟩)
          · exact br_f c3 (q.2 (fun w => c3 w.2))
        · exact br_f c2 (q.2 (fun w => c2 w.1.2))
      · exact br_f c1 (q.2 (fun w => c1 w.1.1))
  | succ k ih =>
    intro i x6 x7 hi h01 h6 h7
    refine br_f (nI_ge (b := 64) (by omega) (by decide)) (And.intro hv ?_)
    rw [hcp]
    have nx : ∀ P : Nat → Prop, (∃ t, t < i + 1 ∧ od_b (en (64 * p + s)) t = true ∧ P t) ↔ (∃ t, t < i ∧ od_b (en (64 * p + s)) t = true ∧ P t) ∨ (od_b (en (64 * p + s)) i = true ∧ P i) := fun P => od_ex1
    by_cases c1 : od_b (en (64 * p + s)) i = true
    · refine br_t ((od_t1 (by omega)).mpr c1) (br_f (by decide) ?_)
      by_cases c2 : K ≤ 2
      · have n2 : ¬ (2 : Int32) < nI K := fun z => absurd ((nI_ltI (a := 2) (by decide) (by omega)).mp z) (by omega)
        obtain ⟨ec, hcn⟩ := hc c2
        subst ec
        have hvh : vp_in (64 * nI c + nI i) 1536 := by rw [od_ix]; exact vp_in_nI (by omega) (by decide)
        have hch : (64 * nI c + nI i).toNatClampNeg = 64 * c + i := by rw [od_ix]; exact nI_clamp (by omega)
        refine br_f n2 (And.intro hvh ?_)
        by_cases c3 : ho (64 * c + i) = 0
        · refine br_t (by rw [hch]; exact c3) (br_f (by decide) (br_f n2 (And.intro hvh (br_t (by rw [hch]; exact c3) (nm_r (nI_1 i) (ih (i + 1) _ _ (by omega) h01 ?_ ?_))))))
          · rw [h6, nx]
            exact ⟨fun w => ⟨w.1, Or.inl w.2⟩, fun w => ⟨w.1, w.2.elim id (fun z => absurd c3 z.2)⟩⟩
          · rw [nx]
            exact ⟨fun w => absurd rfl w, fun w => absurd ⟨c2, Or.inr ⟨c1, c3⟩⟩ w⟩
        · refine br_f (by rw [hch]; exact c3) (br_f (by decide) (br_f n2 (And.intro hvh (br_f (by rw [hch]; exact c3) (nm_r (nI_1 i) (ih (i + 1) _ _ (by omega) (Or.inr rfl) ?_ ?_))))))
          · rw [nx]
            exact ⟨fun _ => ⟨c2, Or.inr ⟨c1, c3⟩⟩, fun _ => by decide⟩
          · rw [h7, nx]
            exact ⟨fun w z => w ⟨z.1, z.2.elim id (fun z => absurd z.2 c3)⟩, fun w z => w ⟨z.1, Or.inl z.2⟩⟩
      · have n2 : (2 : Int32) < nI K := (nI_ltI (a := 2) (by decide) (by omega)).mpr (by omega)
        refine br_t n2 (br_f (by decide) (br_t n2 (nm_r (nI_1 i) (ih (i + 1) _ _ (by omega) h01 ?_ ?_))))
        · rw [h6]
          exact ⟨fun w => absurd w.1 c2, fun w => absurd w.1 c2⟩
        · rw [h7]
          exact ⟨fun _ z => c2 z.1, fun _ z => c2 z.1⟩
    · refine br_f (fun q => c1 ((od_t1 (by omega)).mp q)) (br_t rfl (br_t rfl (nm_r (nI_1 i) (ih (i + 1) _ _ (by omega) h01 ?_ ?_))))
      · rw [h6, nx]
        exact ⟨fun w => ⟨w.1, Or.inl w.2⟩, fun w => ⟨w.1, w.2.elim id (fun z => absurd z.1 c1)⟩⟩
      · rw [h7, nx]
        exact ⟨fun w z => w ⟨z.1, z.2.elim id (fun z => absurd z.1 c1)⟩, fun w z => w ⟨z.1, Or.inl z.2⟩⟩
theorem od_isKind {post : Int32 → Prop} {K p c s : Nat} {v3 : Int32} (hF : od_F nc np wh ko px py pz wo ho we en fa nl) (hK : K < 6) (hp : p < np) (hs : s < 64) (hc : K ≤ 2 → v3 = nI c ∧ c < nc) (h : post (od_ans (od_b (od_kd wh (od_M en fa nl) K p c) s))) : wpY_isKind post (nI nc, nI np, gr, ho, we, en, fa, nl, be, ro) (nI K) (nI p) v3 (nI s) := by
  refine nm_r (e' := nI (64 * p + s)) (od_ix p s) ⟨65, od_isK hF hK hp hs hc h 64 0 0 1 rfl (Or.inl rfl) ?_ ?_⟩
  · exact ⟨fun w => absurd rfl w, fun ⟨_, t, ht, _⟩ => absurd ht (Nat.not_lt_zero t)⟩
  · exact ⟨fun _ ⟨_, t, ht, _⟩ => absurd ht (Nat.not_lt_zero t), fun _ => by decide⟩
theorem od_ask {dp : Int32} {st : Int64} {na ph nu : Nat → Int32} {go ke : Nat → Int64} {ib : Nat → Int32} {re : Nat → Int64} {cf : Nat → Int32} {cg cr : Nat → Int64} (hF : od_F nc np wh ko px py pz wo ho we en fa nl) (v1 v2 v3 : Int32) : ∃ r : Int32, (r = 0 ∨ (r = 1 ∧ ∃ K p c, K < 6 ∧ p < np ∧ v1 = nI K ∧ v2 = nI p ∧ (K ≤ 2 → v3 = nI c ∧ c < nc))) ∧ (∀ post : Int32 → Prop, post r → wpX_canAsk post (nI nc, nI np, lv, dp, st, wh, ko, px, py, pz, wo, na, ph, nu, go, ke, ib, re, cf, cg, cr) v1 v2 v3) ∧ (∀ post : Int32 → Prop, post r → wpY_isAsked post (nI nc, nI np, gr, ho, we, en, fa, nl, be, ro) v1 v2 v3) := by
  have f1 := hF.1
  have f2 := hF.2.1
  rcases od_in_c v1 (n := 6) (by decide) with ⟨e1, _⟩ | ⟨e1, K, hK, eK⟩
  · exact ⟨0, Or.inl rfl, fun post h => od_inl (n := 6) (by decide) (by decide) (fun _ => h) (fun q => absurd (e1.symm.trans q) (by decide)), fun post h => by unfold wpY_isAsked; dsimp only; exact od_yin (n := 6) (by decide) (by decide) (br_t e1 h)⟩
  rcases od_in_c v2 (n := np) (by omega) with ⟨e2, _⟩ | ⟨e2, p, hp, ep⟩
  · exact ⟨0, Or.inl rfl, fun post h => od_inl (n := 6) (by decide) (by decide) (fun q => absurd (e1.symm.trans q) (by decide)) (fun _ => od_xpro (br_t e2 h)), fun post h => by unfold wpY_isAsked; dsimp only; exact od_yin (n := 6) (by decide) (by decide) (br_f (od_n1 e1) (od_ypro f2 (br_t e2 h)))⟩
  by_cases c2 : K ≤ 2
  · have n2 : ¬ (2 : Int32) < v1 := by rw [eK]; exact fun z => absurd ((nI_ltI (a := 2) (by decide) (by omega)).mp z) (by omega)
    rcases od_in_c v3 (n := nc) (by omega) with ⟨e3, _⟩ | ⟨e3, c, hc, ec⟩
    · exact ⟨0, Or.inl rfl, fun post h => od_inl (n := 6) (by decide) (by decide) (fun q => absurd (e1.symm.trans q) (by decide)) (fun _ => od_xpro (br_f (od_n1 e2) (br_f n2 (od_xcon (br_t e3 h))))), fun post h => by unfold wpY_isAsked; dsimp only; exact od_yin (n := 6) (by decide) (by decide) (br_f (od_n1 e1) (od_ypro f2 (br_f (od_n1 e2) (br_f n2 (od_ycon f1 (br_t e3 h))))))⟩
    · exact ⟨1, Or.inr ⟨rfl, K, p, c, hK, hp, eK, ep, fun _ => ⟨ec, hc⟩⟩, fun post h => od_inl (n := 6) (by decide) (by decide) (fun q => absurd (e1.symm.trans q) (by decide)) (fun _ => od_xpro (br_f (od_n1 e2) (br_f n2 (od_xcon (br_f (od_n1 e3) h))))), fun post h => by unfold wpY_isAsked; dsimp only; exact od_yin (n := 6) (by decide) (by decide) (br_f (od_n1 e1) (od_ypro f2 (br_f (od_n1 e2) (br_f n2 (od_ycon f1 (br_f (od_n1 e3) h))))))⟩
  · have n2 : (2 : Int32) < v1 := by rw [eK]; exact (nI_ltI (a := 2) (by decide) (by omega)).mpr (by omega)
    exact ⟨1, Or.inr ⟨rfl, K, p, 0, hK, hp, eK, ep, fun z => absurd z c2⟩, fun post h => od_inl (n := 6) (by decide) (by decide) (fun q => absurd (e1.symm.trans q) (by decide)) (fun _ => od_xpro (br_f (od_n1 e2) (br_t n2 h))), fun post h => by unfold wpY_isAsked; dsimp only; exact od_yin (n := 6) (by decide) (by decide) (br_f (od_n1 e1) (od_ypro f2 (br_f (od_n1 e2) (br_t n2 h))))⟩
theorem od_ycount {post : Int32 → Prop} {K p c : Nat} {v3 : Int32} (hF : od_F nc np wh ko px py pz wo ho we en fa nl) (hK : K < 6) (hp : p < np) (hc : K ≤ 2 → v3 = nI c ∧ c < nc) (h : post (nI (od_cn (od_b (od_kd wh (od_M en fa nl) K p c)) 64))) : ∀ k i, i + k = 64 → wY_count_18 post (nI K) (nI p) v3 (nI nc) (nI np) gr ho we en fa nl be ro (k + 1) (nI (od_cn (od_b (od_kd wh (od_M en fa nl) K p c)) i)) (nI i) := by
  intro k
  induction k with
  | zero =>
    intro i hi
    have hi' : i = 64 := by omega
    subst hi'
    exact br_t (by decide) h
  | succ k ih =>
    intro i hi
    have g := ih (i + 1) (by omega)
    rw [od_cnS] at g
    refine br_f (nI_ge (b := 64) (by omega) (by decide)) (od_isKind (c := c) hF hK hp (by omega) hc ?_)
    unfold od_ans
    by_cases q : od_b (od_kd wh (od_M en fa nl) K p c) i = true
    · rw [if_pos q] at g ⊢
      exact br_f (by decide) (nm_r (nI_1 _) (nm_r (nI_1 i) g))
    · rw [if_neg q] at g ⊢
      exact br_t rfl (nm_r (nI_1 i) g)
theorem od_yfirst0 {post : Int32 → Prop} {K p c : Nat} {v3 : Int32} (hF : od_F nc np wh ko px py pz wo ho we en fa nl) (hK : K < 6) (hp : p < np) (hc : K ≤ 2 → v3 = nI c ∧ c < nc) (hz : ∀ i, i < 64 → od_b (od_kd wh (od_M en fa nl) K p c) i = false) (h : post (-3)) : ∀ k i, i + k = 64 → wY_first_15 post (nI K) (nI p) v3 (nI nc) (nI np) gr ho we en fa nl be ro (k + 1) (nI i) := by
  intro k
  induction k with
  | zero =>
    intro i hi
    have hi' : i = 64 := by omega
    subst hi'
    exact br_t (by decide) h
  | succ k ih =>
    intro i hi
    refine br_f (nI_ge (b := 64) (by omega) (by decide)) (od_isKind (c := c) hF hK hp (by omega) hc ?_)
    unfold od_ans
    rw [hz i (by omega)]
    exact br_t rfl (nm_r (nI_1 i) (ih (i + 1) (by omega)))
theorem od_yfirst1 {post : Int32 → Prop} {K p c t : Nat} {v3 : Int32} (hF : od_F nc np wh ko px py pz wo ho we en fa nl) (hK : K < 6) (hp : p < np) (hc : K ≤ 2 → v3 = nI c ∧ c < nc) (ht : t < 64) (h1 : od_b (od_kd wh (od_M en fa nl) K p c) t = true) (hz : ∀ i, i < t → od_b (od_kd wh (od_M en fa nl) K p c) i = false) (h : post (nI t)) : ∀ k i, i + k = t → wY_first_15 post (nI K) (nI p) v3 (nI nc) (nI np) gr ho we en fa nl be ro (k + 1) (nI i) := by
  intro k
  induction k with
  | zero =>
    intro i hi
    have hi' : i = t := by omega
    subst hi'
    refine br_f (nI_ge (b := 64) (by omega) (by decide)) (od_isKind (c := c) hF hK hp (by omega) hc ?_)
    unfold od_ans
    rw [h1]
    exact br_f (by decide) h
  | succ k ih =>
    intro i hi
    refine br_f (nI_ge (b := 64) (by omega) (by decide)) (od_isKind (c := c) hF hK hp (by omega) hc ?_)
    unfold od_ans
    rw [hz i (by omega)]
    exact br_t rfl (nm_r (nI_1 i) (ih (i + 1) (by omega)))
end
theorem i_vc_count {k : Nat} {u : SX} {v : SY} (I : i_Rel k u v) (hk : k + 5 ≤ 2560) (v1 : Int32) (v2 : Int32) (v3 : Int32) : wpX_count (fun r u' => wpY_count (fun r' => r' = r ∧ i_Rel (k + 5) u' v) v v1 v2 v3) u v1 v2 v3 := by
  refine od_el (P := fun u v => wpX_count (fun r u' => wpY_count (fun r' => r' = r ∧ i_Rel (k + 5) u' v) v v1 v2 v3) u v1 v2 v3) ?_ I
  intro nc np lv wh ko px py pz wo gr ho we en fa nl be ro u hX hF
  have hX0 := hX
  obtain ⟨dp, st, na, ph, nu, go, ke, ib, re, cf, cg, cr, rfl, hC⟩ := hX
  obtain ⟨r, hr, aX, aY⟩ := od_ask (dp := dp) (st := st) (na := na) (ph := ph) (nu := nu) (go := go) (ke := ke) (ib := ib) (re := re) (cf := cf) (cg := cg) (cr := cr) (gr := gr) (be := be) (ro := ro) hF v1 v2 v3
  unfold wpX_count wpY_count
  dsimp only
  refine aX _ ?_
  rcases hr with r0 | ⟨r1, K, p, c, hK, hp, eK, ep, hc⟩
  · exact br_t r0 (aY _ (br_t r0 ⟨rfl, od_mkR hX0 hF⟩))
  subst eK ep
  refine br_f (od_n1 r1) (od_ofKind (c := c) hF hX0 hK hp hc (fun u' hu' => ?_))
  have hR : i_Rel (k + 5) u' (nI nc, nI np, gr, ho, we, en, fa, nl, be, ro) := od_mkR hu' hF
  obtain ⟨dp', st', na', ph', nu', go', ke', ib', re', cf', cg', cr', rfl, hC'⟩ := hu'
  exact od_ones (aY _ (br_f (od_n1 r1) ⟨65, od_ycount (c := c) hF hK hp hc ⟨rfl, hR⟩ 64 0 rfl⟩))
theorem i_vc_first {k : Nat} {u : SX} {v : SY} (I : i_Rel k u v) (hk : k + 5 ≤ 2560) (v1 : Int32) (v2 : Int32) (v3 : Int32) : wpX_first (fun r u' => wpY_first (fun r' => r' = r ∧ i_Rel (k + 5) u' v) v v1 v2 v3) u v1 v2 v3 := by
  refine od_el (P := fun u v => wpX_first (fun r u' => wpY_first (fun r' => r' = r ∧ i_Rel (k + 5) u' v) v v1 v2 v3) u v1 v2 v3) ?_ I
  intro nc np lv wh ko px py pz wo gr ho we en fa nl be ro u hX hF
  have hX0 := hX
  obtain ⟨dp, st, na, ph, nu, go, ke, ib, re, cf, cg, cr, rfl, hC⟩ := hX
  obtain ⟨r, hr, aX, aY⟩ := od_ask (dp := dp) (st := st) (na := na) (ph := ph) (nu := nu) (go := go) (ke := ke) (ib := ib) (re := re) (cf := cf) (cg := cg) (cr := cr) (gr := gr) (be := be) (ro := ro) hF v1 v2 v3
  unfold wpX_first wpY_first
  dsimp only
  refine aX _ ?_
  rcases hr with r0 | ⟨r1, K, p, c, hK, hp, eK, ep, hc⟩
  · exact br_t r0 (aY _ (br_t r0 ⟨rfl, od_mkR hX0 hF⟩))
  subst eK ep
  refine br_f (od_n1 r1) (od_ofKind (c := c) hF hX0 hK hp hc (fun u' hu' => ?_))
  have hR : i_Rel (k + 5) u' (nI nc, nI np, gr, ho, we, en, fa, nl, be, ro) := od_mkR hu' hF
  obtain ⟨dp', st', na', ph', nu', go', ke', ib', re', cf', cg', cr', rfl, hC'⟩ := hu'
  by_cases z : od_kd wh (od_M en fa nl) K p c = 0
  · exact br_t z (aY _ (br_f (od_n1 r1) ⟨65, od_yfirst0 (c := c) hF hK hp hc (fun i _ => by rw [z, od_b0]) ⟨rfl, hR⟩ 64 0 rfl⟩))
  · obtain ⟨t, ht, h1, h0⟩ := od_low z
    exact br_f z (od_lowest ht h1 h0 (aY _ (br_f (od_n1 r1) ⟨t + 1, od_yfirst1 (c := c) hF hK hp hc ht h1 h0 ⟨rfl, hR⟩ t 0 (Nat.zero_add t)⟩)))
theorem i_vc_is {k : Nat} {u : SX} {v : SY} (I : i_Rel k u v) (hk : k + 5 ≤ 2560) (v1 : Int32) (v2 : Int32) (v3 : Int32) (v4 : Int32) : wpX_is (fun r u' => wpY_is (fun r' => r' = r ∧ i_Rel (k + 5) u' v) v v1 v2 v3 v4) u v1 v2 v3 v4 := by
  refine od_el (P := fun u v => wpX_is (fun r u' => wpY_is (fun r' => r' = r ∧ i_Rel (k + 5) u' v) v v1 v2 v3 v4) u v1 v2 v3 v4) ?_ I
  intro nc np lv wh ko px py pz wo gr ho we en fa nl be ro u hX hF
  have hX0 := hX
  obtain ⟨dp, st, na, ph, nu, go, ke, ib, re, cf, cg, cr, rfl, hC⟩ := hX
  obtain ⟨r, hr, aX, aY⟩ := od_ask (dp := dp) (st := st) (na := na) (ph := ph) (nu := nu) (go := go) (ke := ke) (ib := ib) (re := re) (cf := cf) (cg := cg) (cr := cr) (gr := gr) (be := be) (ro := ro) hF v1 v2 v3
  unfold wpX_is wpY_is
  dsimp only
  refine aX _ ?_
  rcases hr with r0 | ⟨r1, K, p, c, hK, hp, eK, ep, hc⟩
  · exact br_t r0 (aY _ (br_t r0 ⟨rfl, od_mkR hX0 hF⟩))
  refine br_f (od_n1 r1) (od_ins (n := 64) (fun e => aY _ (br_f (od_n1 r1) (od_yin (n := 64) (by decide) (by decide) (br_t e ⟨rfl, od_mkR hX0 hF⟩)))) (fun e => ?_))
  rcases od_in_c v4 (n := 64) (by decide) with ⟨e2, _⟩ | ⟨_, s, hs, es⟩
  · exact absurd (e2.symm.trans e) (by decide)
  subst eK ep es
  refine od_ofKind (c := c) hF hX0 hK hp hc (fun u' hu' => ?_)
  have hR : i_Rel (k + 5) u' (nI nc, nI np, gr, ho, we, en, fa, nl, be, ro) := od_mkR hu' hF
  obtain ⟨dp', st', na', ph', nu', go', ke', ib', re', cf', cg', cr', rfl, hC'⟩ := hu'
  cases q : od_b (od_kd wh (od_M en fa nl) K p c) s
  · refine br_t ((od_t0 hs).mpr q) (aY _ (br_f (od_n1 r1) (od_yin (n := 64) (by decide) (by decide) (br_f (od_n1 e) (od_isKind (c := c) hF hK hp hs hc ?_)))))
    rw [q]
    exact br_t rfl ⟨rfl, hR⟩
  · refine br_f (fun w => absurd (((od_t0 hs).mp w).symm.trans q) (by decide)) (aY _ (br_f (od_n1 r1) (od_yin (n := 64) (by decide) (by decide) (br_f (od_n1 e) (od_isKind (c := c) hF hK hp hs hc ?_)))))
    rw [q]
    exact br_f (by decide) ⟨rfl, hR⟩
end
section
/-! ends, end, after, refines, same -/
section
variable {nc np : Nat} {lv : Int32} {wh : Nat → Int64} {ko px py pz wo : Nat → Int32}
variable {gr : Int32} {ho we : Nat → Int32} {en : Nat → Int64} {fa nl be ro : Nat → Int32}
theorem od_endsOf {post : Int64 → SX → Prop} {p s : Nat} {u : SX} (hF : od_F nc np wh ko px py pz wo ho we en fa nl) (hX : od_X nc np lv wh ko px py pz wo (od_M en fa nl) u) (hp : p < np) (hs : s < 64) (h : ∀ u', od_X nc np lv wh ko px py pz wo (od_M en fa nl) u' → post (en (64 * p + s)) u') : wpX_endsOf post u (nI p) (nI s) := by
  have lp : ∀ k i acc u, i + k = 64 → od_X nc np lv wh ko px py pz wo (od_M en fa nl) u → (∀ t, t < 64 → (od_b acc t = true ↔ t < i ∧ od_b (en (64 * p + s)) t = true)) → match u with | (cc1, pc1, lv1, dp1, st1, wh1, ko1, px1, py1, pz1, wo1, na1, ph1, nu1, go1, ke1, ib1, re1, cf1, cg1, cr1) => wX_endsOf_5 post (nI p) (nI s) (k + 1) acc (nI i) cc1 pc1 lv1 dp1 st1 wh1 ko1 px1 py1 pz1 wo1 na1 ph1 nu1 go1 ke1 ib1 re1 cf1 cg1 cr1 := by
    intro k
    induction k with
    | zero =>
      intro i acc u hi hX hacc
      have hi' : i = 64 := by omega
      subst hi'
      have e : acc = en (64 * p + s) := od_bxT (fun t ht => by rw [hacc t ht]; exact ⟨fun q => q.2, fun q => ⟨ht, q⟩⟩)
      subst e
      have := h u hX
      obtain ⟨dp, st, na, ph, nu, go, ke, ib, re, cf, cg, cr, rfl, hC⟩ := hX
      exact br_t (by decide) this
    | succ k ih =>
      intro i acc u hi hX hacc
      have hX0 := hX
      obtain ⟨dp, st, na, ph, nu, go, ke, ib, re, cf, cg, cr, rfl, hC⟩ := hX
      refine br_f (nI_ge (b := 64) (by omega) (by decide)) (od_mapF (m := 0) (g := od_1 i) hF hX0 (by decide) hp (fun u' hu' => ?_))
      have hu0 := hu'
      obtain ⟨dp', st', na', ph', nu', go', ke', ib', re', cf', cg', cr', rfl, hC'⟩ := hu'
      have q := od_M01 (en := en) (fa := fa) (nl := nl) (p := p) hs (show i < 64 by omega)
      cases c : od_b (od_M en fa nl p 0 (od_1 i)) s
      · have c' : ¬ od_b (en (64 * p + s)) i = true := fun w => absurd (c.symm.trans (q.mpr w)) (by decide)
        refine br_t ((od_t0 hs).mpr c) (nm_r (nI_1 i) (ih (i + 1) acc _ (by omega) hu0 (fun t ht => ?_)))
        rw [hacc t ht]
        constructor
        · intro w
          exact ⟨by omega, w.2⟩
        · intro w
          by_cases e : t = i
          · subst e; exact absurd w.2 c'
          · exact ⟨by omega, w.2⟩
      · have c' := q.mp c
        refine br_f (fun w => absurd (((od_t0 hs).mp w).symm.trans c) (by decide)) (nm_r (e' := acc ||| od_1 i) rfl (nm_r (nI_1 i) (ih (i + 1) _ _ (by omega) hu0 (fun t ht => ?_))))
        rw [od_bor, Bool.or_eq_true, hacc t ht, od_b1 (by omega)]
        constructor
        · intro w
          rcases w with w | w
          · exact ⟨by omega, w.2⟩
          · have := of_decide_eq_true w
            subst this
            exact ⟨by omega, c'⟩
        · intro w
          by_cases e : t = i
          · exact Or.inr (decide_eq_true e)
          · exact Or.inl ⟨by omega, w.2⟩
  have g := lp 64 0 0 u rfl hX (fun t _ => by rw [od_b0]; exact ⟨fun q => absurd q (by decide), fun q => absurd q.1 (Nat.not_lt_zero t)⟩)
  obtain ⟨dp, st, na, ph, nu, go, ke, ib, re, cf, cg, cr, rfl, hC⟩ := hX
  exact ⟨65, g⟩
/-- where a program may end, from a condition -/
noncomputable def od_U (ho : Nat → Int32) (en : Nat → Int64) (p c : Nat) : Int64 := od_mk (fun t => od_d (∃ s, s < 64 ∧ ho (64 * c + s) ≠ 0 ∧ od_b (en (64 * p + s)) t = true))
theorem od_Ub {p c t : Nat} (ht : t < 64) : od_b (od_U ho en p c) t = true ↔ ∃ s, s < 64 ∧ ho (64 * c + s) ≠ 0 ∧ od_b (en (64 * p + s)) t = true := by
  unfold od_U
  rw [od_mkb _ ht]
  exact od_dT
theorem od_xafter {post : Int32 → SX → Prop} {p c : Nat} {u : SX} (hF : od_F nc np wh ko px py pz wo ho we en fa nl) (hX : od_X nc np lv wh ko px py pz wo (od_M en fa nl) u) (hp : p < np) (hc : c < nc) (h : ∀ u', od_X nc np lv wh ko px py pz wo (od_M en fa nl) u' → post (nI (od_cn (od_b (od_U ho en p c)) 64)) u') : ∀ k i u, i + k = 64 → od_X nc np lv wh ko px py pz wo (od_M en fa nl) u → match u with | (cc1, pc1, lv1, dp1, st1, wh1, ko1, px1, py1, pz1, wo1, na1, ph1, nu1, go1, ke1, ib1, re1, cf1, cg1, cr1) => wX_after_23 post (nI p) (nI c) (k + 1) (nI (od_cn (od_b (od_U ho en p c)) i)) (nI i) cc1 pc1 lv1 dp1 st1 wh1 ko1 px1 py1 pz1 wo1 na1 ph1 nu1 go1 ke1 ib1 re1 cf1 cg1 cr1 := by
  have f1 := hF.1
  have hv : vp_in (nI c) 24 := vp_in_nI (by omega) (by decide)
  have hcc : (nI c).toNatClampNeg = c := nI_clamp (by omega)
  intro k
  induction k with
  | zero =>
    intro i u hi hX
    have hi' : i = 64 := by omega
    subst hi'
    have := h u hX
    obtain ⟨dp, st, na, ph, nu, go, ke, ib, re, cf, cg, cr, rfl, hC⟩ := hX
    exact br_t (by decide) this
  | succ k ih =>
    intro i u hi hX
    have hX0 := hX
    obtain ⟨dp, st, na, ph, nu, go, ke, ib, re, cf, cg, cr, rfl, hC⟩ := hX
    refine br_f (nI_ge (b := 64) (by omega) (by decide)) (od_mapF (m := 0) (g := od_1 i) hF hX0 (by decide) hp (fun u' hu' => ?_))
    have g := ih (i + 1) u' (by omega) hu'
    obtain ⟨dp', st', na', ph', nu', go', ke', ib', re', cf', cg', cr', rfl, hC'⟩ := hu'
    refine And.intro hv ?_
    rw [hcc]
    rw [od_cnS] at g
    have e : od_b (od_U ho en p c) i = true ↔ ¬ (od_M en fa nl p 0 (od_1 i) &&& wh c) = 0 := by
      rw [od_Ub (by omega)]
      constructor
      · intro ⟨s, hs, w1, w2⟩
        refine od_ne0 (i := s) ?_
        rw [od_band, Bool.and_eq_true]
        exact ⟨(od_M01 hs (by omega)).mpr w2, (hF.2.2.1 c hc s hs).mpr w1⟩
      · intro w
        obtain ⟨s, hs, w1, _⟩ := od_low w
        rw [od_band, Bool.and_eq_true] at w1
        exact ⟨s, hs, (hF.2.2.1 c hc s hs).mp w1.2, (od_M01 hs (by omega)).mp w1.1⟩
    by_cases q : (od_M en fa nl p 0 (od_1 i) &&& wh c) = 0
    · rw [if_neg (fun w => (e.mp w) q)] at g
      exact br_t q (nm_r (nI_1 i) g)
    · rw [if_pos (e.mpr q)] at g
      exact br_f q (nm_r (nI_1 _) (nm_r (nI_1 i) g))
theorem od_yafter {post : Int32 → Prop} {p c : Nat} (hF : od_F nc np wh ko px py pz wo ho we en fa nl) (hp : p < np) (hc : c < nc) (h : post (nI (od_cn (od_b (od_U ho en p c)) 64))) : ∀ k i x, i + k = 64 → (∀ t, t < 64 → (od_b x t = true ↔ ∃ s, s < i ∧ ho (64 * c + s) ≠ 0 ∧ od_b (en (64 * p + s)) t = true)) → wY_after_23 post (nI p) (nI c) (nI nc) (nI np) gr ho we en fa nl be ro (k + 1) x (nI i) := by
  have f1 := hF.1
  have f2 := hF.2.1
  intro k
  induction k with
  | zero =>
    intro i x hi hx
    have hi' : i = 64 := by omega
    subst hi'
    have e : x = od_U ho en p c := od_bxT (fun t ht => by rw [hx t ht, od_Ub ht])
    subst e
    exact br_t (by decide) (od_size h)
  | succ k ih =>
    intro i x hi hx
    have hvh : vp_in (64 * nI c + nI i) 1536 := by rw [od_ix]; exact vp_in_nI (by omega) (by decide)
    have hch : (64 * nI c + nI i).toNatClampNeg = 64 * c + i := by rw [od_ix]; exact nI_clamp (by omega)
    have hve : vp_in (64 * nI p + nI i) 2048 := by rw [od_ix]; exact vp_in_nI (by omega) (by decide)
    have hce : (64 * nI p + nI i).toNatClampNeg = 64 * p + i := by rw [od_ix]; exact nI_clamp (by omega)
    refine br_f (nI_ge (b := 64) (by omega) (by decide)) (And.intro hvh ?_)
    by_cases q : ho (64 * c + i) = 0
    · refine br_t (by rw [hch]; exact q) (nm_r (nI_1 i) (ih (i + 1) x (by omega) (fun t ht => ?_)))
      rw [hx t ht, od_ex1]
      exact ⟨Or.inl, fun w => w.elim id (fun z => absurd q z.1)⟩
    · refine br_f (by rw [hch]; exact q) (And.intro hve (nm_r (e' := x ||| en (64 * p + i)) (by rw [hce]) (nm_r (nI_1 i) (ih (i + 1) _ (by omega) (fun t ht => ?_)))))
      rw [od_bor, Bool.or_eq_true, hx t ht, od_ex1]
      exact ⟨fun w => w.elim Or.inl (fun z => Or.inr ⟨q, z⟩), fun w => w.elim Or.inl (fun z => Or.inr z.2)⟩
end
theorem i_vc_ends {k : Nat} {u : SX} {v : SY} (I : i_Rel k u v) (hk : k + 5 ≤ 2560) (v1 : Int32) (v2 : Int32) : wpX_ends (fun r u' => wpY_ends (fun r' => r' = r ∧ i_Rel (k + 5) u' v) v v1 v2) u v1 v2 := by
  refine od_el (P := fun u v => wpX_ends (fun r u' => wpY_ends (fun r' => r' = r ∧ i_Rel (k + 5) u' v) v v1 v2) u v1 v2) ?_ I
  intro nc np lv wh ko px py pz wo gr ho we en fa nl be ro u hX hF
  have hX0 := hX
  have f2 := hF.2.1
  obtain ⟨dp, st, na, ph, nu, go, ke, ib, re, cf, cg, cr, rfl, hC⟩ := hX
  unfold wpX_ends wpY_ends
  dsimp only
  refine od_xpro ?_
  rcases od_in_c v1 (n := np) (by omega) with ⟨e1, _⟩ | ⟨e1, p, hp, ep⟩
  · exact br_t e1 (od_ypro f2 (br_t e1 ⟨rfl, od_mkR hX0 hF⟩))
  refine br_f (od_n1 e1) (od_ins (n := 64) (fun e => od_ypro f2 (br_f (od_n1 e1) (od_yin (n := 64) (by decide) (by decide) (br_t e ⟨rfl, od_mkR hX0 hF⟩)))) (fun e => ?_))
  rcases od_in_c v2 (n := 64) (by decide) with ⟨e2, _⟩ | ⟨_, s, hs, es⟩
  · exact absurd (e2.symm.trans e) (by decide)
  subst ep es
  refine od_endsOf hF hX0 hp hs (fun u' hu' => ?_)
  have hR : i_Rel (k + 5) u' (nI nc, nI np, gr, ho, we, en, fa, nl, be, ro) := od_mkR hu' hF
  obtain ⟨dp', st', na', ph', nu', go', ke', ib', re', cf', cg', cr', rfl, hC'⟩ := hu'
  have hve : vp_in (64 * nI p + nI s) 2048 := by rw [od_ix]; exact vp_in_nI (by omega) (by decide)
  have hce : (64 * nI p + nI s).toNatClampNeg = 64 * p + s := by rw [od_ix]; exact nI_clamp (by omega)
  refine od_ones (od_ypro f2 (br_f (od_n1 e1) (od_yin (n := 64) (by decide) (by decide) (br_f (od_n1 e) (And.intro hve (od_size ?_))))))
  rw [hce]
  exact ⟨rfl, hR⟩
theorem i_vc_end {k : Nat} {u : SX} {v : SY} (I : i_Rel k u v) (hk : k + 5 ≤ 2560) (v1 : Int32) (v2 : Int32) (v3 : Int32) : wpX_end (fun r u' => wpY_end (fun r' => r' = r ∧ i_Rel (k + 5) u' v) v v1 v2 v3) u v1 v2 v3 := by
  refine od_el (P := fun u v => wpX_end (fun r u' => wpY_end (fun r' => r' = r ∧ i_Rel (k + 5) u' v) v v1 v2 v3) u v1 v2 v3) ?_ I
  intro nc np lv wh ko px py pz wo gr ho we en fa nl be ro u hX hF
  have hX0 := hX
  have f2 := hF.2.1
  obtain ⟨dp, st, na, ph, nu, go, ke, ib, re, cf, cg, cr, rfl, hC⟩ := hX
  unfold wpX_end wpY_end
  dsimp only
  refine od_xpro ?_
  rcases od_in_c v1 (n := np) (by omega) with ⟨e1, _⟩ | ⟨e1, p, hp, ep⟩
  · exact br_t e1 (od_ypro f2 (br_t e1 ⟨rfl, od_mkR hX0 hF⟩))
  refine br_f (od_n1 e1) (od_ins (n := 64) (fun e => od_ypro f2 (br_f (od_n1 e1) (od_yin (n := 64) (by decide) (by decide) (br_t e ⟨rfl, od_mkR hX0 hF⟩)))) (fun e => ?_))
  rcases od_in_c v2 (n := 64) (by decide) with ⟨e2, _⟩ | ⟨_, s, hs, es⟩
  · exact absurd (e2.symm.trans e) (by decide)
  subst ep es
  refine od_endsOf hF hX0 hp hs (fun u' hu' => ?_)
  have hR : i_Rel (k + 5) u' (nI nc, nI np, gr, ho, we, en, fa, nl, be, ro) := od_mkR hu' hF
  obtain ⟨dp', st', na', ph', nu', go', ke', ib', re', cf', cg', cr', rfl, hC'⟩ := hu'
  have hle := od_cn_le (od_b (en (64 * p + s))) 64
  by_cases c0 : v3 < 0
  · refine br_t c0 (od_ypro f2 (br_f (od_n1 e1) (od_yin (n := 64) (by decide) (by decide) (br_f (od_n1 e) ⟨65, od_yend0 (by omega) hs (fun c hc z => ?_) ⟨rfl, hR⟩ 64 0 rfl⟩))))
    rw [← z] at c0
    exact nI_pos (by omega) c0
  · refine br_f c0 (od_ones ?_)
    obtain ⟨j, hj, ej⟩ := nI_of c0
    by_cases c1 : j < od_cn (od_b (en (64 * p + s))) 64
    · obtain ⟨t, ht, t1, t2⟩ := od_rank (f := od_b (en (64 * p + s))) 64 c1
      subst ej
      refine br_t ((nI_ltI hj (by omega)).mpr c1) ⟨j + 1, ?_⟩
      subst t2
      refine od_end48 ht t1 (od_ypro f2 (br_f (od_n1 e1) (od_yin (n := 64) (by decide) (by decide) (br_f (od_n1 e) ⟨t + 1, od_yend1 (by omega) hs ht t1 ⟨rfl, hR⟩ t 0 (Nat.zero_add t)⟩)))) _ 0 _ (Nat.zero_add _) (fun x _ => ?_)
      exact ⟨fun w => ⟨w, Nat.zero_le _⟩, fun w => w.1⟩
    · subst ej
      refine br_f (fun w => c1 ((nI_ltI hj (by omega)).mp w)) (od_ypro f2 (br_f (od_n1 e1) (od_yin (n := 64) (by decide) (by decide) (br_f (od_n1 e) ⟨65, od_yend0 (by omega) hs (fun c hc z => ?_) ⟨rfl, hR⟩ 64 0 rfl⟩))))
      have := (nI_eq (by omega) hj).mp z
      omega
theorem i_vc_after {k : Nat} {u : SX} {v : SY} (I : i_Rel k u v) (hk : k + 5 ≤ 2560) (v1 : Int32) (v2 : Int32) : wpX_after (fun r u' => wpY_after (fun r' => r' = r ∧ i_Rel (k + 5) u' v) v v1 v2) u v1 v2 := by
  refine od_el (P := fun u v => wpX_after (fun r u' => wpY_after (fun r' => r' = r ∧ i_Rel (k + 5) u' v) v v1 v2) u v1 v2) ?_ I
  intro nc np lv wh ko px py pz wo gr ho we en fa nl be ro u hX hF
  have hX0 := hX
  have f1 := hF.1
  have f2 := hF.2.1
  obtain ⟨dp, st, na, ph, nu, go, ke, ib, re, cf, cg, cr, rfl, hC⟩ := hX
  unfold wpX_after wpY_after
  dsimp only
  refine od_xpro ?_
  rcases od_in_c v1 (n := np) (by omega) with ⟨e1, _⟩ | ⟨e1, p, hp, ep⟩
  · exact br_t e1 (od_ypro f2 (br_t e1 ⟨rfl, od_mkR hX0 hF⟩))
  refine br_f (od_n1 e1) (od_xcon ?_)
  rcases od_in_c v2 (n := nc) (by omega) with ⟨e2, _⟩ | ⟨e2, c, hc, ec⟩
  · exact br_t e2 (od_ypro f2 (br_f (od_n1 e1) (od_ycon f1 (br_t e2 ⟨rfl, od_mkR hX0 hF⟩))))
  subst ep ec
  have w := od_xafter (post := fun r u' => wpY_isProgram (fun r_1 => (((r_1 = 0 → ((fun r' => r' = r ∧ i_Rel (k + 5) u' (nI nc, nI np, gr, ho, we, en, fa, nl, be, ro)) (-1))) ∧ (¬ r_1 = 0 → (wpY_isCondition (fun r_13 => (((r_13 = 0 → ((fun r' => r' = r ∧ i_Rel (k + 5) u' (nI nc, nI np, gr, ho, we, en, fa, nl, be, ro)) (-1))) ∧ (¬ r_13 = 0 → (∃ n23 : Nat, wY_after_23 (fun r' => r' = r ∧ i_Rel (k + 5) u' (nI nc, nI np, gr, ho, we, en, fa, nl, be, ro)) (nI p) (nI c) (nI nc) (nI np) gr ho we en fa nl be ro n23 0 0))))) (nI nc, nI np, gr, ho, we, en, fa, nl, be, ro) (nI c)))))) (nI nc, nI np, gr, ho, we, en, fa, nl, be, ro) (nI p)) hF hX0 hp hc (fun u' hu' => ?_) 64 0 _ rfl hX0
  · exact br_f (od_n1 e2) ⟨65, w⟩
  · refine od_ypro f2 (br_f (od_n1 e1) (od_ycon f1 (br_f (od_n1 e2) ⟨65, od_yafter hF hp hc ⟨rfl, od_mkR hu' hF⟩ 64 0 0 rfl (fun t _ => ?_)⟩)))
    rw [od_b0]
    exact ⟨fun q => absurd q (by decide), fun ⟨s, hs, _⟩ => absurd hs (Nat.not_lt_zero s)⟩
end
section
/-! refines, same -/
section
variable {nc np : Nat} {lv : Int32} {wh : Nat → Int64} {ko px py pz wo : Nat → Int32}
variable {gr : Int32} {ho we : Nat → Int32} {en : Nat → Int64} {fa nl be ro : Nat → Int32}
def od_rfs (en : Nat → Int64) (fa nl : Nat → Int32) (p q s : Nat) : Prop := fa (64 * p + s) = 0 → nl (64 * p + s) = 0 → fa (64 * q + s) = 0 ∧ nl (64 * q + s) = 0 ∧ ∀ t, t < 64 → od_b (en (64 * q + s)) t = true → od_b (en (64 * p + s)) t = true
def od_rf (en : Nat → Int64) (fa nl : Nat → Int32) (p q : Nat) : Prop := ∀ s, s < 64 → od_rfs en fa nl p q s
theorem od_safe {p s : Nat} (hs : s < 64) : od_b (od_M en fa nl p 3 0 ^^^ (-1)) s = true ↔ fa (64 * p + s) = 0 ∧ nl (64 * p + s) = 0 := by
  rw [od_bnT _ hs, od_M30 hs]
  constructor
  · intro w
    exact ⟨Classical.byContradiction (fun z => w (Or.inl z)), Classical.byContradiction (fun z => w (Or.inr z))⟩
  · intro w z
    exact z.elim (fun z => z w.1) (fun z => z w.2)
theorem od_rfA {p q : Nat} : ((od_M en fa nl p 3 0 ^^^ (-1)) &&& od_M en fa nl q 3 0) = 0 ↔ ∀ s, s < 64 → fa (64 * p + s) = 0 → nl (64 * p + s) = 0 → fa (64 * q + s) = 0 ∧ nl (64 * q + s) = 0 := by
  constructor
  · intro w s hs a b
    have z : ¬ od_b (od_M en fa nl q 3 0) s = true := by
      intro z
      have : od_b ((od_M en fa nl p 3 0 ^^^ (-1)) &&& od_M en fa nl q 3 0) s = true := by rw [od_band, Bool.and_eq_true]; exact ⟨(od_safe hs).mpr ⟨a, b⟩, z⟩
      exact od_ne0 this w
    rw [od_M30 hs] at z
    exact ⟨Classical.byContradiction (fun y => z (Or.inl y)), Classical.byContradiction (fun y => z (Or.inr y))⟩
  · intro w
    apply od_is0
    intro s hs
    apply od_bT
    intro z
    rw [od_band, Bool.and_eq_true, od_safe hs, od_M30 hs] at z
    obtain ⟨a, b⟩ := w s hs z.1.1 z.1.2
    exact z.2.elim (fun y => y a) (fun y => y b)
theorem od_rfB {p q t : Nat} (ht : t < 64) : (((od_M en fa nl p 3 0 ^^^ (-1)) &&& od_M en fa nl q 0 (od_1 t)) &&& (od_M en fa nl p 0 (od_1 t) ^^^ (-1))) = 0 ↔ ∀ s, s < 64 → fa (64 * p + s) = 0 → nl (64 * p + s) = 0 → od_b (en (64 * q + s)) t = true → od_b (en (64 * p + s)) t = true := by
  constructor
  · intro w s hs a b c
    apply Classical.byContradiction
    intro d
    have : od_b (((od_M en fa nl p 3 0 ^^^ (-1)) &&& od_M en fa nl q 0 (od_1 t)) &&& (od_M en fa nl p 0 (od_1 t) ^^^ (-1))) s = true := by
      rw [od_band, Bool.and_eq_true, od_band, Bool.and_eq_true]
      exact ⟨⟨(od_safe hs).mpr ⟨a, b⟩, (od_M01 hs ht).mpr c⟩, (od_bnT _ hs).mpr (fun z => d ((od_M01 hs ht).mp z))⟩
    exact od_ne0 this w
  · intro w
    apply od_is0
    intro s hs
    apply od_bT
    intro z
    rw [od_band, Bool.and_eq_true, od_band, Bool.and_eq_true, od_safe hs, od_M01 hs ht, od_bnT _ hs, od_M01 hs ht] at z
    exact z.2 (w s hs z.1.1.1 z.1.1.2 z.1.2)
theorem od_xrf {post : Int32 → SX → Prop} {p q : Nat} (hF : od_F nc np wh ko px py pz wo ho we en fa nl) (hp : p < np) (hq : q < np) (hA : ∀ s, s < 64 → fa (64 * p + s) = 0 → nl (64 * p + s) = 0 → fa (64 * q + s) = 0 ∧ nl (64 * q + s) = 0) (h1 : od_rf en fa nl p q → ∀ u', od_X nc np lv wh ko px py pz wo (od_M en fa nl) u' → post 1 u') (h0 : ¬ od_rf en fa nl p q → ∀ u', od_X nc np lv wh ko px py pz wo (od_M en fa nl) u' → post 0 u') :
    ∀ k i u, i + k = 64 → od_X nc np lv wh ko px py pz wo (od_M en fa nl) u → (∀ t, t < i → ∀ s, s < 64 → fa (64 * p + s) = 0 → nl (64 * p + s) = 0 → od_b (en (64 * q + s)) t = true → od_b (en (64 * p + s)) t = true) → match u with | (cc1, pc1, lv1, dp1, st1, wh1, ko1, px1, py1, pz1, wo1, na1, ph1, nu1, go1, ke1, ib1, re1, cf1, cg1, cr1) => wX_refines_49 post (nI p) (nI q) (od_M en fa nl p 3 0 ^^^ (-1)) (k + 1) (nI i) cc1 pc1 lv1 dp1 st1 wh1 ko1 px1 py1 pz1 wo1 na1 ph1 nu1 go1 ke1 ib1 re1 cf1 cg1 cr1 := by
  intro k
  induction k with
  | zero =>
    intro i u hi hX hB
    have hi' : i = 64 := by omega
    subst hi'
    have := h1 (fun s hs a b => ⟨(hA s hs a b).1, (hA s hs a b).2, fun t ht c => hB t ht s hs a b c⟩) u hX
    obtain ⟨dp, st, na, ph, nu, go, ke, ib, re, cf, cg, cr, rfl, hC⟩ := hX
    exact br_t (by decide) this
  | succ k ih =>
    intro i u hi hX hB
    have hX0 := hX
    obtain ⟨dp, st, na, ph, nu, go, ke, ib, re, cf, cg, cr, rfl, hC⟩ := hX
    refine br_f (nI_ge (b := 64) (by omega) (by decide)) (od_mapF (m := 0) (g := od_1 i) hF hX0 (by decide) hp (fun u' hu' => ?_))
    have hu0 := hu'
    obtain ⟨dp', st', na', ph', nu', go', ke', ib', re', cf', cg', cr', rfl, hC'⟩ := hu'
    refine od_mapF (m := 0) (g := od_1 i) hF hu0 (by decide) hq (fun u2 hu2 => ?_)
    have B := od_rfB (en := en) (fa := fa) (nl := nl) (p := p) (q := q) (show i < 64 by omega)
    have g := ih (i + 1) u2 (by omega) hu2
    have z0 := h0
    by_cases c : (((od_M en fa nl p 3 0 ^^^ (-1)) &&& od_M en fa nl q 0 (od_1 i)) &&& (od_M en fa nl p 0 (od_1 i) ^^^ (-1))) = 0
    · have g' := g (fun t ht => by
        by_cases e : t = i
        · subst e; exact B.mp c
        · exact hB t (by omega))
      obtain ⟨dp2, st2, na2, ph2, nu2, go2, ke2, ib2, re2, cf2, cg2, cr2, rfl, hC2⟩ := hu2
      exact br_t c (nm_r (nI_1 i) g')
    · have g' := h0 (fun w => c (B.mpr (fun s hs a b d => (w s hs a b).2.2 i (by omega) d))) u2 hu2
      obtain ⟨dp2, st2, na2, ph2, nu2, go2, ke2, ib2, re2, cf2, cg2, cr2, rfl, hC2⟩ := hu2
      exact br_f c g'
theorem od_sb0 {a b : Int64} : (a &&& (b ^^^ (-1))) = 0 ↔ ∀ t, t < 64 → od_b a t = true → od_b b t = true := by
  constructor
  · intro w t ht c
    apply Classical.byContradiction
    intro d
    have : od_b (a &&& (b ^^^ (-1))) t = true := by rw [od_band, Bool.and_eq_true]; exact ⟨c, (od_bnT _ ht).mpr d⟩
    exact od_ne0 this w
  · intro w
    apply od_is0
    intro t ht
    apply od_bT
    intro z
    rw [od_band, Bool.and_eq_true, od_bnT _ ht] at z
    exact z.2 (w t ht z.1)
theorem od_yrf {post : Int32 → Prop} {p q : Nat} (f2 : np ≤ 32) (hp : p < np) (hq : q < np) (h1 : od_rf en fa nl p q → post 1) (h0 : ¬ od_rf en fa nl p q → post 0) : ∀ k i, i + k = 64 → (∀ s, s < i → od_rfs en fa nl p q s) → wY_refines_20 post (nI p) (nI q) (nI nc) (nI np) gr ho we en fa nl be ro (k + 1) (nI i) := by
  intro k
  induction k with
  | zero =>
    intro i hi hB
    have hi' : i = 64 := by omega
    subst hi'
    exact br_t (by decide) (h1 hB)
  | succ k ih =>
    intro i hi hB
    have hva : vp_in (nI (64 * p + i)) 2048 := vp_in_nI (by omega) (by decide)
    have hca : (nI (64 * p + i)).toNatClampNeg = 64 * p + i := nI_clamp (by omega)
    have hvb : vp_in (nI (64 * q + i)) 2048 := vp_in_nI (by omega) (by decide)
    have hcb : (nI (64 * q + i)).toNatClampNeg = 64 * q + i := nI_clamp (by omega)
    have nxt : od_rfs en fa nl p q i → wY_refines_20 post (nI p) (nI q) (nI nc) (nI np) gr ho we en fa nl be ro (k + 1) (nI (i + 1)) := fun w => ih (i + 1) (by omega) (fun s hs => by
      by_cases e : s = i
      · subst e; exact w
      · exact hB s (by omega))
    refine br_f (nI_ge (b := 64) (by omega) (by decide)) (nm_r (e' := nI (64 * p + i)) (od_ix p i) (nm_r (e' := nI (64 * q + i)) (od_ix q i) (And.intro hva ?_)))
    rw [hca]
    by_cases c1 : fa (64 * p + i) = 0
    · refine br_t c1 (And.intro hva ?_)
      by_cases c2 : nl (64 * p + i) = 0
      · refine br_t c2 (br_f (by decide) (And.intro hvb ?_))
        rw [hcb]
        by_cases c3 : fa (64 * q + i) = 0
        · refine br_t c3 (And.intro hvb ?_)
          by_cases c4 : nl (64 * q + i) = 0
          · refine br_t c4 (And.intro hvb (And.intro hva ?_))
            rw [hca]
            by_cases c5 : (en (64 * q + i) &&& (en (64 * p + i) ^^^ (-1))) = 0
            · exact br_t c5 (nm_r (nI_1 i) (nxt (fun _ _ => ⟨c3, c4, od_sb0.mp c5⟩)))
            · exact br_f c5 (h0 (fun w => c5 (od_sb0.mpr (w i (by omega) c1 c2).2.2)))
          · exact br_f c4 (h0 (fun w => c4 (w i (by omega) c1 c2).2.1))
        · exact br_f c3 (h0 (fun w => c3 (w i (by omega) c1 c2).1))
      · exact br_f c2 (br_t rfl (nm_r (nI_1 i) (nxt (fun _ w => absurd w c2))))
    · exact br_f c1 (br_t rfl (nm_r (nI_1 i) (nxt (fun w _ => absurd w c1))))
def od_sms (en : Nat → Int64) (fa nl : Nat → Int32) (p q s : Nat) : Prop := en (64 * p + s) = en (64 * q + s) ∧ fa (64 * p + s) = fa (64 * q + s) ∧ nl (64 * p + s) = nl (64 * q + s)
def od_sm (en : Nat → Int64) (fa nl : Nat → Int32) (p q : Nat) : Prop := ∀ s, s < 64 → od_sms en fa nl p q s
theorem od_01e {a b : Int32} (ha : a = 0 ∨ a = 1) (hb : b = 0 ∨ b = 1) (h : a ≠ 0 ↔ b ≠ 0) : a = b := by
  rcases ha with x | x <;> rcases hb with y | y <;> subst x <;> subst y
  · rfl
  · exact absurd rfl (h.mpr (by decide))
  · exact absurd rfl (h.mp (by decide))
  · rfl
theorem od_xsm {post : Int32 → SX → Prop} {p q : Nat} (hF : od_F nc np wh ko px py pz wo ho we en fa nl) (hp : p < np) (hq : q < np) (hA : ∀ s, s < 64 → fa (64 * p + s) = fa (64 * q + s) ∧ nl (64 * p + s) = nl (64 * q + s)) (h1 : od_sm en fa nl p q → ∀ u', od_X nc np lv wh ko px py pz wo (od_M en fa nl) u' → post 1 u') (h0 : ¬ od_sm en fa nl p q → ∀ u', od_X nc np lv wh ko px py pz wo (od_M en fa nl) u' → post 0 u') :
    ∀ k i u, i + k = 64 → od_X nc np lv wh ko px py pz wo (od_M en fa nl) u → (∀ t, t < i → ∀ s, s < 64 → (od_b (en (64 * p + s)) t = true ↔ od_b (en (64 * q + s)) t = true)) → match u with | (cc1, pc1, lv1, dp1, st1, wh1, ko1, px1, py1, pz1, wo1, na1, ph1, nu1, go1, ke1, ib1, re1, cf1, cg1, cr1) => wX_same_58 post (nI p) (nI q) (k + 1) (nI i) cc1 pc1 lv1 dp1 st1 wh1 ko1 px1 py1 pz1 wo1 na1 ph1 nu1 go1 ke1 ib1 re1 cf1 cg1 cr1 := by
  intro k
  induction k with
  | zero =>
    intro i u hi hX hB
    have hi' : i = 64 := by omega
    subst hi'
    have := h1 (fun s hs => ⟨od_bxT (fun t ht => hB t ht s hs), hA s hs⟩) u hX
    obtain ⟨dp, st, na, ph, nu, go, ke, ib, re, cf, cg, cr, rfl, hC⟩ := hX
    exact br_t (by decide) this
  | succ k ih =>
    intro i u hi hX hB
    have hX0 := hX
    obtain ⟨dp, st, na, ph, nu, go, ke, ib, re, cf, cg, cr, rfl, hC⟩ := hX
    refine br_f (nI_ge (b := 64) (by omega) (by decide)) (od_mapF (m := 0) (g := od_1 i) hF hX0 (by decide) hp (fun u' hu' => ?_))
    have hu0 := hu'
    obtain ⟨dp', st', na', ph', nu', go', ke', ib', re', cf', cg', cr', rfl, hC'⟩ := hu'
    refine od_mapF (m := 0) (g := od_1 i) hF hu0 (by decide) hq (fun u2 hu2 => ?_)
    have g := ih (i + 1) u2 (by omega) hu2
    by_cases c : od_M en fa nl p 0 (od_1 i) = od_M en fa nl q 0 (od_1 i)
    · have g' := g (fun t ht s hs => by
        by_cases e : t = i
        · subst e
          rw [← od_M01 (fa := fa) (nl := nl) hs (by omega), c, od_M01 hs (by omega)]
        · exact hB t (by omega) s hs)
      obtain ⟨dp2, st2, na2, ph2, nu2, go2, ke2, ib2, re2, cf2, cg2, cr2, rfl, hC2⟩ := hu2
      exact br_t c (nm_r (nI_1 i) g')
    · have g' := h0 (fun w => c (od_bxT (fun s hs => by rw [od_M01 hs (by omega), od_M01 hs (by omega), (w s hs).1]))) u2 hu2
      obtain ⟨dp2, st2, na2, ph2, nu2, go2, ke2, ib2, re2, cf2, cg2, cr2, rfl, hC2⟩ := hu2
      exact br_f c g'
theorem od_ysm {post : Int32 → Prop} {p q : Nat} (f2 : np ≤ 32) (hp : p < np) (hq : q < np) (h1 : od_sm en fa nl p q → post 1) (h0 : ¬ od_sm en fa nl p q → post 0) : ∀ k i, i + k = 64 → (∀ s, s < i → od_sms en fa nl p q s) → wY_same_20 post (nI p) (nI q) (nI nc) (nI np) gr ho we en fa nl be ro (k + 1) (nI i) := by
  intro k
  induction k with
  | zero =>
    intro i hi hB
    have hi' : i = 64 := by omega
    subst hi'
    exact br_t (by decide) (h1 hB)
  | succ k ih =>
    intro i hi hB
    have hva : vp_in (nI (64 * p + i)) 2048 := vp_in_nI (by omega) (by decide)
    have hca : (nI (64 * p + i)).toNatClampNeg = 64 * p + i := nI_clamp (by omega)
    have hvb : vp_in (nI (64 * q + i)) 2048 := vp_in_nI (by omega) (by decide)
    have hcb : (nI (64 * q + i)).toNatClampNeg = 64 * q + i := nI_clamp (by omega)
    refine br_f (nI_ge (b := 64) (by omega) (by decide)) (nm_r (e' := nI (64 * p + i)) (od_ix p i) (nm_r (e' := nI (64 * q + i)) (od_ix q i) (And.intro hva (And.intro hvb ?_))))
    rw [hca, hcb]
    by_cases c1 : en (64 * p + i) = en (64 * q + i)
    · refine br_t c1 (And.intro hva (And.intro hvb ?_))
      by_cases c2 : fa (64 * p + i) = fa (64 * q + i)
      · refine br_t c2 (And.intro hva (And.intro hvb ?_))
        by_cases c3 : nl (64 * p + i) = nl (64 * q + i)
        · refine br_t c3 (nm_r (nI_1 i) (ih (i + 1) (by omega) (fun s hs => ?_)))
          by_cases e : s = i
          · subst e; exact ⟨c1, c2, c3⟩
          · exact hB s (by omega)
        · exact br_f c3 (h0 (fun w => c3 (w i (by omega)).2.2))
      · exact br_f c2 (h0 (fun w => c2 (w i (by omega)).2.1))
    · exact br_f c1 (h0 (fun w => c1 (w i (by omega)).1))
end
theorem i_vc_refines {k : Nat} {u : SX} {v : SY} (I : i_Rel k u v) (hk : k + 5 ≤ 2560) (v1 : Int32) (v2 : Int32) : wpX_refines (fun r u' => wpY_refines (fun r' => r' = r ∧ i_Rel (k + 5) u' v) v v1 v2) u v1 v2 := by
  refine od_el (P := fun u v => wpX_refines (fun r u' => wpY_refines (fun r' => r' = r ∧ i_Rel (k + 5) u' v) v v1 v2) u v1 v2) ?_ I
  intro nc np lv wh ko px py pz wo gr ho we en fa nl be ro u hX hF
  have hX0 := hX
  have f2 := hF.2.1
  obtain ⟨dp, st, na, ph, nu, go, ke, ib, re, cf, cg, cr, rfl, hC⟩ := hX
  unfold wpX_refines
  dsimp only
  refine od_xpro ?_
  have yw : ∀ post : Int32 → Prop, ((od_in v1 np = 0 → post 0) ∧ (¬ od_in v1 np = 0 → ((od_in v2 np = 0 → post 0) ∧ (¬ od_in v2 np = 0 → ∃ n, wY_refines_20 post v1 v2 (nI nc) (nI np) gr ho we en fa nl be ro n 0)))) → wpY_refines post (nI nc, nI np, gr, ho, we, en, fa, nl, be, ro) v1 v2 := by
    intro post h
    unfold wpY_refines
    dsimp only
    refine od_ypro f2 ?_
    refine br_c h.1 (fun z => od_ypro f2 (h.2 z))
  rcases od_in_c v1 (n := np) (by omega) with ⟨e1, _⟩ | ⟨e1, p, hp, ep⟩
  · exact br_t e1 (yw _ (br_t e1 ⟨rfl, od_mkR hX0 hF⟩))
  refine br_f (od_n1 e1) (od_xpro ?_)
  rcases od_in_c v2 (n := np) (by omega) with ⟨e2, _⟩ | ⟨e2, q, hq, eq⟩
  · exact br_t e2 (yw _ (br_f (od_n1 e1) (br_t e2 ⟨rfl, od_mkR hX0 hF⟩)))
  subst ep eq
  have a1 : od_rf en fa nl p q → ∀ u', od_X nc np lv wh ko px py pz wo (od_M en fa nl) u' → wpY_refines (fun r' => r' = 1 ∧ i_Rel (k + 5) u' (nI nc, nI np, gr, ho, we, en, fa, nl, be, ro)) (nI nc, nI np, gr, ho, we, en, fa, nl, be, ro) (nI p) (nI q) := fun w u' hu' => yw _ (br_f (od_n1 e1) (br_f (od_n1 e2) ⟨65, od_yrf f2 hp hq (fun _ => ⟨rfl, od_mkR hu' hF⟩) (fun z => absurd w z) 64 0 rfl (fun s hs => absurd hs (Nat.not_lt_zero s))⟩))
  have a0 : ¬ od_rf en fa nl p q → ∀ u', od_X nc np lv wh ko px py pz wo (od_M en fa nl) u' → wpY_refines (fun r' => r' = 0 ∧ i_Rel (k + 5) u' (nI nc, nI np, gr, ho, we, en, fa, nl, be, ro)) (nI nc, nI np, gr, ho, we, en, fa, nl, be, ro) (nI p) (nI q) := fun w u' hu' => yw _ (br_f (od_n1 e1) (br_f (od_n1 e2) ⟨65, od_yrf f2 hp hq (fun z => absurd z w) (fun _ => ⟨rfl, od_mkR hu' hF⟩) 64 0 rfl (fun s hs => absurd hs (Nat.not_lt_zero s))⟩))
  refine br_f (od_n1 e2) (od_mapF (m := 3) hF hX0 (by decide) hp (fun u1 hu1 => ?_))
  have hu10 := hu1
  obtain ⟨dp1, st1, na1, ph1, nu1, go1, ke1, ib1, re1, cf1, cg1, cr1, rfl, hC1⟩ := hu1
  refine nm_e (od_mapF (m := 3) hF hu10 (by decide) hq (fun u2 hu2 => ?_))
  have hu20 := hu2
  obtain ⟨dp2, st2, na2, ph2, nu2, go2, ke2, ib2, re2, cf2, cg2, cr2, rfl, hC2⟩ := hu2
  have A := od_rfA (en := en) (fa := fa) (nl := nl) (p := p) (q := q)
  by_cases c : ((od_M en fa nl p 3 0 ^^^ (-1)) &&& od_M en fa nl q 3 0) = 0
  · refine br_t c ⟨65, ?_⟩
    exact od_xrf (post := fun r u' => wpY_refines (fun r' => r' = r ∧ i_Rel (k + 5) u' (nI nc, nI np, gr, ho, we, en, fa, nl, be, ro)) (nI nc, nI np, gr, ho, we, en, fa, nl, be, ro) (nI p) (nI q)) hF hp hq (A.mp c) a1 a0 64 0 _ rfl hu20 (fun t ht => absurd ht (Nat.not_lt_zero t))
  · exact br_f c (a0 (fun w => c (A.mpr (fun s hs a b => ⟨(w s hs a b).1, (w s hs a b).2.1⟩))) _ hu20)
theorem i_vc_same {k : Nat} {u : SX} {v : SY} (I : i_Rel k u v) (hk : k + 5 ≤ 2560) (v1 : Int32) (v2 : Int32) : wpX_same (fun r u' => wpY_same (fun r' => r' = r ∧ i_Rel (k + 5) u' v) v v1 v2) u v1 v2 := by
  refine od_el (P := fun u v => wpX_same (fun r u' => wpY_same (fun r' => r' = r ∧ i_Rel (k + 5) u' v) v v1 v2) u v1 v2) ?_ I
  intro nc np lv wh ko px py pz wo gr ho we en fa nl be ro u hX hF
  have hX0 := hX
  have f2 := hF.2.1
  have f6 := hF.2.2.2.2.2
  obtain ⟨dp, st, na, ph, nu, go, ke, ib, re, cf, cg, cr, rfl, hC⟩ := hX
  unfold wpX_same
  dsimp only
  refine od_xpro ?_
  have yw : ∀ post : Int32 → Prop, ((od_in v1 np = 0 → post 0) ∧ (¬ od_in v1 np = 0 → ((od_in v2 np = 0 → post 0) ∧ (¬ od_in v2 np = 0 → ∃ n, wY_same_20 post v1 v2 (nI nc) (nI np) gr ho we en fa nl be ro n 0)))) → wpY_same post (nI nc, nI np, gr, ho, we, en, fa, nl, be, ro) v1 v2 := by
    intro post h
    unfold wpY_same
    dsimp only
    refine od_ypro f2 ?_
    refine br_c h.1 (fun z => od_ypro f2 (h.2 z))
  rcases od_in_c v1 (n := np) (by omega) with ⟨e1, _⟩ | ⟨e1, p, hp, ep⟩
  · exact br_t e1 (yw _ (br_t e1 ⟨rfl, od_mkR hX0 hF⟩))
  refine br_f (od_n1 e1) (od_xpro ?_)
  rcases od_in_c v2 (n := np) (by omega) with ⟨e2, _⟩ | ⟨e2, q, hq, eq⟩
  · exact br_t e2 (yw _ (br_f (od_n1 e1) (br_t e2 ⟨rfl, od_mkR hX0 hF⟩)))
  subst ep eq
  have a1 : od_sm en fa nl p q → ∀ u', od_X nc np lv wh ko px py pz wo (od_M en fa nl) u' → wpY_same (fun r' => r' = 1 ∧ i_Rel (k + 5) u' (nI nc, nI np, gr, ho, we, en, fa, nl, be, ro)) (nI nc, nI np, gr, ho, we, en, fa, nl, be, ro) (nI p) (nI q) := fun w u' hu' => yw _ (br_f (od_n1 e1) (br_f (od_n1 e2) ⟨65, od_ysm f2 hp hq (fun _ => ⟨rfl, od_mkR hu' hF⟩) (fun z => absurd w z) 64 0 rfl (fun s hs => absurd hs (Nat.not_lt_zero s))⟩))
  have a0 : ¬ od_sm en fa nl p q → ∀ u', od_X nc np lv wh ko px py pz wo (od_M en fa nl) u' → wpY_same (fun r' => r' = 0 ∧ i_Rel (k + 5) u' (nI nc, nI np, gr, ho, we, en, fa, nl, be, ro)) (nI nc, nI np, gr, ho, we, en, fa, nl, be, ro) (nI p) (nI q) := fun w u' hu' => yw _ (br_f (od_n1 e1) (br_f (od_n1 e2) ⟨65, od_ysm f2 hp hq (fun z => absurd z w) (fun _ => ⟨rfl, od_mkR hu' hF⟩) 64 0 rfl (fun s hs => absurd hs (Nat.not_lt_zero s))⟩))
  refine br_f (od_n1 e2) (od_mapF (m := 1) hF hX0 (by decide) hp (fun u1 hu1 => ?_))
  have hu10 := hu1
  obtain ⟨dp1, st1, na1, ph1, nu1, go1, ke1, ib1, re1, cf1, cg1, cr1, rfl, hC1⟩ := hu1
  refine od_mapF (m := 1) hF hu10 (by decide) hq (fun u2 hu2 => ?_)
  have hu20 := hu2
  obtain ⟨dp2, st2, na2, ph2, nu2, go2, ke2, ib2, re2, cf2, cg2, cr2, rfl, hC2⟩ := hu2
  by_cases c : od_M en fa nl p 1 0 = od_M en fa nl q 1 0
  · refine br_t c (od_mapF (m := 2) hF hu20 (by decide) hp (fun u3 hu3 => ?_))
    have hu30 := hu3
    obtain ⟨dp3, st3, na3, ph3, nu3, go3, ke3, ib3, re3, cf3, cg3, cr3, rfl, hC3⟩ := hu3
    refine od_mapF (m := 2) hF hu30 (by decide) hq (fun u4 hu4 => ?_)
    have hu40 := hu4
    obtain ⟨dp4, st4, na4, ph4, nu4, go4, ke4, ib4, re4, cf4, cg4, cr4, rfl, hC4⟩ := hu4
    by_cases d : od_M en fa nl p 2 0 = od_M en fa nl q 2 0
    · refine br_t d ⟨65, ?_⟩
      refine od_xsm (post := fun r u' => wpY_same (fun r' => r' = r ∧ i_Rel (k + 5) u' (nI nc, nI np, gr, ho, we, en, fa, nl, be, ro)) (nI nc, nI np, gr, ho, we, en, fa, nl, be, ro) (nI p) (nI q)) hF hp hq (fun s hs => ?_) a1 a0 64 0 _ rfl hu40 (fun t ht => absurd ht (Nat.not_lt_zero t))
      obtain ⟨g1, g2⟩ := f6 (64 * p + s) (by omega)
      obtain ⟨g3, g4⟩ := f6 (64 * q + s) (by omega)
      exact ⟨od_01e g1 g3 (by rw [← od_M10 (en := en) (nl := nl) hs, c, od_M10 hs]), od_01e g2 g4 (by rw [← od_M20 (en := en) (fa := fa) hs, d, od_M20 hs])⟩
    · exact br_f d (a0 (fun w => d (od_bxT (fun s hs => by rw [od_M20 hs, od_M20 hs, (w s hs).2.2]))) _ hu40)
  · exact br_f c (a0 (fun w => c (od_bxT (fun s hs => by rw [od_M10 hs, od_M10 hs, (w s hs).2.1]))) _ hu20)
end
