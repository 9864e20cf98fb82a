section
/-! pure rows to paste: stores, nI and lN arithmetic, masks, shifts, narrowing, branches by naturals (pk_le, pk_lt, pk_eq), loops (lp1 .. lp16: the measure of the state; rp1 ..: recursion), negatives. Take what you need -/
theorem pk_us {f : Nat → Int32} {k : Nat} {x : Int32} : upd f k x k = x := if_pos rfl
theorem pk_un {f : Nat → Int32} {k j : Nat} {x : Int32} (h : j ≠ k) : upd f k x j = f j := if_neg h
theorem pk_uLs {f : Nat → Int64} {k : Nat} {x : Int64} : vp_updL f k x k = x := if_pos rfl
theorem pk_uLn {f : Nat → Int64} {k j : Nat} {x : Int64} (h : j ≠ k) : vp_updL f k x j = f j := if_neg h
theorem pk_sub {a b : Nat} (h : b ≤ a) : nI a - nI b = nI (a - b) := by
  obtain ⟨c, rfl⟩ : ∃ c, a = c + b := ⟨a - b, by omega⟩
  rw [← nI_add, Int32.add_sub_cancel, Nat.add_sub_cancel]
theorem pk_m1 (n : Nat) : nI (n + 1) + (-1) = nI n := by
  rw [← nI_1, Int32.add_assoc, show (1 : Int32) + (-1) = 0 from rfl, Int32.add_zero]
theorem pk_mul (a b : Nat) : nI a * nI b = nI (a * b) := (Int32.ofNat_mul a b).symm
theorem pk_div {a d : Nat} (ha : a < 2 ^ 31) (h0 : 0 < d) (hd : d < 2 ^ 31) : nI a / nI d = nI (a / d) := by
  apply Int32.toInt_inj.mp
  rw [lg_idiv_nonneg (by rw [nI_toInt ha]; omega) (by rw [nI_toInt hd]; omega), nI_toInt ha, nI_toInt hd, nI_toInt (Nat.lt_of_le_of_lt (Nat.div_le_self a d) ha)]
  first | rfl | exact (Int.natCast_ediv _ _).symm
theorem pk_rem {a d : Nat} (ha : a < 2 ^ 31) (h0 : 0 < d) (hd : d < 2 ^ 31) : nI a - nI a / nI d * nI d = nI (a % d) := by
  rw [pk_div ha h0 hd, pk_mul, pk_sub (Nat.div_mul_le_self a d)]
  exact congrArg nI (by have := Nat.div_add_mod' a d; omega)
theorem pk_sub_toInt {a b : Nat} (ha : a < 2 ^ 30) (hb : b < 2 ^ 30) : (nI a - nI b).toInt = (a : Int) - b := by
  rw [Int32.toInt_sub, nI_toInt (by omega), nI_toInt (by omega)]
  exact Int.bmod_eq_of_le (by omega) (by omega)
theorem pk_sneg {a b : Nat} (hb : b < 2 ^ 30) (h : a < b) : nI a - nI b < 0 := by
  rw [Int32.lt_iff_toInt_lt, pk_sub_toInt (by omega) hb, show (0 : Int32).toInt = 0 from by decide]
  omega
theorem pk_ix (x : Int32) {n : Nat} (hn : n < 2 ^ 31) : x < 0 ∨ nI n ≤ x ∨ ∃ j : Nat, j < n ∧ x = nI j := by
  by_cases h : x < 0
  · exact Or.inl h
  · obtain ⟨j, hj, rfl⟩ := nI_of h
    by_cases h2 : j < n
    · exact Or.inr (Or.inr ⟨j, h2, rfl⟩)
    · exact Or.inr (Or.inl (nI_le (by omega) hj))
theorem pk_le {x y : Int32} {A B : Prop} (a b : Nat) (f : a ≤ b → A) (g : b < a → B) (hx : x = nI a := by rfl) (hy : y = nI b := by rfl) (ha : a < 2 ^ 31 := by omega) (hb : b < 2 ^ 31 := by omega) : (x ≤ y → A) ∧ (¬ x ≤ y → B) := by
  subst hx hy
  rw [nI_leI ha hb]
  exact ⟨f, fun z => g (by omega)⟩
theorem pk_lt {x y : Int32} {A B : Prop} (a b : Nat) (f : a < b → A) (g : b ≤ a → B) (hx : x = nI a := by rfl) (hy : y = nI b := by rfl) (ha : a < 2 ^ 31 := by omega) (hb : b < 2 ^ 31 := by omega) : (x < y → A) ∧ (¬ x < y → B) := by
  subst hx hy
  rw [nI_ltI ha hb]
  exact ⟨f, fun z => g (by omega)⟩
theorem pk_eq {x y : Int32} {A B : Prop} (a b : Nat) (f : a = b → A) (g : a ≠ b → B) (hx : x = nI a := by rfl) (hy : y = nI b := by rfl) (ha : a < 2 ^ 31 := by omega) (hb : b < 2 ^ 31 := by omega) : (x = y → A) ∧ (¬ x = y → B) := by
  subst hx hy
  rw [nI_eq ha hb]
  exact ⟨f, g⟩
theorem pk_in {x : Int32} (n N : Nat) (h : n < N) (hx : x = nI n := by rfl) (hN : N < 2 ^ 31 := by omega) : vp_in x N := by
  subst hx
  exact vp_in_nI h hN
theorem pk_cl {x : Int32} (n : Nat) (hx : x = nI n := by rfl) (h : n < 2 ^ 31 := by omega) : x.toNatClampNeg = n := by
  subst hx
  exact nI_clamp h
theorem pk_tn {n : Nat} (h : n < 2 ^ 32) : (nI n).toBitVec.toNat = n := Nat.mod_eq_of_lt h
theorem pk_and (x : Int32) {m : Int32} (k : Nat) (hm : m.toBitVec.toNat = 2 ^ k - 1) : x &&& m = nI (x.toBitVec.toNat % 2 ^ k) := by
  apply Int32.toBitVec_inj.mp
  apply BitVec.eq_of_toNat_eq
  rw [Int32.toBitVec_and, BitVec.toNat_and, hm, Nat.and_two_pow_sub_one_eq_mod]
  show _ = (BitVec.ofNat 32 _).toNat
  rw [BitVec.toNat_ofNat]
  exact (Nat.mod_eq_of_lt (Nat.lt_of_le_of_lt (Nat.mod_le _ _) x.toBitVec.isLt)).symm
theorem pk_andN {n : Nat} (h : n < 2 ^ 32) {m : Int32} (k : Nat) (hm : m.toBitVec.toNat = 2 ^ k - 1) : nI n &&& m = nI (n % 2 ^ k) := by
  rw [pk_and _ k hm, pk_tn h]
theorem pk_andE (x : Int32) {m : Int32} (k : Nat) (hm : m.toBitVec.toNat = 2 ^ k - 1) : ∃ j : Nat, j < 2 ^ k ∧ x &&& m = nI j := ⟨_, Nat.mod_lt _ (Nat.two_pow_pos k), pk_and x k hm⟩
theorem pk_andIn (x : Int32) {m : Int32} (k : Nat) (hm : m.toBitVec.toNat = 2 ^ k - 1) (hk : k ≤ 30) : vp_in (x &&& m) (2 ^ k) := by
  obtain ⟨j, hj, e⟩ := pk_andE x k hm
  rw [e]
  exact vp_in_nI hj (Nat.lt_of_le_of_lt (Nat.pow_le_pow_right (by decide) hk) (by decide))
theorem pk_shl (a s : Int32) (k : Nat) (hs : (s.toBitVec.smod 32).toNat = k) : (a <<< s).toBitVec.toNat = a.toBitVec.toNat * 2 ^ k % 2 ^ 32 := by
  show (a.toBitVec <<< (s.toBitVec.smod 32).toNat).toNat = _
  rw [hs, BitVec.toNat_shiftLeft, Nat.shiftLeft_eq]
theorem pk_shlN {n : Nat} (s : Int32) (k : Nat) (hs : (s.toBitVec.smod 32).toNat = k) (h : n * 2 ^ k < 2 ^ 32) : nI n <<< s = nI (n * 2 ^ k) := by
  apply Int32.toBitVec_inj.mp
  apply BitVec.eq_of_toNat_eq
  have hn : n < 2 ^ 32 := Nat.lt_of_le_of_lt (Nat.le_mul_of_pos_right n (Nat.two_pow_pos k)) h
  rw [pk_shl _ _ k hs, pk_tn hn, pk_tn h, Nat.mod_eq_of_lt h]
theorem pk_shr (a s : Int32) (k : Nat) (hs : (s.toBitVec.smod 32).toNat = k) : (a >>> s).toInt = a.toInt >>> k := by
  show (a.toBitVec.sshiftRight (s.toBitVec.smod 32).toNat).toInt = _
  rw [hs, BitVec.toInt_sshiftRight]
  rfl
theorem pk_shrN {n : Nat} (h : n < 2 ^ 31) (s : Int32) (k : Nat) (hs : (s.toBitVec.smod 32).toNat = k) : nI n >>> s = nI (n / 2 ^ k) := by
  apply Int32.toInt_inj.mp
  have h2 : n / 2 ^ k ≤ n := Nat.div_le_self _ _
  rw [pk_shr _ _ k hs, nI_toInt h, nI_toInt (by omega), Int.shiftRight_eq_div_pow]
  rfl
theorem pk_ushr (x s : Int32) (k : Nat) (hs : ((s.toUInt32 &&& Int32.toUInt32 31).toBitVec % 32).toNat = k) : (x.toUInt32 >>> (s.toUInt32 &&& Int32.toUInt32 31)).toInt32.toBitVec.toNat = x.toBitVec.toNat / 2 ^ k := by
  have e : (x.toUInt32 >>> (s.toUInt32 &&& Int32.toUInt32 31)).toInt32.toBitVec = x.toBitVec >>> k := by
    rw [← hs]
    exact UInt32.toBitVec_shiftRight _ _
  rw [e, BitVec.toNat_ushiftRight, Nat.shiftRight_eq_div_pow]
theorem pk_ushrN {n : Nat} (hn : n < 2 ^ 32) (s : Int32) (k : Nat) (hs : ((s.toUInt32 &&& Int32.toUInt32 31).toBitVec % 32).toNat = k) : ((nI n).toUInt32 >>> (s.toUInt32 &&& Int32.toUInt32 31)).toInt32 = nI (n / 2 ^ k) := by
  apply Int32.toBitVec_inj.mp
  apply BitVec.eq_of_toNat_eq
  rw [pk_ushr _ s k hs, pk_tn hn, pk_tn (Nat.lt_of_le_of_lt (Nat.div_le_self _ _) hn)]
theorem pk_nb (z : Int32) : narrow .byte (.int z.toInt8.toInt32) = .int z.toInt8.toInt32 := congrArg Value.int (by simp)
theorem pk_ns (z : Int32) : narrow .short (.int z.toInt16.toInt32) = .int z.toInt16.toInt32 := congrArg Value.int (by simp)
theorem pk_fb (r : Int32) : fits .byte (.int r.toInt8.toInt32) = true := by
  have ⟨a, b⟩ := lg_i2b_range r
  have h1 : (-128 : Int32).toInt = -128 := by decide
  have h2 : (127 : Int32).toInt = 127 := by decide
  simp only [fits, Bool.and_eq_true, decide_eq_true_eq, Int32.le_iff_toInt_le, h1, h2]
  omega
theorem pk_fs (r : Int32) : fits .short (.int r.toInt16.toInt32) = true := by
  have ⟨a, b⟩ := lg_i2s_range r
  have h1 : (-32768 : Int32).toInt = -32768 := by decide
  have h2 : (32767 : Int32).toInt = 32767 := by decide
  simp only [fits, Bool.and_eq_true, decide_eq_true_eq, Int32.le_iff_toInt_le, h1, h2]
  omega
theorem pk_charN {q : Nat} (hq : q < 65536) : narrow .char (.int (nI q)) = .int (nI q) ∧ fits .char (.int (nI q)) = true := by
  constructor
  · have e : (nI q).toUInt32.toUInt16.toUInt32.toInt32 = nI q := by
      apply Int32.toBitVec_inj.mp
      apply BitVec.eq_of_toNat_eq
      show (nI q).toUInt32.toUInt16.toUInt32.toNat = q % 2 ^ 32
      rw [UInt16.toNat_toUInt32, UInt32.toNat_toUInt16, show (nI q).toUInt32.toNat = q % 2 ^ 32 from rfl]
      omega
    exact congrArg Value.int e
  · have a : (0 : Int32) ≤ nI q := nI_pos' (by omega)
    have b : nI q ≤ 65535 := nI_le (b := 65535) (by omega) (by decide)
    show (decide ((0 : Int32) ≤ nI q) && decide (nI q ≤ 65535)) = true
    rw [decide_eq_true a, decide_eq_true b]
    rfl
theorem pk_char (x : Int32) : (x.toUInt32 % 65536).toInt32 = nI (x.toBitVec.toNat % 65536) := by
  apply Int32.toBitVec_inj.mp
  apply BitVec.eq_of_toNat_eq
  rw [pk_tn (by omega)]
  show (x.toUInt32 % 65536).toNat = _
  rw [UInt32.toNat_mod]
  rfl
theorem pk_nc (x : Int32) : narrow .char (.int (x.toUInt32 % 65536).toInt32) = .int (x.toUInt32 % 65536).toInt32 := by
  rw [pk_char]
  exact (pk_charN (Nat.mod_lt _ (by decide))).1
theorem pk_fc (x : Int32) : fits .char (.int (x.toUInt32 % 65536).toInt32) = true := by
  rw [pk_char]
  exact (pk_charN (Nat.mod_lt _ (by decide))).2
theorem pk_vb (z : Int32) : vp_nar .byte z.toInt8.toInt32 = z.toInt8.toInt32 := by rw [vp_nar_byte]; simp
theorem pk_vs (z : Int32) : vp_nar .short z.toInt16.toInt32 = z.toInt16.toInt32 := by rw [vp_nar_short]; simp
theorem pk_vc (z : Int32) : vp_nar .char (z.toUInt32 % 65536).toInt32 = (z.toUInt32 % 65536).toInt32 := Value.int.inj (pk_nc z)
theorem pk_lT {n : Nat} (h : n < 2 ^ 63) : (lN n).toInt = (n : Int) := lg_ofNat_toInt h
theorem pk_lLT {a b : Nat} (ha : a < 2 ^ 63) (hb : b < 2 ^ 63) : lN a < lN b ↔ a < b := by
  rw [Int64.lt_iff_toInt_lt, pk_lT ha, pk_lT hb]; omega
theorem pk_lLE {a b : Nat} (ha : a < 2 ^ 63) (hb : b < 2 ^ 63) : lN a ≤ lN b ↔ a ≤ b := by
  rw [Int64.le_iff_toInt_le, pk_lT ha, pk_lT hb]; omega
theorem pk_lEQ {a b : Nat} (ha : a < 2 ^ 63) (hb : b < 2 ^ 63) : lN a = lN b ↔ a = b := by
  rw [← Int64.toInt_inj, pk_lT ha, pk_lT hb]; omega
theorem pk_lOf {x : Int64} (h : ¬ x < 0) : ∃ k : Nat, k < 2 ^ 63 ∧ x = lN k := by
  rw [Int64.lt_iff_toInt_lt] at h
  have h0 : (0 : Int64).toInt = 0 := by decide
  have hx := Int64.toInt_lt x
  refine ⟨x.toInt.toNat, by omega, Int64.toInt_inj.mp ?_⟩
  rw [pk_lT (by omega)]
  omega
theorem pk_lDiv {a b : Nat} (ha : a < 2 ^ 63) (h0 : 0 < b) (hb : b < 2 ^ 63) : lN a / lN b = lN (a / b) := by
  apply Int64.toInt_inj.mp
  rw [lg_ldiv_nonneg (by rw [pk_lT ha]; omega) (by rw [pk_lT hb]; omega), pk_lT ha, pk_lT hb, pk_lT (Nat.lt_of_le_of_lt (Nat.div_le_self a b) ha)]
  rfl
theorem pk_lRem {a b : Nat} (ha : a < 2 ^ 63) (h0 : 0 < b) (hb : b < 2 ^ 63) : lN a - lN a / lN b * lN b = lN (a % b) := by
  rw [pk_lDiv ha h0 hb, lN_mul, lN_sub (Nat.div_mul_le_self a b)]
  exact congrArg lN (by have := Nat.div_add_mod' a b; omega)
theorem pk_loop {σ : Type} (W : Nat → Nat → σ → Prop) (I : Nat → σ → Prop) (e i0 : Nat) (s : σ) (hi : i0 ≤ e) (h0 : I i0 s) (hx : ∀ n s, I e s → W (n + 1) e s)
    (hs : ∀ n i s, i < e → I i s → (∀ s', I (i + 1) s' → W n (i + 1) s') → W (n + 1) i s) : ∃ n, W n i0 s :=
  ⟨e + 1, loop_i W I e hx hs (e + 1) i0 s hi (by omega) h0⟩
theorem pk_loopD {σ : Type} (W : Nat → Nat → σ → Prop) (I : Nat → σ → Prop) (hx : ∀ n s, I 0 s → W (n + 1) 0 s)
    (hs : ∀ n i s, I (i + 1) s → (∀ s', I i s' → W n i s') → W (n + 1) (i + 1) s) : ∀ (e : Nat) (s : σ), I e s → W (e + 1) e s := by
  intro e
  induction e with
  | zero => exact fun s h => hx 0 s h
  | succ e ih => exact fun s h => hs (e + 1) e s h (fun s' h' => ih s' h')
theorem lp1 {A1 : Type} (W : Nat → A1 → Prop) (I : A1 → Prop) (μ : A1 → Nat) (hs : ∀ (n : Nat) (a1 : A1), I a1 → (∀ (b1 : A1), I b1 → μ b1 < μ a1 → W n b1) → W (n + 1) a1) (a1 : A1) (h : I a1) : ∃ n, W n a1 :=
  loop_m (σ := A1) (fun n s => W n s) (fun s => I s) (fun s => μ s) (fun n s hI hk => hs n s hI (fun b1 h9 hm => hk b1 h9 hm)) a1 h
theorem lp2 {A1 A2 : Type} (W : Nat → A1 → A2 → Prop) (I : A1 → A2 → Prop) (μ : A1 → A2 → Nat) (hs : ∀ (n : Nat) (a1 : A1) (a2 : A2), I a1 a2 → (∀ (b1 : A1) (b2 : A2), I b1 b2 → μ b1 b2 < μ a1 a2 → W n b1 b2) → W (n + 1) a1 a2) (a1 : A1) (a2 : A2) (h : I a1 a2) : ∃ n, W n a1 a2 :=
  loop_m (σ := A1 × A2) (fun n s => W n s.1 s.2) (fun s => I s.1 s.2) (fun s => μ s.1 s.2) (fun n s hI hk => hs n s.1 s.2 hI (fun b1 b2 h9 hm => hk (b1, b2) h9 hm)) (a1, a2) h
theorem lp3 {A1 A2 A3 : Type} (W : Nat → A1 → A2 → A3 → Prop) (I : A1 → A2 → A3 → Prop) (μ : A1 → A2 → A3 → Nat) (hs : ∀ (n : Nat) (a1 : A1) (a2 : A2) (a3 : A3), I a1 a2 a3 → (∀ (b1 : A1) (b2 : A2) (b3 : A3), I b1 b2 b3 → μ b1 b2 b3 < μ a1 a2 a3 → W n b1 b2 b3) → W (n + 1) a1 a2 a3) (a1 : A1) (a2 : A2) (a3 : A3) (h : I a1 a2 a3) : ∃ n, W n a1 a2 a3 :=
  loop_m (σ := A1 × A2 × A3) (fun n s => W n s.1 s.2.1 s.2.2) (fun s => I s.1 s.2.1 s.2.2) (fun s => μ s.1 s.2.1 s.2.2) (fun n s hI hk => hs n s.1 s.2.1 s.2.2 hI (fun b1 b2 b3 h9 hm => hk (b1, b2, b3) h9 hm)) (a1, a2, a3) h
theorem lp4 {A1 A2 A3 A4 : Type} (W : Nat → A1 → A2 → A3 → A4 → Prop) (I : A1 → A2 → A3 → A4 → Prop) (μ : A1 → A2 → A3 → A4 → Nat) (hs : ∀ (n : Nat) (a1 : A1) (a2 : A2) (a3 : A3) (a4 : A4), I a1 a2 a3 a4 → (∀ (b1 : A1) (b2 : A2) (b3 : A3) (b4 : A4), I b1 b2 b3 b4 → μ b1 b2 b3 b4 < μ a1 a2 a3 a4 → W n b1 b2 b3 b4) → W (n + 1) a1 a2 a3 a4) (a1 : A1) (a2 : A2) (a3 : A3) (a4 : A4) (h : I a1 a2 a3 a4) : ∃ n, W n a1 a2 a3 a4 :=
  loop_m (σ := A1 × A2 × A3 × A4) (fun n s => W n s.1 s.2.1 s.2.2.1 s.2.2.2) (fun s => I s.1 s.2.1 s.2.2.1 s.2.2.2) (fun s => μ s.1 s.2.1 s.2.2.1 s.2.2.2) (fun n s hI hk => hs n s.1 s.2.1 s.2.2.1 s.2.2.2 hI (fun b1 b2 b3 b4 h9 hm => hk (b1, b2, b3, b4) h9 hm)) (a1, a2, a3, a4) h
theorem lp5 {A1 A2 A3 A4 A5 : Type} (W : Nat → A1 → A2 → A3 → A4 → A5 → Prop) (I : A1 → A2 → A3 → A4 → A5 → Prop) (μ : A1 → A2 → A3 → A4 → A5 → Nat) (hs : ∀ (n : Nat) (a1 : A1) (a2 : A2) (a3 : A3) (a4 : A4) (a5 : A5), I a1 a2 a3 a4 a5 → (∀ (b1 : A1) (b2 : A2) (b3 : A3) (b4 : A4) (b5 : A5), I b1 b2 b3 b4 b5 → μ b1 b2 b3 b4 b5 < μ a1 a2 a3 a4 a5 → W n b1 b2 b3 b4 b5) → W (n + 1) a1 a2 a3 a4 a5) (a1 : A1) (a2 : A2) (a3 : A3) (a4 : A4) (a5 : A5) (h : I a1 a2 a3 a4 a5) : ∃ n, W n a1 a2 a3 a4 a5 :=
  loop_m (σ := A1 × A2 × A3 × A4 × A5) (fun n s => W n s.1 s.2.1 s.2.2.1 s.2.2.2.1 s.2.2.2.2) (fun s => I s.1 s.2.1 s.2.2.1 s.2.2.2.1 s.2.2.2.2) (fun s => μ s.1 s.2.1 s.2.2.1 s.2.2.2.1 s.2.2.2.2) (fun n s hI hk => hs n s.1 s.2.1 s.2.2.1 s.2.2.2.1 s.2.2.2.2 hI (fun b1 b2 b3 b4 b5 h9 hm => hk (b1, b2, b3, b4, b5) h9 hm)) (a1, a2, a3, a4, a5) h
theorem lp6 {A1 A2 A3 A4 A5 A6 : Type} (W : Nat → A1 → A2 → A3 → A4 → A5 → A6 → Prop) (I : A1 → A2 → A3 → A4 → A5 → A6 → Prop) (μ : A1 → A2 → A3 → A4 → A5 → A6 → Nat) (hs : ∀ (n : Nat) (a1 : A1) (a2 : A2) (a3 : A3) (a4 : A4) (a5 : A5) (a6 : A6), I a1 a2 a3 a4 a5 a6 → (∀ (b1 : A1) (b2 : A2) (b3 : A3) (b4 : A4) (b5 : A5) (b6 : A6), I b1 b2 b3 b4 b5 b6 → μ b1 b2 b3 b4 b5 b6 < μ a1 a2 a3 a4 a5 a6 → W n b1 b2 b3 b4 b5 b6) → W (n + 1) a1 a2 a3 a4 a5 a6) (a1 : A1) (a2 : A2) (a3 : A3) (a4 : A4) (a5 : A5) (a6 : A6) (h : I a1 a2 a3 a4 a5 a6) : ∃ n, W n a1 a2 a3 a4 a5 a6 :=
  loop_m (σ := A1 × A2 × A3 × A4 × A5 × A6) (fun n s => W n s.1 s.2.1 s.2.2.1 s.2.2.2.1 s.2.2.2.2.1 s.2.2.2.2.2) (fun s => I s.1 s.2.1 s.2.2.1 s.2.2.2.1 s.2.2.2.2.1 s.2.2.2.2.2) (fun s => μ s.1 s.2.1 s.2.2.1 s.2.2.2.1 s.2.2.2.2.1 s.2.2.2.2.2) (fun n s hI hk => hs n s.1 s.2.1 s.2.2.1 s.2.2.2.1 s.2.2.2.2.1 s.2.2.2.2.2 hI (fun b1 b2 b3 b4 b5 b6 h9 hm => hk (b1, b2, b3, b4, b5, b6) h9 hm)) (a1, a2, a3, a4, a5, a6) h
theorem lp7 {A1 A2 A3 A4 A5 A6 A7 : Type} (W : Nat → A1 → A2 → A3 → A4 → A5 → A6 → A7 → Prop) (I : A1 → A2 → A3 → A4 → A5 → A6 → A7 → Prop) (μ : A1 → A2 → A3 → A4 → A5 → A6 → A7 → Nat) (hs : ∀ (n : Nat) (a1 : A1) (a2 : A2) (a3 : A3) (a4 : A4) (a5 : A5) (a6 : A6) (a7 : A7), I a1 a2 a3 a4 a5 a6 a7 → (∀ (b1 : A1) (b2 : A2) (b3 : A3) (b4 : A4) (b5 : A5) (b6 : A6) (b7 : A7), I b1 b2 b3 b4 b5 b6 b7 → μ b1 b2 b3 b4 b5 b6 b7 < μ a1 a2 a3 a4 a5 a6 a7 → W n b1 b2 b3 b4 b5 b6 b7) → W (n + 1) a1 a2 a3 a4 a5 a6 a7) (a1 : A1) (a2 : A2) (a3 : A3) (a4 : A4) (a5 : A5) (a6 : A6) (a7 : A7) (h : I a1 a2 a3 a4 a5 a6 a7) : ∃ n, W n a1 a2 a3 a4 a5 a6 a7 :=
  loop_m (σ := A1 × A2 × A3 × A4 × A5 × A6 × A7) (fun n s => W n s.1 s.2.1 s.2.2.1 s.2.2.2.1 s.2.2.2.2.1 s.2.2.2.2.2.1 s.2.2.2.2.2.2) (fun s => I s.1 s.2.1 s.2.2.1 s.2.2.2.1 s.2.2.2.2.1 s.2.2.2.2.2.1 s.2.2.2.2.2.2) (fun s => μ s.1 s.2.1 s.2.2.1 s.2.2.2.1 s.2.2.2.2.1 s.2.2.2.2.2.1 s.2.2.2.2.2.2) (fun n s hI hk => hs n s.1 s.2.1 s.2.2.1 s.2.2.2.1 s.2.2.2.2.1 s.2.2.2.2.2.1 s.2.2.2.2.2.2 hI (fun b1 b2 b3 b4 b5 b6 b7 h9 hm => hk (b1, b2, b3, b4, b5, b6, b7) h9 hm)) (a1, a2, a3, a4, a5, a6, a7) h
theorem lp8 {A1 A2 A3 A4 A5 A6 A7 A8 : Type} (W : Nat → A1 → A2 → A3 → A4 → A5 → A6 → A7 → A8 → Prop) (I : A1 → A2 → A3 → A4 → A5 → A6 → A7 → A8 → Prop) (μ : A1 → A2 → A3 → A4 → A5 → A6 → A7 → A8 → Nat) (hs : ∀ (n : Nat) (a1 : A1) (a2 : A2) (a3 : A3) (a4 : A4) (a5 : A5) (a6 : A6) (a7 : A7) (a8 : A8), I a1 a2 a3 a4 a5 a6 a7 a8 → (∀ (b1 : A1) (b2 : A2) (b3 : A3) (b4 : A4) (b5 : A5) (b6 : A6) (b7 : A7) (b8 : A8), I b1 b2 b3 b4 b5 b6 b7 b8 → μ b1 b2 b3 b4 b5 b6 b7 b8 < μ a1 a2 a3 a4 a5 a6 a7 a8 → W n b1 b2 b3 b4 b5 b6 b7 b8) → W (n + 1) a1 a2 a3 a4 a5 a6 a7 a8) (a1 : A1) (a2 : A2) (a3 : A3) (a4 : A4) (a5 : A5) (a6 : A6) (a7 : A7) (a8 : A8) (h : I a1 a2 a3 a4 a5 a6 a7 a8) : ∃ n, W n a1 a2 a3 a4 a5 a6 a7 a8 :=
  loop_m (σ := A1 × A2 × A3 × A4 × A5 × A6 × A7 × A8) (fun n s => W n s.1 s.2.1 s.2.2.1 s.2.2.2.1 s.2.2.2.2.1 s.2.2.2.2.2.1 s.2.2.2.2.2.2.1 s.2.2.2.2.2.2.2) (fun s => I s.1 s.2.1 s.2.2.1 s.2.2.2.1 s.2.2.2.2.1 s.2.2.2.2.2.1 s.2.2.2.2.2.2.1 s.2.2.2.2.2.2.2) (fun s => μ s.1 s.2.1 s.2.2.1 s.2.2.2.1 s.2.2.2.2.1 s.2.2.2.2.2.1 s.2.2.2.2.2.2.1 s.2.2.2.2.2.2.2) (fun n s hI hk => hs n s.1 s.2.1 s.2.2.1 s.2.2.2.1 s.2.2.2.2.1 s.2.2.2.2.2.1 s.2.2.2.2.2.2.1 s.2.2.2.2.2.2.2 hI (fun b1 b2 b3 b4 b5 b6 b7 b8 h9 hm => hk (b1, b2, b3, b4, b5, b6, b7, b8) h9 hm)) (a1, a2, a3, a4, a5, a6, a7, a8) h
theorem lp9 {A1 A2 A3 A4 A5 A6 A7 A8 A9 : Type} (W : Nat → A1 → A2 → A3 → A4 → A5 → A6 → A7 → A8 → A9 → Prop) (I : A1 → A2 → A3 → A4 → A5 → A6 → A7 → A8 → A9 → Prop) (μ : A1 → A2 → A3 → A4 → A5 → A6 → A7 → A8 → A9 → Nat) (hs : ∀ (n : Nat) (a1 : A1) (a2 : A2) (a3 : A3) (a4 : A4) (a5 : A5) (a6 : A6) (a7 : A7) (a8 : A8) (a9 : A9), I a1 a2 a3 a4 a5 a6 a7 a8 a9 → (∀ (b1 : A1) (b2 : A2) (b3 : A3) (b4 : A4) (b5 : A5) (b6 : A6) (b7 : A7) (b8 : A8) (b9 : A9), I b1 b2 b3 b4 b5 b6 b7 b8 b9 → μ b1 b2 b3 b4 b5 b6 b7 b8 b9 < μ a1 a2 a3 a4 a5 a6 a7 a8 a9 → W n b1 b2 b3 b4 b5 b6 b7 b8 b9) → W (n + 1) a1 a2 a3 a4 a5 a6 a7 a8 a9) (a1 : A1) (a2 : A2) (a3 : A3) (a4 : A4) (a5 : A5) (a6 : A6) (a7 : A7) (a8 : A8) (a9 : A9) (h : I a1 a2 a3 a4 a5 a6 a7 a8 a9) : ∃ n, W n a1 a2 a3 a4 a5 a6 a7 a8 a9 :=
  loop_m (σ := A1 × A2 × A3 × A4 × A5 × A6 × A7 × A8 × A9) (fun n s => W n s.1 s.2.1 s.2.2.1 s.2.2.2.1 s.2.2.2.2.1 s.2.2.2.2.2.1 s.2.2.2.2.2.2.1 s.2.2.2.2.2.2.2.1 s.2.2.2.2.2.2.2.2) (fun s => I s.1 s.2.1 s.2.2.1 s.2.2.2.1 s.2.2.2.2.1 s.2.2.2.2.2.1 s.2.2.2.2.2.2.1 s.2.2.2.2.2.2.2.1 s.2.2.2.2.2.2.2.2) (fun s => μ s.1 s.2.1 s.2.2.1 s.2.2.2.1 s.2.2.2.2.1 s.2.2.2.2.2.1 s.2.2.2.2.2.2.1 s.2.2.2.2.2.2.2.1 s.2.2.2.2.2.2.2.2) (fun n s hI hk => hs n s.1 s.2.1 s.2.2.1 s.2.2.2.1 s.2.2.2.2.1 s.2.2.2.2.2.1 s.2.2.2.2.2.2.1 s.2.2.2.2.2.2.2.1 s.2.2.2.2.2.2.2.2 hI (fun b1 b2 b3 b4 b5 b6 b7 b8 b9 h9 hm => hk (b1, b2, b3, b4, b5, b6, b7, b8, b9) h9 hm)) (a1, a2, a3, a4, a5, a6, a7, a8, a9) h
theorem lp10 {A1 A2 A3 A4 A5 A6 A7 A8 A9 A10 : Type} (W : Nat → A1 → A2 → A3 → A4 → A5 → A6 → A7 → A8 → A9 → A10 → Prop) (I : A1 → A2 → A3 → A4 → A5 → A6 → A7 → A8 → A9 → A10 → Prop) (μ : A1 → A2 → A3 → A4 → A5 → A6 → A7 → A8 → A9 → A10 → Nat) (hs : ∀ (n : Nat) (a1 : A1) (a2 : A2) (a3 : A3) (a4 : A4) (a5 : A5) (a6 : A6) (a7 : A7) (a8 : A8) (a9 : A9) (a10 : A10), I a1 a2 a3 a4 a5 a6 a7 a8 a9 a10 → (∀ (b1 : A1) (b2 : A2) (b3 : A3) (b4 : A4) (b5 : A5) (b6 : A6) (b7 : A7) (b8 : A8) (b9 : A9) (b10 : A10), I b1 b2 b3 b4 b5 b6 b7 b8 b9 b10 → μ b1 b2 b3 b4 b5 b6 b7 b8 b9 b10 < μ a1 a2 a3 a4 a5 a6 a7 a8 a9 a10 → W n b1 b2 b3 b4 b5 b6 b7 b8 b9 b10) → W (n + 1) a1 a2 a3 a4 a5 a6 a7 a8 a9 a10) (a1 : A1) (a2 : A2) (a3 : A3) (a4 : A4) (a5 : A5) (a6 : A6) (a7 : A7) (a8 : A8) (a9 : A9) (a10 : A10) (h : I a1 a2 a3 a4 a5 a6 a7 a8 a9 a10) : ∃ n, W n a1 a2 a3 a4 a5 a6 a7 a8 a9 a10 :=
  loop_m (σ := A1 × A2 × A3 × A4 × A5 × A6 × A7 × A8 × A9 × A10) (fun n s => W n s.1 s.2.1 s.2.2.1 s.2.2.2.1 s.2.2.2.2.1 s.2.2.2.2.2.1 s.2.2.2.2.2.2.1 s.2.2.2.2.2.2.2.1 s.2.2.2.2.2.2.2.2.1 s.2.2.2.2.2.2.2.2.2) (fun s => I s.1 s.2.1 s.2.2.1 s.2.2.2.1 s.2.2.2.2.1 s.2.2.2.2.2.1 s.2.2.2.2.2.2.1 s.2.2.2.2.2.2.2.1 s.2.2.2.2.2.2.2.2.1 s.2.2.2.2.2.2.2.2.2) (fun s => μ s.1 s.2.1 s.2.2.1 s.2.2.2.1 s.2.2.2.2.1 s.2.2.2.2.2.1 s.2.2.2.2.2.2.1 s.2.2.2.2.2.2.2.1 s.2.2.2.2.2.2.2.2.1 s.2.2.2.2.2.2.2.2.2) (fun n s hI hk => hs n s.1 s.2.1 s.2.2.1 s.2.2.2.1 s.2.2.2.2.1 s.2.2.2.2.2.1 s.2.2.2.2.2.2.1 s.2.2.2.2.2.2.2.1 s.2.2.2.2.2.2.2.2.1 s.2.2.2.2.2.2.2.2.2 hI (fun b1 b2 b3 b4 b5 b6 b7 b8 b9 b10 h9 hm => hk (b1, b2, b3, b4, b5, b6, b7, b8, b9, b10) h9 hm)) (a1, a2, a3, a4, a5, a6, a7, a8, a9, a10) h
theorem lp11 {A1 A2 A3 A4 A5 A6 A7 A8 A9 A10 A11 : Type} (W : Nat → A1 → A2 → A3 → A4 → A5 → A6 → A7 → A8 → A9 → A10 → A11 → Prop) (I : A1 → A2 → A3 → A4 → A5 → A6 → A7 → A8 → A9 → A10 → A11 → Prop) (μ : A1 → A2 → A3 → A4 → A5 → A6 → A7 → A8 → A9 → A10 → A11 → Nat) (hs : ∀ (n : Nat) (a1 : A1) (a2 : A2) (a3 : A3) (a4 : A4) (a5 : A5) (a6 : A6) (a7 : A7) (a8 : A8) (a9 : A9) (a10 : A10) (a11 : A11), I a1 a2 a3 a4 a5 a6 a7 a8 a9 a10 a11 → (∀ (b1 : A1) (b2 : A2) (b3 : A3) (b4 : A4) (b5 : A5) (b6 : A6) (b7 : A7) (b8 : A8) (b9 : A9) (b10 : A10) (b11 : A11), I b1 b2 b3 b4 b5 b6 b7 b8 b9 b10 b11 → μ b1 b2 b3 b4 b5 b6 b7 b8 b9 b10 b11 < μ a1 a2 a3 a4 a5 a6 a7 a8 a9 a10 a11 → W n b1 b2 b3 b4 b5 b6 b7 b8 b9 b10 b11) → W (n + 1) a1 a2 a3 a4 a5 a6 a7 a8 a9 a10 a11) (a1 : A1) (a2 : A2) (a3 : A3) (a4 : A4) (a5 : A5) (a6 : A6) (a7 : A7) (a8 : A8) (a9 : A9) (a10 : A10) (a11 : A11) (h : I a1 a2 a3 a4 a5 a6 a7 a8 a9 a10 a11) : ∃ n, W n a1 a2 a3 a4 a5 a6 a7 a8 a9 a10 a11 :=
  loop_m (σ := A1 × A2 × A3 × A4 × A5 × A6 × A7 × A8 × A9 × A10 × A11) (fun n s => W n s.1 s.2.1 s.2.2.1 s.2.2.2.1 s.2.2.2.2.1 s.2.2.2.2.2.1 s.2.2.2.2.2.2.1 s.2.2.2.2.2.2.2.1 s.2.2.2.2.2.2.2.2.1 s.2.2.2.2.2.2.2.2.2.1 s.2.2.2.2.2.2.2.2.2.2) (fun s => I s.1 s.2.1 s.2.2.1 s.2.2.2.1 s.2.2.2.2.1 s.2.2.2.2.2.1 s.2.2.2.2.2.2.1 s.2.2.2.2.2.2.2.1 s.2.2.2.2.2.2.2.2.1 s.2.2.2.2.2.2.2.2.2.1 s.2.2.2.2.2.2.2.2.2.2) (fun s => μ s.1 s.2.1 s.2.2.1 s.2.2.2.1 s.2.2.2.2.1 s.2.2.2.2.2.1 s.2.2.2.2.2.2.1 s.2.2.2.2.2.2.2.1 s.2.2.2.2.2.2.2.2.1 s.2.2.2.2.2.2.2.2.2.1 s.2.2.2.2.2.2.2.2.2.2) (fun n s hI hk => hs n s.1 s.2.1 s.2.2.1 s.2.2.2.1 s.2.2.2.2.1 s.2.2.2.2.2.1 s.2.2.2.2.2.2.1 s.2.2.2.2.2.2.2.1 s.2.2.2.2.2.2.2.2.1 s.2.2.2.2.2.2.2.2.2.1 s.2.2.2.2.2.2.2.2.2.2 hI (fun b1 b2 b3 b4 b5 b6 b7 b8 b9 b10 b11 h9 hm => hk (b1, b2, b3, b4, b5, b6, b7, b8, b9, b10, b11) h9 hm)) (a1, a2, a3, a4, a5, a6, a7, a8, a9, a10, a11) h
theorem lp12 {A1 A2 A3 A4 A5 A6 A7 A8 A9 A10 A11 A12 : Type} (W : Nat → A1 → A2 → A3 → A4 → A5 → A6 → A7 → A8 → A9 → A10 → A11 → A12 → Prop) (I : A1 → A2 → A3 → A4 → A5 → A6 → A7 → A8 → A9 → A10 → A11 → A12 → Prop) (μ : A1 → A2 → A3 → A4 → A5 → A6 → A7 → A8 → A9 → A10 → A11 → A12 → Nat) (hs : ∀ (n : Nat) (a1 : A1) (a2 : A2) (a3 : A3) (a4 : A4) (a5 : A5) (a6 : A6) (a7 : A7) (a8 : A8) (a9 : A9) (a10 : A10) (a11 : A11) (a12 : A12), I a1 a2 a3 a4 a5 a6 a7 a8 a9 a10 a11 a12 → (∀ (b1 : A1) (b2 : A2) (b3 : A3) (b4 : A4) (b5 : A5) (b6 : A6) (b7 : A7) (b8 : A8) (b9 : A9) (b10 : A10) (b11 : A11) (b12 : A12), I b1 b2 b3 b4 b5 b6 b7 b8 b9 b10 b11 b12 → μ b1 b2 b3 b4 b5 b6 b7 b8 b9 b10 b11 b12 < μ a1 a2 a3 a4 a5 a6 a7 a8 a9 a10 a11 a12 → W n b1 b2 b3 b4 b5 b6 b7 b8 b9 b10 b11 b12) → W (n + 1) a1 a2 a3 a4 a5 a6 a7 a8 a9 a10 a11 a12) (a1 : A1) (a2 : A2) (a3 : A3) (a4 : A4) (a5 : A5) (a6 : A6) (a7 : A7) (a8 : A8) (a9 : A9) (a10 : A10) (a11 : A11) (a12 : A12) (h : I a1 a2 a3 a4 a5 a6 a7 a8 a9 a10 a11 a12) : ∃ n, W n a1 a2 a3 a4 a5 a6 a7 a8 a9 a10 a11 a12 :=
  loop_m (σ := A1 × A2 × A3 × A4 × A5 × A6 × A7 × A8 × A9 × A10 × A11 × A12) (fun n s => W n s.1 s.2.1 s.2.2.1 s.2.2.2.1 s.2.2.2.2.1 s.2.2.2.2.2.1 s.2.2.2.2.2.2.1 s.2.2.2.2.2.2.2.1 s.2.2.2.2.2.2.2.2.1 s.2.2.2.2.2.2.2.2.2.1 s.2.2.2.2.2.2.2.2.2.2.1 s.2.2.2.2.2.2.2.2.2.2.2) (fun s => I s.1 s.2.1 s.2.2.1 s.2.2.2.1 s.2.2.2.2.1 s.2.2.2.2.2.1 s.2.2.2.2.2.2.1 s.2.2.2.2.2.2.2.1 s.2.2.2.2.2.2.2.2.1 s.2.2.2.2.2.2.2.2.2.1 s.2.2.2.2.2.2.2.2.2.2.1 s.2.2.2.2.2.2.2.2.2.2.2) (fun s => μ s.1 s.2.1 s.2.2.1 s.2.2.2.1 s.2.2.2.2.1 s.2.2.2.2.2.1 s.2.2.2.2.2.2.1 s.2.2.2.2.2.2.2.1 s.2.2.2.2.2.2.2.2.1 s.2.2.2.2.2.2.2.2.2.1 s.2.2.2.2.2.2.2.2.2.2.1 s.2.2.2.2.2.2.2.2.2.2.2) (fun n s hI hk => hs n s.1 s.2.1 s.2.2.1 s.2.2.2.1 s.2.2.2.2.1 s.2.2.2.2.2.1 s.2.2.2.2.2.2.1 s.2.2.2.2.2.2.2.1 s.2.2.2.2.2.2.2.2.1 s.2.2.2.2.2.2.2.2.2.1 s.2.2.2.2.2.2.2.2.2.2.1 s.2.2.2.2.2.2.2.2.2.2.2 hI (fun b1 b2 b3 b4 b5 b6 b7 b8 b9 b10 b11 b12 h9 hm => hk (b1, b2, b3, b4, b5, b6, b7, b8, b9, b10, b11, b12) h9 hm)) (a1, a2, a3, a4, a5, a6, a7, a8, a9, a10, a11, a12) h
theorem lp13 {A1 A2 A3 A4 A5 A6 A7 A8 A9 A10 A11 A12 A13 : Type} (W : Nat → A1 → A2 → A3 → A4 → A5 → A6 → A7 → A8 → A9 → A10 → A11 → A12 → A13 → Prop) (I : A1 → A2 → A3 → A4 → A5 → A6 → A7 → A8 → A9 → A10 → A11 → A12 → A13 → Prop) (μ : A1 → A2 → A3 → A4 → A5 → A6 → A7 → A8 → A9 → A10 → A11 → A12 → A13 → Nat) (hs : ∀ (n : Nat) (a1 : A1) (a2 : A2) (a3 : A3) (a4 : A4) (a5 : A5) (a6 : A6) (a7 : A7) (a8 : A8) (a9 : A9) (a10 : A10) (a11 : A11) (a12 : A12) (a13 : A13), I a1 a2 a3 a4 a5 a6 a7 a8 a9 a10 a11 a12 a13 → (∀ (b1 : A1) (b2 : A2) (b3 : A3) (b4 : A4) (b5 : A5) (b6 : A6) (b7 : A7) (b8 : A8) (b9 : A9) (b10 : A10) (b11 : A11) (b12 : A12) (b13 : A13), I b1 b2 b3 b4 b5 b6 b7 b8 b9 b10 b11 b12 b13 → μ b1 b2 b3 b4 b5 b6 b7 b8 b9 b10 b11 b12 b13 < μ a1 a2 a3 a4 a5 a6 a7 a8 a9 a10 a11 a12 a13 → W n b1 b2 b3 b4 b5 b6 b7 b8 b9 b10 b11 b12 b13) → W (n + 1) a1 a2 a3 a4 a5 a6 a7 a8 a9 a10 a11 a12 a13) (a1 : A1) (a2 : A2) (a3 : A3) (a4 : A4) (a5 : A5) (a6 : A6) (a7 : A7) (a8 : A8) (a9 : A9) (a10 : A10) (a11 : A11) (a12 : A12) (a13 : A13) (h : I a1 a2 a3 a4 a5 a6 a7 a8 a9 a10 a11 a12 a13) : ∃ n, W n a1 a2 a3 a4 a5 a6 a7 a8 a9 a10 a11 a12 a13 :=
  loop_m (σ := A1 × A2 × A3 × A4 × A5 × A6 × A7 × A8 × A9 × A10 × A11 × A12 × A13) (fun n s => W n s.1 s.2.1 s.2.2.1 s.2.2.2.1 s.2.2.2.2.1 s.2.2.2.2.2.1 s.2.2.2.2.2.2.1 s.2.2.2.2.2.2.2.1 s.2.2.2.2.2.2.2.2.1 s.2.2.2.2.2.2.2.2.2.1 s.2.2.2.2.2.2.2.2.2.2.1 s.2.2.2.2.2.2.2.2.2.2.2.1 s.2.2.2.2.2.2.2.2.2.2.2.2) (fun s => I s.1 s.2.1 s.2.2.1 s.2.2.2.1 s.2.2.2.2.1 s.2.2.2.2.2.1 s.2.2.2.2.2.2.1 s.2.2.2.2.2.2.2.1 s.2.2.2.2.2.2.2.2.1 s.2.2.2.2.2.2.2.2.2.1 s.2.2.2.2.2.2.2.2.2.2.1 s.2.2.2.2.2.2.2.2.2.2.2.1 s.2.2.2.2.2.2.2.2.2.2.2.2) (fun s => μ s.1 s.2.1 s.2.2.1 s.2.2.2.1 s.2.2.2.2.1 s.2.2.2.2.2.1 s.2.2.2.2.2.2.1 s.2.2.2.2.2.2.2.1 s.2.2.2.2.2.2.2.2.1 s.2.2.2.2.2.2.2.2.2.1 s.2.2.2.2.2.2.2.2.2.2.1 s.2.2.2.2.2.2.2.2.2.2.2.1 s.2.2.2.2.2.2.2.2.2.2.2.2) (fun n s hI hk => hs n s.1 s.2.1 s.2.2.1 s.2.2.2.1 s.2.2.2.2.1 s.2.2.2.2.2.1 s.2.2.2.2.2.2.1 s.2.2.2.2.2.2.2.1 s.2.2.2.2.2.2.2.2.1 s.2.2.2.2.2.2.2.2.2.1 s.2.2.2.2.2.2.2.2.2.2.1 s.2.2.2.2.2.2.2.2.2.2.2.1 s.2.2.2.2.2.2.2.2.2.2.2.2 hI (fun b1 b2 b3 b4 b5 b6 b7 b8 b9 b10 b11 b12 b13 h9 hm => hk (b1, b2, b3, b4, b5, b6, b7, b8, b9, b10, b11, b12, b13) h9 hm)) (a1, a2, a3, a4, a5, a6, a7, a8, a9, a10, a11, a12, a13) h
theorem lp14 {A1 A2 A3 A4 A5 A6 A7 A8 A9 A10 A11 A12 A13 A14 : Type} (W : Nat → A1 → A2 → A3 → A4 → A5 → A6 → A7 → A8 → A9 → A10 → A11 → A12 → A13 → A14 → Prop) (I : A1 → A2 → A3 → A4 → A5 → A6 → A7 → A8 → A9 → A10 → A11 → A12 → A13 → A14 → Prop) (μ : A1 → A2 → A3 → A4 → A5 → A6 → A7 → A8 → A9 → A10 → A11 → A12 → A13 → A14 → Nat) (hs : ∀ (n : Nat) (a1 : A1) (a2 : A2) (a3 : A3) (a4 : A4) (a5 : A5) (a6 : A6) (a7 : A7) (a8 : A8) (a9 : A9) (a10 : A10) (a11 : A11) (a12 : A12) (a13 : A13) (a14 : A14), I a1 a2 a3 a4 a5 a6 a7 a8 a9 a10 a11 a12 a13 a14 → (∀ (b1 : A1) (b2 : A2) (b3 : A3) (b4 : A4) (b5 : A5) (b6 : A6) (b7 : A7) (b8 : A8) (b9 : A9) (b10 : A10) (b11 : A11) (b12 : A12) (b13 : A13) (b14 : A14), I b1 b2 b3 b4 b5 b6 b7 b8 b9 b10 b11 b12 b13 b14 → μ b1 b2 b3 b4 b5 b6 b7 b8 b9 b10 b11 b12 b13 b14 < μ a1 a2 a3 a4 a5 a6 a7 a8 a9 a10 a11 a12 a13 a14 → W n b1 b2 b3 b4 b5 b6 b7 b8 b9 b10 b11 b12 b13 b14) → W (n + 1) a1 a2 a3 a4 a5 a6 a7 a8 a9 a10 a11 a12 a13 a14) (a1 : A1) (a2 : A2) (a3 : A3) (a4 : A4) (a5 : A5) (a6 : A6) (a7 : A7) (a8 : A8) (a9 : A9) (a10 : A10) (a11 : A11) (a12 : A12) (a13 : A13) (a14 : A14) (h : I a1 a2 a3 a4 a5 a6 a7 a8 a9 a10 a11 a12 a13 a14) : ∃ n, W n a1 a2 a3 a4 a5 a6 a7 a8 a9 a10 a11 a12 a13 a14 :=
  loop_m (σ := A1 × A2 × A3 × A4 × A5 × A6 × A7 × A8 × A9 × A10 × A11 × A12 × A13 × A14) (fun n s => W n s.1 s.2.1 s.2.2.1 s.2.2.2.1 s.2.2.2.2.1 s.2.2.2.2.2.1 s.2.2.2.2.2.2.1 s.2.2.2.2.2.2.2.1 s.2.2.2.2.2.2.2.2.1 s.2.2.2.2.2.2.2.2.2.1 s.2.2.2.2.2.2.2.2.2.2.1 s.2.2.2.2.2.2.2.2.2.2.2.1 s.2.2.2.2.2.2.2.2.2.2.2.2.1 s.2.2.2.2.2.2.2.2.2.2.2.2.2) (fun s => I s.1 s.2.1 s.2.2.1 s.2.2.2.1 s.2.2.2.2.1 s.2.2.2.2.2.1 s.2.2.2.2.2.2.1 s.2.2.2.2.2.2.2.1 s.2.2.2.2.2.2.2.2.1 s.2.2.2.2.2.2.2.2.2.1 s.2.2.2.2.2.2.2.2.2.2.1 s.2.2.2.2.2.2.2.2.2.2.2.1 s.2.2.2.2.2.2.2.2.2.2.2.2.1 s.2.2.2.2.2.2.2.2.2.2.2.2.2) (fun s => μ s.1 s.2.1 s.2.2.1 s.2.2.2.1 s.2.2.2.2.1 s.2.2.2.2.2.1 s.2.2.2.2.2.2.1 s.2.2.2.2.2.2.2.1 s.2.2.2.2.2.2.2.2.1 s.2.2.2.2.2.2.2.2.2.1 s.2.2.2.2.2.2.2.2.2.2.1 s.2.2.2.2.2.2.2.2.2.2.2.1 s.2.2.2.2.2.2.2.2.2.2.2.2.1 s.2.2.2.2.2.2.2.2.2.2.2.2.2) (fun n s hI hk => hs n s.1 s.2.1 s.2.2.1 s.2.2.2.1 s.2.2.2.2.1 s.2.2.2.2.2.1 s.2.2.2.2.2.2.1 s.2.2.2.2.2.2.2.1 s.2.2.2.2.2.2.2.2.1 s.2.2.2.2.2.2.2.2.2.1 s.2.2.2.2.2.2.2.2.2.2.1 s.2.2.2.2.2.2.2.2.2.2.2.1 s.2.2.2.2.2.2.2.2.2.2.2.2.1 s.2.2.2.2.2.2.2.2.2.2.2.2.2 hI (fun b1 b2 b3 b4 b5 b6 b7 b8 b9 b10 b11 b12 b13 b14 h9 hm => hk (b1, b2, b3, b4, b5, b6, b7, b8, b9, b10, b11, b12, b13, b14) h9 hm)) (a1, a2, a3, a4, a5, a6, a7, a8, a9, a10, a11, a12, a13, a14) h
theorem lp15 {A1 A2 A3 A4 A5 A6 A7 A8 A9 A10 A11 A12 A13 A14 A15 : Type} (W : Nat → A1 → A2 → A3 → A4 → A5 → A6 → A7 → A8 → A9 → A10 → A11 → A12 → A13 → A14 → A15 → Prop) (I : A1 → A2 → A3 → A4 → A5 → A6 → A7 → A8 → A9 → A10 → A11 → A12 → A13 → A14 → A15 → Prop) (μ : A1 → A2 → A3 → A4 → A5 → A6 → A7 → A8 → A9 → A10 → A11 → A12 → A13 → A14 → A15 → Nat) (hs : ∀ (n : Nat) (a1 : A1) (a2 : A2) (a3 : A3) (a4 : A4) (a5 : A5) (a6 : A6) (a7 : A7) (a8 : A8) (a9 : A9) (a10 : A10) (a11 : A11) (a12 : A12) (a13 : A13) (a14 : A14) (a15 : A15), I a1 a2 a3 a4 a5 a6 a7 a8 a9 a10 a11 a12 a13 a14 a15 → (∀ (b1 : A1) (b2 : A2) (b3 : A3) (b4 : A4) (b5 : A5) (b6 : A6) (b7 : A7) (b8 : A8) (b9 : A9) (b10 : A10) (b11 : A11) (b12 : A12) (b13 : A13) (b14 : A14) (b15 : A15), I b1 b2 b3 b4 b5 b6 b7 b8 b9 b10 b11 b12 b13 b14 b15 → μ b1 b2 b3 b4 b5 b6 b7 b8 b9 b10 b11 b12 b13 b14 b15 < μ a1 a2 a3 a4 a5 a6 a7 a8 a9 a10 a11 a12 a13 a14 a15 → W n b1 b2 b3 b4 b5 b6 b7 b8 b9 b10 b11 b12 b13 b14 b15) → W (n + 1) a1 a2 a3 a4 a5 a6 a7 a8 a9 a10 a11 a12 a13 a14 a15) (a1 : A1) (a2 : A2) (a3 : A3) (a4 : A4) (a5 : A5) (a6 : A6) (a7 : A7) (a8 : A8) (a9 : A9) (a10 : A10) (a11 : A11) (a12 : A12) (a13 : A13) (a14 : A14) (a15 : A15) (h : I a1 a2 a3 a4 a5 a6 a7 a8 a9 a10 a11 a12 a13 a14 a15) : ∃ n, W n a1 a2 a3 a4 a5 a6 a7 a8 a9 a10 a11 a12 a13 a14 a15 :=
  loop_m (σ := A1 × A2 × A3 × A4 × A5 × A6 × A7 × A8 × A9 × A10 × A11 × A12 × A13 × A14 × A15) (fun n s => W n s.1 s.2.1 s.2.2.1 s.2.2.2.1 s.2.2.2.2.1 s.2.2.2.2.2.1 s.2.2.2.2.2.2.1 s.2.2.2.2.2.2.2.1 s.2.2.2.2.2.2.2.2.1 s.2.2.2.2.2.2.2.2.2.1 s.2.2.2.2.2.2.2.2.2.2.1 s.2.2.2.2.2.2.2.2.2.2.2.1 s.2.2.2.2.2.2.2.2.2.2.2.2.1 s.2.2.2.2.2.2.2.2.2.2.2.2.2.1 s.2.2.2.2.2.2.2.2.2.2.2.2.2.2) (fun s => I s.1 s.2.1 s.2.2.1 s.2.2.2.1 s.2.2.2.2.1 s.2.2.2.2.2.1 s.2.2.2.2.2.2.1 s.2.2.2.2.2.2.2.1 s.2.2.2.2.2.2.2.2.1 s.2.2.2.2.2.2.2.2.2.1 s.2.2.2.2.2.2.2.2.2.2.1 s.2.2.2.2.2.2.2.2.2.2.2.1 s.2.2.2.2.2.2.2.2.2.2.2.2.1 s.2.2.2.2.2.2.2.2.2.2.2.2.2.1 s.2.2.2.2.2.2.2.2.2.2.2.2.2.2) (fun s => μ s.1 s.2.1 s.2.2.1 s.2.2.2.1 s.2.2.2.2.1 s.2.2.2.2.2.1 s.2.2.2.2.2.2.1 s.2.2.2.2.2.2.2.1 s.2.2.2.2.2.2.2.2.1 s.2.2.2.2.2.2.2.2.2.1 s.2.2.2.2.2.2.2.2.2.2.1 s.2.2.2.2.2.2.2.2.2.2.2.1 s.2.2.2.2.2.2.2.2.2.2.2.2.1 s.2.2.2.2.2.2.2.2.2.2.2.2.2.1 s.2.2.2.2.2.2.2.2.2.2.2.2.2.2) (fun n s hI hk => hs n s.1 s.2.1 s.2.2.1 s.2.2.2.1 s.2.2.2.2.1 s.2.2.2.2.2.1 s.2.2.2.2.2.2.1 s.2.2.2.2.2.2.2.1 s.2.2.2.2.2.2.2.2.1 s.2.2.2.2.2.2.2.2.2.1 s.2.2.2.2.2.2.2.2.2.2.1 s.2.2.2.2.2.2.2.2.2.2.2.1 s.2.2.2.2.2.2.2.2.2.2.2.2.1 s.2.2.2.2.2.2.2.2.2.2.2.2.2.1 s.2.2.2.2.2.2.2.2.2.2.2.2.2.2 hI (fun b1 b2 b3 b4 b5 b6 b7 b8 b9 b10 b11 b12 b13 b14 b15 h9 hm => hk (b1, b2, b3, b4, b5, b6, b7, b8, b9, b10, b11, b12, b13, b14, b15) h9 hm)) (a1, a2, a3, a4, a5, a6, a7, a8, a9, a10, a11, a12, a13, a14, a15) h
theorem lp16 {A1 A2 A3 A4 A5 A6 A7 A8 A9 A10 A11 A12 A13 A14 A15 A16 : Type} (W : Nat → A1 → A2 → A3 → A4 → A5 → A6 → A7 → A8 → A9 → A10 → A11 → A12 → A13 → A14 → A15 → A16 → Prop) (I : A1 → A2 → A3 → A4 → A5 → A6 → A7 → A8 → A9 → A10 → A11 → A12 → A13 → A14 → A15 → A16 → Prop) (μ : A1 → A2 → A3 → A4 → A5 → A6 → A7 → A8 → A9 → A10 → A11 → A12 → A13 → A14 → A15 → A16 → Nat) (hs : ∀ (n : Nat) (a1 : A1) (a2 : A2) (a3 : A3) (a4 : A4) (a5 : A5) (a6 : A6) (a7 : A7) (a8 : A8) (a9 : A9) (a10 : A10) (a11 : A11) (a12 : A12) (a13 : A13) (a14 : A14) (a15 : A15) (a16 : A16), I a1 a2 a3 a4 a5 a6 a7 a8 a9 a10 a11 a12 a13 a14 a15 a16 → (∀ (b1 : A1) (b2 : A2) (b3 : A3) (b4 : A4) (b5 : A5) (b6 : A6) (b7 : A7) (b8 : A8) (b9 : A9) (b10 : A10) (b11 : A11) (b12 : A12) (b13 : A13) (b14 : A14) (b15 : A15) (b16 : A16), I b1 b2 b3 b4 b5 b6 b7 b8 b9 b10 b11 b12 b13 b14 b15 b16 → μ b1 b2 b3 b4 b5 b6 b7 b8 b9 b10 b11 b12 b13 b14 b15 b16 < μ a1 a2 a3 a4 a5 a6 a7 a8 a9 a10 a11 a12 a13 a14 a15 a16 → W n b1 b2 b3 b4 b5 b6 b7 b8 b9 b10 b11 b12 b13 b14 b15 b16) → W (n + 1) a1 a2 a3 a4 a5 a6 a7 a8 a9 a10 a11 a12 a13 a14 a15 a16) (a1 : A1) (a2 : A2) (a3 : A3) (a4 : A4) (a5 : A5) (a6 : A6) (a7 : A7) (a8 : A8) (a9 : A9) (a10 : A10) (a11 : A11) (a12 : A12) (a13 : A13) (a14 : A14) (a15 : A15) (a16 : A16) (h : I a1 a2 a3 a4 a5 a6 a7 a8 a9 a10 a11 a12 a13 a14 a15 a16) : ∃ n, W n a1 a2 a3 a4 a5 a6 a7 a8 a9 a10 a11 a12 a13 a14 a15 a16 :=
  loop_m (σ := A1 × A2 × A3 × A4 × A5 × A6 × A7 × A8 × A9 × A10 × A11 × A12 × A13 × A14 × A15 × A16) (fun n s => W n s.1 s.2.1 s.2.2.1 s.2.2.2.1 s.2.2.2.2.1 s.2.2.2.2.2.1 s.2.2.2.2.2.2.1 s.2.2.2.2.2.2.2.1 s.2.2.2.2.2.2.2.2.1 s.2.2.2.2.2.2.2.2.2.1 s.2.2.2.2.2.2.2.2.2.2.1 s.2.2.2.2.2.2.2.2.2.2.2.1 s.2.2.2.2.2.2.2.2.2.2.2.2.1 s.2.2.2.2.2.2.2.2.2.2.2.2.2.1 s.2.2.2.2.2.2.2.2.2.2.2.2.2.2.1 s.2.2.2.2.2.2.2.2.2.2.2.2.2.2.2) (fun s => I s.1 s.2.1 s.2.2.1 s.2.2.2.1 s.2.2.2.2.1 s.2.2.2.2.2.1 s.2.2.2.2.2.2.1 s.2.2.2.2.2.2.2.1 s.2.2.2.2.2.2.2.2.1 s.2.2.2.2.2.2.2.2.2.1 s.2.2.2.2.2.2.2.2.2.2.1 s.2.2.2.2.2.2.2.2.2.2.2.1 s.2.2.2.2.2.2.2.2.2.2.2.2.1 s.2.2.2.2.2.2.2.2.2.2.2.2.2.1 s.2.2.2.2.2.2.2.2.2.2.2.2.2.2.1 s.2.2.2.2.2.2.2.2.2.2.2.2.2.2.2) (fun s => μ s.1 s.2.1 s.2.2.1 s.2.2.2.1 s.2.2.2.2.1 s.2.2.2.2.2.1 s.2.2.2.2.2.2.1 s.2.2.2.2.2.2.2.1 s.2.2.2.2.2.2.2.2.1 s.2.2.2.2.2.2.2.2.2.1 s.2.2.2.2.2.2.2.2.2.2.1 s.2.2.2.2.2.2.2.2.2.2.2.1 s.2.2.2.2.2.2.2.2.2.2.2.2.1 s.2.2.2.2.2.2.2.2.2.2.2.2.2.1 s.2.2.2.2.2.2.2.2.2.2.2.2.2.2.1 s.2.2.2.2.2.2.2.2.2.2.2.2.2.2.2) (fun n s hI hk => hs n s.1 s.2.1 s.2.2.1 s.2.2.2.1 s.2.2.2.2.1 s.2.2.2.2.2.1 s.2.2.2.2.2.2.1 s.2.2.2.2.2.2.2.1 s.2.2.2.2.2.2.2.2.1 s.2.2.2.2.2.2.2.2.2.1 s.2.2.2.2.2.2.2.2.2.2.1 s.2.2.2.2.2.2.2.2.2.2.2.1 s.2.2.2.2.2.2.2.2.2.2.2.2.1 s.2.2.2.2.2.2.2.2.2.2.2.2.2.1 s.2.2.2.2.2.2.2.2.2.2.2.2.2.2.1 s.2.2.2.2.2.2.2.2.2.2.2.2.2.2.2 hI (fun b1 b2 b3 b4 b5 b6 b7 b8 b9 b10 b11 b12 b13 b14 b15 b16 h9 hm => hk (b1, b2, b3, b4, b5, b6, b7, b8, b9, b10, b11, b12, b13, b14, b15, b16) h9 hm)) (a1, a2, a3, a4, a5, a6, a7, a8, a9, a10, a11, a12, a13, a14, a15, a16) h
theorem pk_least (P : Nat → Prop) (h : ∃ k, P k) : ∃ k, P k ∧ ∀ j, j < k → ¬ P j := by
  obtain ⟨k, hk⟩ := h
  induction k using Nat.strongRecOn with
  | ind k ih =>
    by_cases e : ∃ j, j < k ∧ P j
    · obtain ⟨j, hj, pj⟩ := e
      exact ih j hj pj
    · exact ⟨k, hk, fun j hj pj => e ⟨j, hj, pj⟩⟩
theorem rp1 {ρ A1 : Type} (W : Nat → (ρ → Prop) → A1 → Prop) (ok : A1 → Prop) (μ : A1 → Nat) (val : A1 → ρ)
    (hs : ∀ (d : Nat) (post : ρ → Prop) (a1 : A1), ok a1 → post (val a1) → (∀ (post' : ρ → Prop) (b1 : A1), ok b1 → μ b1 < μ a1 → post' (val b1) → W d post' b1) → W (d + 1) post a1) :
    ∀ (d : Nat) (post : ρ → Prop) (a1 : A1), ok a1 → μ a1 < d → post (val a1) → W d post a1 := by
  intro d
  induction d with
  | zero => intro post a1 _ h; omega
  | succ d ih =>
    intro post a1 ho hm hp
    exact hs d post a1 ho hp (fun post' b1 ho' hm' hp' => ih post' b1 ho' (by omega) hp')
theorem rp2 {ρ A1 A2 : Type} (W : Nat → (ρ → Prop) → A1 → A2 → Prop) (ok : A1 → A2 → Prop) (μ : A1 → A2 → Nat) (val : A1 → A2 → ρ)
    (hs : ∀ (d : Nat) (post : ρ → Prop) (a1 : A1) (a2 : A2), ok a1 a2 → post (val a1 a2) → (∀ (post' : ρ → Prop) (b1 : A1) (b2 : A2), ok b1 b2 → μ b1 b2 < μ a1 a2 → post' (val b1 b2) → W d post' b1 b2) → W (d + 1) post a1 a2) :
    ∀ (d : Nat) (post : ρ → Prop) (a1 : A1) (a2 : A2), ok a1 a2 → μ a1 a2 < d → post (val a1 a2) → W d post a1 a2 := by
  intro d
  induction d with
  | zero => intro post a1 a2 _ h; omega
  | succ d ih =>
    intro post a1 a2 ho hm hp
    exact hs d post a1 a2 ho hp (fun post' b1 b2 ho' hm' hp' => ih post' b1 b2 ho' (by omega) hp')
theorem rp3 {ρ A1 A2 A3 : Type} (W : Nat → (ρ → Prop) → A1 → A2 → A3 → Prop) (ok : A1 → A2 → A3 → Prop) (μ : A1 → A2 → A3 → Nat) (val : A1 → A2 → A3 → ρ)
    (hs : ∀ (d : Nat) (post : ρ → Prop) (a1 : A1) (a2 : A2) (a3 : A3), ok a1 a2 a3 → post (val a1 a2 a3) → (∀ (post' : ρ → Prop) (b1 : A1) (b2 : A2) (b3 : A3), ok b1 b2 b3 → μ b1 b2 b3 < μ a1 a2 a3 → post' (val b1 b2 b3) → W d post' b1 b2 b3) → W (d + 1) post a1 a2 a3) :
    ∀ (d : Nat) (post : ρ → Prop) (a1 : A1) (a2 : A2) (a3 : A3), ok a1 a2 a3 → μ a1 a2 a3 < d → post (val a1 a2 a3) → W d post a1 a2 a3 := by
  intro d
  induction d with
  | zero => intro post a1 a2 a3 _ h; omega
  | succ d ih =>
    intro post a1 a2 a3 ho hm hp
    exact hs d post a1 a2 a3 ho hp (fun post' b1 b2 b3 ho' hm' hp' => ih post' b1 b2 b3 ho' (by omega) hp')
theorem rp4 {ρ A1 A2 A3 A4 : Type} (W : Nat → (ρ → Prop) → A1 → A2 → A3 → A4 → Prop) (ok : A1 → A2 → A3 → A4 → Prop) (μ : A1 → A2 → A3 → A4 → Nat) (val : A1 → A2 → A3 → A4 → ρ)
    (hs : ∀ (d : Nat) (post : ρ → Prop) (a1 : A1) (a2 : A2) (a3 : A3) (a4 : A4), ok a1 a2 a3 a4 → post (val a1 a2 a3 a4) → (∀ (post' : ρ → Prop) (b1 : A1) (b2 : A2) (b3 : A3) (b4 : A4), ok b1 b2 b3 b4 → μ b1 b2 b3 b4 < μ a1 a2 a3 a4 → post' (val b1 b2 b3 b4) → W d post' b1 b2 b3 b4) → W (d + 1) post a1 a2 a3 a4) :
    ∀ (d : Nat) (post : ρ → Prop) (a1 : A1) (a2 : A2) (a3 : A3) (a4 : A4), ok a1 a2 a3 a4 → μ a1 a2 a3 a4 < d → post (val a1 a2 a3 a4) → W d post a1 a2 a3 a4 := by
  intro d
  induction d with
  | zero => intro post a1 a2 a3 a4 _ h; omega
  | succ d ih =>
    intro post a1 a2 a3 a4 ho hm hp
    exact hs d post a1 a2 a3 a4 ho hp (fun post' b1 b2 b3 b4 ho' hm' hp' => ih post' b1 b2 b3 b4 ho' (by omega) hp')
theorem rp5 {ρ A1 A2 A3 A4 A5 : Type} (W : Nat → (ρ → Prop) → A1 → A2 → A3 → A4 → A5 → Prop) (ok : A1 → A2 → A3 → A4 → A5 → Prop) (μ : A1 → A2 → A3 → A4 → A5 → Nat) (val : A1 → A2 → A3 → A4 → A5 → ρ)
    (hs : ∀ (d : Nat) (post : ρ → Prop) (a1 : A1) (a2 : A2) (a3 : A3) (a4 : A4) (a5 : A5), ok a1 a2 a3 a4 a5 → post (val a1 a2 a3 a4 a5) → (∀ (post' : ρ → Prop) (b1 : A1) (b2 : A2) (b3 : A3) (b4 : A4) (b5 : A5), ok b1 b2 b3 b4 b5 → μ b1 b2 b3 b4 b5 < μ a1 a2 a3 a4 a5 → post' (val b1 b2 b3 b4 b5) → W d post' b1 b2 b3 b4 b5) → W (d + 1) post a1 a2 a3 a4 a5) :
    ∀ (d : Nat) (post : ρ → Prop) (a1 : A1) (a2 : A2) (a3 : A3) (a4 : A4) (a5 : A5), ok a1 a2 a3 a4 a5 → μ a1 a2 a3 a4 a5 < d → post (val a1 a2 a3 a4 a5) → W d post a1 a2 a3 a4 a5 := by
  intro d
  induction d with
  | zero => intro post a1 a2 a3 a4 a5 _ h; omega
  | succ d ih =>
    intro post a1 a2 a3 a4 a5 ho hm hp
    exact hs d post a1 a2 a3 a4 a5 ho hp (fun post' b1 b2 b3 b4 b5 ho' hm' hp' => ih post' b1 b2 b3 b4 b5 ho' (by omega) hp')
theorem rp6 {ρ A1 A2 A3 A4 A5 A6 : Type} (W : Nat → (ρ → Prop) → A1 → A2 → A3 → A4 → A5 → A6 → Prop) (ok : A1 → A2 → A3 → A4 → A5 → A6 → Prop) (μ : A1 → A2 → A3 → A4 → A5 → A6 → Nat) (val : A1 → A2 → A3 → A4 → A5 → A6 → ρ)
    (hs : ∀ (d : Nat) (post : ρ → Prop) (a1 : A1) (a2 : A2) (a3 : A3) (a4 : A4) (a5 : A5) (a6 : A6), ok a1 a2 a3 a4 a5 a6 → post (val a1 a2 a3 a4 a5 a6) → (∀ (post' : ρ → Prop) (b1 : A1) (b2 : A2) (b3 : A3) (b4 : A4) (b5 : A5) (b6 : A6), ok b1 b2 b3 b4 b5 b6 → μ b1 b2 b3 b4 b5 b6 < μ a1 a2 a3 a4 a5 a6 → post' (val b1 b2 b3 b4 b5 b6) → W d post' b1 b2 b3 b4 b5 b6) → W (d + 1) post a1 a2 a3 a4 a5 a6) :
    ∀ (d : Nat) (post : ρ → Prop) (a1 : A1) (a2 : A2) (a3 : A3) (a4 : A4) (a5 : A5) (a6 : A6), ok a1 a2 a3 a4 a5 a6 → μ a1 a2 a3 a4 a5 a6 < d → post (val a1 a2 a3 a4 a5 a6) → W d post a1 a2 a3 a4 a5 a6 := by
  intro d
  induction d with
  | zero => intro post a1 a2 a3 a4 a5 a6 _ h; omega
  | succ d ih =>
    intro post a1 a2 a3 a4 a5 a6 ho hm hp
    exact hs d post a1 a2 a3 a4 a5 a6 ho hp (fun post' b1 b2 b3 b4 b5 b6 ho' hm' hp' => ih post' b1 b2 b3 b4 b5 b6 ho' (by omega) hp')
theorem rec_p {σ ρ : Type} (W : Nat → (ρ → Prop) → σ → Prop) (ok : σ → Prop) (μ : σ → Nat) (val : σ → ρ)
    (hs : ∀ d s post, ok s → post (val s) → (∀ s' post', ok s' → μ s' < μ s → post' (val s') → W d post' s') → W (d + 1) post s) :
    ∀ d s post, ok s → μ s < d → post (val s) → W d post s := by
  intro d
  induction d with
  | zero => intro s post _ h; omega
  | succ d ih =>
    intro s post ho hm hp
    exact hs d s post ho hp (fun s' post' ho' hm' hp' => ih s' post' ho' (by omega) hp')
theorem rec_q {σ ρ : Type} (W : Nat → (ρ → Prop) → σ → Prop) (ok : σ → Prop) (μ : σ → Nat) (Q : σ → ρ → Prop)
    (hs : ∀ d s post, ok s → (∀ r, Q s r → post r) → (∀ s' post', ok s' → μ s' < μ s → (∀ r, Q s' r → post' r) → W d post' s') → W (d + 1) post s) :
    ∀ d s post, ok s → μ s < d → (∀ r, Q s r → post r) → W d post s := by
  intro d
  induction d with
  | zero => intro s post _ h; omega
  | succ d ih =>
    intro s post ho hm hp
    exact hs d s post ho hp (fun s' post' ho' hm' hp' => ih s' post' ho' (by omega) hp')
def bx_sum (f : Nat → Int32) : Nat → Int32
  | 0 => 0
  | n + 1 => bx_sum f n + f n
theorem ek_u {A : Prop} {B : Nat → Prop} {k N : Nat} (hk : k < N) (h : B k) : (some k = none → A) ∧ (∀ y : Nat, some k = some y → (y < N ∧ B y)) :=
  ⟨fun z => absurd z (Option.some_ne_none k), fun _ e => (by cases e; exact ⟨hk, h⟩)⟩
theorem ek_nu {A : Prop} {B : Nat → Prop} (h : A) : ((none : Option Nat) = none → A) ∧ (∀ y : Nat, (none : Option Nat) = some y → B y) :=
  ⟨fun _ => h, fun _ e => (by cases e)⟩
theorem ek_if {c d A B : Prop} (e : c ↔ d) (f : d → A) (g : ¬ d → B) : (c → A) ∧ (¬ c → B) :=
  ⟨fun z => f (e.mp z), fun z => g (fun y => z (e.mpr y))⟩
theorem ek_v {α : Sort _} {P : α → Prop} {a b : α} (e : a = b) (h : P b) : P a := e ▸ h
theorem co_some {x : Option Nat} {A : Prop} {B : Nat → Prop} (i : Nat) (h : B i) (hx : x = some i := by rfl) : (x = none → A) ∧ (∀ y : Nat, x = some y → B y) := by
  subst hx
  exact ⟨fun e => (nomatch e), fun y e => Option.some.inj e ▸ h⟩
theorem co_none {x : Option Nat} {A : Prop} {B : Nat → Prop} (h : A) (hx : x = none := by rfl) : (x = none → A) ∧ (∀ y : Nat, x = some y → B y) := by
  subst hx
  exact ⟨fun _ => h, fun y e => (nomatch e)⟩
theorem co_any {x : Option Nat} {A : Prop} {B : Nat → Prop} (hn : x = none → A) (hs : ∀ i : Nat, x = some i → B i) : (x = none → A) ∧ (∀ y : Nat, x = some y → B y) := ⟨hn, hs⟩
theorem co_2 {P : Nat → Prop} (h0 : P 0) (h1 : P 1) {i : Nat} (hi : i < 2) : P i :=
  match i, hi with
  | 0, _ => h0
  | 1, _ => h1
theorem co_3 {P : Nat → Prop} (h0 : P 0) (h1 : P 1) (h2 : P 2) {i : Nat} (hi : i < 3) : P i :=
  match i, hi with
  | 0, _ => h0
  | 1, _ => h1
  | 2, _ => h2
theorem co_4 {P : Nat → Prop} (h0 : P 0) (h1 : P 1) (h2 : P 2) (h3 : P 3) {i : Nat} (hi : i < 4) : P i :=
  match i, hi with
  | 0, _ => h0
  | 1, _ => h1
  | 2, _ => h2
  | 3, _ => h3
theorem co_dec {N : Nat} {P : Nat → Prop} [DecidablePred P] (h : (List.range N).all (fun i => decide (P i)) = true) {i : Nat} (hi : i < N) : P i := by
  have := List.all_eq_true.mp h i (List.mem_range.mpr hi)
  exact of_decide_eq_true this
theorem co_tab {α : Type} {l : List α} {d : α} {P : α → Prop} (h : ∀ a, a ∈ l → P a) {i : Nat} (hi : i < l.length) : P (l.getD i d) := by
  rw [List.getD_eq_getElem?_getD, List.getElem?_eq_getElem hi]
  exact h _ (List.getElem_mem hi)
theorem pk_mu {x : Int32} {L : Nat} (h0 : ¬ x < 0) (h : ¬ nI L ≤ x) (hL : L < 2 ^ 31) : ∃ j : Nat, j < L ∧ x = nI j ∧ x + 1 = nI (j + 1) ∧ x.toNatClampNeg = j ∧ L - (x + 1).toNatClampNeg < L - x.toNatClampNeg := by
  obtain ⟨j, hj, rfl⟩ := nI_of h0
  have hl : j < L := Nat.not_le.mp fun q => h (nI_le q hj)
  refine ⟨j, hl, rfl, nI_1 j, nI_clamp hj, ?_⟩
  rw [nI_1, nI_clamp (by omega), nI_clamp hj]
  omega
theorem op_s {α : Type} {r : Option α} {A : Prop} {B : α → Prop} {y : α} (h : r = some y) (b : B y) : (r = none → A) ∧ ∀ z, r = some z → B z :=
  ⟨fun e => (by rw [h] at e; cases e), fun z e => (by rw [h] at e; cases e; exact b)⟩
def l_holds {α : Type} (a : Nat → Option Nat) (LP : List Nat) (p : Nat → α) (c : Nat) (b : Nat → α) : Prop :=
  ∀ j, j < c → ∃ y, a j = some y ∧ y ∈ LP ∧ p y = b j
theorem l_holds_0 {α : Type} {a : Nat → Option Nat} {LP : List Nat} {p b : Nat → α} : l_holds a LP p 0 b := fun j h => absurd h (Nat.not_lt_zero j)
theorem l_in_new (LP : List Nat) (q : Nat) : q ∈ LP ++ [q] := List.mem_append.mpr (Or.inr (List.mem_singleton.mpr rfl))
def l_sum (b : Nat → Int32) : Nat → Int32
  | 0 => 0
  | k + 1 => l_sum b k + b k
theorem sb_shr0 (x : Int32) : x >>> ((0 : Int32) &&& 31) = x := by
  rw [show ((0 : Int32) &&& 31) = 0 by decide]
  simp
theorem sb_shl0 (x : Int32) : x <<< ((0 : Int32) &&& 31) = x := by
  rw [show ((0 : Int32) &&& 31) = 0 by decide]
  simp
theorem sb_cl0 : (0 : Int32).toNatClampNeg = 0 := by decide
theorem sb_m1 {p : Nat} (h : 0 < p) : nI p + (-1) = nI (p - 1) := by
  obtain ⟨q, rfl⟩ : ∃ q, p = q + 1 := ⟨p - 1, by omega⟩
  exact pk_m1 q
def sb_b (c : Nat) : Int32 := (nI c).toInt8.toInt32
theorem sb_byte : ∀ c, c < 256 → sb_b c &&& 255 = nI c ∧ ((nI c).toUInt32 % 65536).toInt32 = nI c ∧ nI c ≤ 255 := by decide +kernel
def sb_Fit (a : Nat → Int32) : Prop := ∀ j, fits .byte (.int (a j)) = true
def sb_Lat (t : Nat → Nat) (n : Nat) (a : Nat → Int32) : Prop := ∀ j, j < n → t j < 256 ∧ a j = sb_b (t j)
theorem sb_fitB (c : Nat) : fits .byte (.int (sb_b c)) = true := pk_fb _
theorem sb_fit0 : sb_Fit (fun _ => 0) := fun _ => by
  show fits .byte (.int 0) = true
  decide
theorem sb_fitU {a : Nat → Int32} {k : Nat} {x : Int32} (h : sb_Fit a) (hx : fits .byte (.int x) = true) : sb_Fit (upd a k x) := by
  intro j
  by_cases e : j = k
  · subst e
    rw [pk_us]
    exact hx
  · rw [pk_un e]
    exact h j
def sb_cat (t : Nat → Nat) (n : Nat) (s : Nat → Nat) : Nat → Nat := fun j => if j < n then t j else s (j - n)
theorem sb_cat_lo {t s : Nat → Nat} {n j : Nat} (h : j < n) : sb_cat t n s j = t j := if_pos h
theorem sb_cat_hi {t s : Nat → Nat} {n j : Nat} : sb_cat t n s (n + j) = s j := by
  show (if n + j < n then t (n + j) else s (n + j - n)) = s j
  rw [if_neg (by omega), Nat.add_sub_cancel_left]
theorem sb_latPut {t s : Nat → Nat} {n w : Nat} {a a' : Nat → Int32} (h : sb_Lat t n a) (hk : ∀ j, j < n → a' j = a j) (hs : ∀ i, i < w → s i < 256 ∧ a' (n + i) = sb_b (s i)) : sb_Lat (sb_cat t n s) (n + w) a' := by
  intro j hj
  by_cases e : j < n
  · rw [sb_cat_lo e, hk j e]
    exact h j e
  · obtain ⟨i, rfl⟩ : ∃ i, j = n + i := ⟨j - n, by omega⟩
    rw [sb_cat_hi]
    exact hs i (by omega)
theorem sb_latKeep {t : Nat → Nat} {n : Nat} {a a' : Nat → Int32} (h : sb_Lat t n a) (hk : ∀ j, j < n → a' j = a j) : sb_Lat t n a' := fun j hj => by
  rw [hk j hj]
  exact h j hj
def sb_cap (q m : Nat) : Nat := if q ≤ m then m else if 2 * m + 2 < q then q else 2 * m + 2
def sb_Room (q m mc ms : Nat) : Prop := q ≤ m ∨ (1 ≤ mc ∧ sb_cap q m ≤ ms ∧ sb_cap q m ≤ 65536)
theorem sb_cap_ge (q m : Nat) : q ≤ sb_cap q m := by
  unfold sb_cap
  split
  · omega
  · split <;> omega
theorem sb_cap_gem (q m : Nat) : m ≤ sb_cap q m := by
  unfold sb_cap
  split
  · omega
  · split <;> omega
theorem sb_cap_le {q m mc ms : Nat} (hm : m ≤ 65536) (hr : sb_Room q m mc ms) : sb_cap q m ≤ 65536 := by
  rcases hr with h | h
  · rw [sb_cap, if_pos h]
    exact hm
  · exact h.2.2
theorem sb_at {P : Int32 → Prop} {x y : Int32} (e : x = y) (h : P y) : P x := e ▸ h
def sb_dg (w : Nat) : Nat := if w < 10 then 1 else if w < 100 then 2 else if w < 1000 then 3 else if w < 10000 then 4 else if w < 100000 then 5 else if w < 1000000 then 6 else if w < 10000000 then 7 else if w < 100000000 then 8 else if w < 1000000000 then 9 else 10
def sb_dec (v : Nat) : Nat → Nat := fun i => 48 + v / 10 ^ (sb_dg v - 1 - i) % 10
theorem sb_dg_in (w : Nat) : 1 ≤ sb_dg w ∧ sb_dg w ≤ 10 := by
  unfold sb_dg
  constructor <;> (repeat' split) <;> omega
theorem sb_dg100 {w : Nat} (h : 100 ≤ w) (hw : w < 2 ^ 31) : sb_dg w = sb_dg (w / 100) + 2 := by
  rw [sb_dg, sb_dg, if_neg (show ¬ w < 10 by omega), if_neg (show ¬ w < 100 by omega)]
  by_cases h3 : w < 1000
  · rw [if_pos h3, if_pos (show w / 100 < 10 by omega)]
  rw [if_neg h3, if_neg (show ¬ w / 100 < 10 by omega)]
  by_cases h4 : w < 10000
  · rw [if_pos h4, if_pos (show w / 100 < 100 by omega)]
  rw [if_neg h4, if_neg (show ¬ w / 100 < 100 by omega)]
  by_cases h5 : w < 100000
  · rw [if_pos h5, if_pos (show w / 100 < 1000 by omega)]
  rw [if_neg h5, if_neg (show ¬ w / 100 < 1000 by omega)]
  by_cases h6 : w < 1000000
  · rw [if_pos h6, if_pos (show w / 100 < 10000 by omega)]
  rw [if_neg h6, if_neg (show ¬ w / 100 < 10000 by omega)]
  by_cases h7 : w < 10000000
  · rw [if_pos h7, if_pos (show w / 100 < 100000 by omega)]
  rw [if_neg h7, if_neg (show ¬ w / 100 < 100000 by omega)]
  by_cases h8 : w < 100000000
  · rw [if_pos h8, if_pos (show w / 100 < 1000000 by omega)]
  rw [if_neg h8, if_neg (show ¬ w / 100 < 1000000 by omega)]
  by_cases h9 : w < 1000000000
  · rw [if_pos h9, if_pos (show w / 100 < 10000000 by omega)]
  rw [if_neg h9, if_neg (show ¬ w / 100 < 10000000 by omega)]
  rw [if_pos (show w / 100 < 100000000 by omega)]
theorem sb_negT {w : Nat} (h : w < 2 ^ 31) : (-nI w).toInt = -(w : Int) := by
  rw [Int32.toInt_neg, nI_toInt h]
  exact Int.bmod_eq_of_le (by omega) (by omega)
theorem sb_nle {a b : Nat} (ha : a < 2 ^ 31) (hb : b < 2 ^ 31) : -nI a ≤ -nI b ↔ b ≤ a := by
  rw [Int32.le_iff_toInt_le, sb_negT ha, sb_negT hb]
  omega
theorem sb_nlt {a b : Nat} (ha : a < 2 ^ 31) (hb : b < 2 ^ 31) : -nI a < -nI b ↔ b < a := by
  rw [Int32.lt_iff_toInt_lt, sb_negT ha, sb_negT hb]
  omega
theorem sb_cmp {A B : Prop} {x : Int32} (v c : Nat) (f : c ≤ v → A) (g : v < c → B) (hv : v < 2 ^ 31) (hx : x = -nI c := by rfl) (hc : c < 2 ^ 31 := by omega) : (-nI v ≤ x → A) ∧ (¬ -nI v ≤ x → B) := by
  subst hx
  rw [sb_nle hv hc]
  exact ⟨f, fun z => g (by omega)⟩
theorem sb_ndiv {w : Nat} (hw : w < 2 ^ 31) : (-nI w) / 100 = -nI (w / 100) := by
  apply Int32.toInt_inj.mp
  have h100 : (100 : Int32).toInt = 100 := by decide
  rw [Int32.toInt_div, sb_negT hw, h100, sb_negT (by omega), Int.neg_tdiv, Int.tdiv_eq_ediv_of_nonneg (by omega), Int.bmod_eq_of_le (by omega) (by omega)]
  omega
theorem sb_nrem {w : Nat} (hw : w < 2 ^ 31) : (-nI (w / 100)) * 100 - (-nI w) = nI (w % 100) := by
  have h := pk_rem (a := w) (d := 100) hw (by decide) (by decide)
  rw [pk_div hw (by decide) (by decide)] at h
  rw [← h]
  show (-nI (w / 100)) * nI 100 - (-nI w) = nI w - nI (w / 100) * nI 100
  rw [Int32.neg_mul, Int32.sub_neg, Int32.add_comm, ← Int32.sub_eq_add_neg]
end
section
/-! accessors and setters of both states -/
abbrev xa_limit (u : SX) : Int32 := u.1
abbrev xa_source (u : SX) : Int32 := u.2.1
abbrev xa_stages (u : SX) : Int32 := u.2.2.1
abbrev xa_tokens (u : SX) : Int32 := u.2.2.2.1
abbrev xa_wrongPlace (u : SX) : Int32 := u.2.2.2.2.1
abbrev xa_waits (u : SX) : Int32 := u.2.2.2.2.2.1
abbrev xa_parens (u : SX) : Int32 := u.2.2.2.2.2.2.1
abbrev xa_opens (u : SX) : Int32 := u.2.2.2.2.2.2.2.1
abbrev xa_from (u : SX) : Int32 := u.2.2.2.2.2.2.2.2.1
abbrev xa_at (u : SX) : Int32 := u.2.2.2.2.2.2.2.2.2.1
abbrev xa_ended (u : SX) : Int32 := u.2.2.2.2.2.2.2.2.2.2.1
abbrev xa_spent (u : SX) : Int32 := u.2.2.2.2.2.2.2.2.2.2.2.1
abbrev xa_stopped (u : SX) : Int32 := u.2.2.2.2.2.2.2.2.2.2.2.2.1
abbrev xa_out (u : SX) : Int32 := u.2.2.2.2.2.2.2.2.2.2.2.2.2.1
abbrev xa_lastStages (u : SX) : Int32 := u.2.2.2.2.2.2.2.2.2.2.2.2.2.2.1
abbrev xa_failedStage (u : SX) : Int32 := u.2.2.2.2.2.2.2.2.2.2.2.2.2.2.2.1
abbrev xa_shownCount (u : SX) : Int32 := u.2.2.2.2.2.2.2.2.2.2.2.2.2.2.2.2.1
abbrev xa_element (u : SX) : Nat → Int32 := u.2.2.2.2.2.2.2.2.2.2.2.2.2.2.2.2.2.1
abbrev xa_length (u : SX) : Nat → Int32 := u.2.2.2.2.2.2.2.2.2.2.2.2.2.2.2.2.2.2.1
abbrev xa_kind (u : SX) : Nat → Int32 := u.2.2.2.2.2.2.2.2.2.2.2.2.2.2.2.2.2.2.2.1
abbrev xa_constant (u : SX) : Nat → Int32 := u.2.2.2.2.2.2.2.2.2.2.2.2.2.2.2.2.2.2.2.2.1
abbrev xa_step (u : SX) : Nat → Int32 := u.2.2.2.2.2.2.2.2.2.2.2.2.2.2.2.2.2.2.2.2.2.1
abbrev xa_number (u : SX) : Nat → Int32 := u.2.2.2.2.2.2.2.2.2.2.2.2.2.2.2.2.2.2.2.2.2.2.1
abbrev xa_steps (u : SX) : Nat → Int32 := u.2.2.2.2.2.2.2.2.2.2.2.2.2.2.2.2.2.2.2.2.2.2.2.1
abbrev xa_quick (u : SX) : Nat → Int32 := u.2.2.2.2.2.2.2.2.2.2.2.2.2.2.2.2.2.2.2.2.2.2.2.2.1
abbrev xa_token (u : SX) : Nat → Int32 := u.2.2.2.2.2.2.2.2.2.2.2.2.2.2.2.2.2.2.2.2.2.2.2.2.2.1
abbrev xa_waiting (u : SX) : Nat → Int32 := u.2.2.2.2.2.2.2.2.2.2.2.2.2.2.2.2.2.2.2.2.2.2.2.2.2.2.1
abbrev xa_compared (u : SX) : Nat → Int32 := u.2.2.2.2.2.2.2.2.2.2.2.2.2.2.2.2.2.2.2.2.2.2.2.2.2.2.2.1
abbrev xa_operand (u : SX) : Nat → Int32 := u.2.2.2.2.2.2.2.2.2.2.2.2.2.2.2.2.2.2.2.2.2.2.2.2.2.2.2.2.1
abbrev xa_memory (u : SX) : Nat → Int32 := u.2.2.2.2.2.2.2.2.2.2.2.2.2.2.2.2.2.2.2.2.2.2.2.2.2.2.2.2.2.1
abbrev xa_begun (u : SX) : Nat → Int32 := u.2.2.2.2.2.2.2.2.2.2.2.2.2.2.2.2.2.2.2.2.2.2.2.2.2.2.2.2.2.2.1
abbrev xa_place (u : SX) : Nat → Int32 := u.2.2.2.2.2.2.2.2.2.2.2.2.2.2.2.2.2.2.2.2.2.2.2.2.2.2.2.2.2.2.2.1
abbrev xa_held (u : SX) : Nat → Int32 := u.2.2.2.2.2.2.2.2.2.2.2.2.2.2.2.2.2.2.2.2.2.2.2.2.2.2.2.2.2.2.2.2.1
abbrev xa_keyOf (u : SX) : Nat → Int32 := u.2.2.2.2.2.2.2.2.2.2.2.2.2.2.2.2.2.2.2.2.2.2.2.2.2.2.2.2.2.2.2.2.2.1
abbrev xa_next (u : SX) : Nat → Int32 := u.2.2.2.2.2.2.2.2.2.2.2.2.2.2.2.2.2.2.2.2.2.2.2.2.2.2.2.2.2.2.2.2.2.2.1
abbrev xa_size (u : SX) : Nat → Int32 := u.2.2.2.2.2.2.2.2.2.2.2.2.2.2.2.2.2.2.2.2.2.2.2.2.2.2.2.2.2.2.2.2.2.2.2.1
abbrev xa_head (u : SX) : Nat → Int32 := u.2.2.2.2.2.2.2.2.2.2.2.2.2.2.2.2.2.2.2.2.2.2.2.2.2.2.2.2.2.2.2.2.2.2.2.2.1
abbrev xa_openStage (u : SX) : Nat → Int32 := u.2.2.2.2.2.2.2.2.2.2.2.2.2.2.2.2.2.2.2.2.2.2.2.2.2.2.2.2.2.2.2.2.2.2.2.2.2.1
abbrev xa_openValue (u : SX) : Nat → Int32 := u.2.2.2.2.2.2.2.2.2.2.2.2.2.2.2.2.2.2.2.2.2.2.2.2.2.2.2.2.2.2.2.2.2.2.2.2.2.2.1
abbrev xa_openLeft (u : SX) : Nat → Int32 := u.2.2.2.2.2.2.2.2.2.2.2.2.2.2.2.2.2.2.2.2.2.2.2.2.2.2.2.2.2.2.2.2.2.2.2.2.2.2.2.1
abbrev xa_applications (u : SX) : Nat → Int32 := u.2.2.2.2.2.2.2.2.2.2.2.2.2.2.2.2.2.2.2.2.2.2.2.2.2.2.2.2.2.2.2.2.2.2.2.2.2.2.2.2.1
abbrev xa_reads (u : SX) : Nat → Int32 := u.2.2.2.2.2.2.2.2.2.2.2.2.2.2.2.2.2.2.2.2.2.2.2.2.2.2.2.2.2.2.2.2.2.2.2.2.2.2.2.2.2.1
abbrev xa_shown (u : SX) : Nat → Int32 := u.2.2.2.2.2.2.2.2.2.2.2.2.2.2.2.2.2.2.2.2.2.2.2.2.2.2.2.2.2.2.2.2.2.2.2.2.2.2.2.2.2.2
def xs_limit (u : SX) (z : Int32) : SX := (z, u.2)
def xs_source (u : SX) (z : Int32) : SX := (u.1, z, u.2.2)
def xs_stages (u : SX) (z : Int32) : SX := (u.1, u.2.1, z, u.2.2.2)
def xs_tokens (u : SX) (z : Int32) : SX := (u.1, u.2.1, u.2.2.1, z, u.2.2.2.2)
def xs_wrongPlace (u : SX) (z : Int32) : SX := (u.1, u.2.1, u.2.2.1, u.2.2.2.1, z, u.2.2.2.2.2)
def xs_waits (u : SX) (z : Int32) : SX := (u.1, u.2.1, u.2.2.1, u.2.2.2.1, u.2.2.2.2.1, z, u.2.2.2.2.2.2)
def xs_parens (u : SX) (z : Int32) : SX := (u.1, u.2.1, u.2.2.1, u.2.2.2.1, u.2.2.2.2.1, u.2.2.2.2.2.1, z, u.2.2.2.2.2.2.2)
def xs_opens (u : SX) (z : Int32) : SX := (u.1, u.2.1, u.2.2.1, u.2.2.2.1, u.2.2.2.2.1, u.2.2.2.2.2.1, u.2.2.2.2.2.2.1, z, u.2.2.2.2.2.2.2.2)
def xs_from (u : SX) (z : Int32) : SX := (u.1, u.2.1, u.2.2.1, u.2.2.2.1, u.2.2.2.2.1, u.2.2.2.2.2.1, u.2.2.2.2.2.2.1, u.2.2.2.2.2.2.2.1, z, u.2.2.2.2.2.2.2.2.2)
def xs_at (u : SX) (z : Int32) : SX := (u.1, u.2.1, u.2.2.1, u.2.2.2.1, u.2.2.2.2.1, u.2.2.2.2.2.1, u.2.2.2.2.2.2.1, u.2.2.2.2.2.2.2.1, u.2.2.2.2.2.2.2.2.1, z, u.2.2.2.2.2.2.2.2.2.2)
def xs_ended (u : SX) (z : Int32) : SX := (u.1, u.2.1, u.2.2.1, u.2.2.2.1, u.2.2.2.2.1, u.2.2.2.2.2.1, u.2.2.2.2.2.2.1, u.2.2.2.2.2.2.2.1, u.2.2.2.2.2.2.2.2.1, u.2.2.2.2.2.2.2.2.2.1, z, u.2.2.2.2.2.2.2.2.2.2.2)
def xs_spent (u : SX) (z : Int32) : SX := (u.1, u.2.1, u.2.2.1, u.2.2.2.1, u.2.2.2.2.1, u.2.2.2.2.2.1, u.2.2.2.2.2.2.1, u.2.2.2.2.2.2.2.1, u.2.2.2.2.2.2.2.2.1, u.2.2.2.2.2.2.2.2.2.1, u.2.2.2.2.2.2.2.2.2.2.1, z, u.2.2.2.2.2.2.2.2.2.2.2.2)
def xs_stopped (u : SX) (z : Int32) : SX := (u.1, u.2.1, u.2.2.1, u.2.2.2.1, u.2.2.2.2.1, u.2.2.2.2.2.1, u.2.2.2.2.2.2.1, u.2.2.2.2.2.2.2.1, u.2.2.2.2.2.2.2.2.1, u.2.2.2.2.2.2.2.2.2.1, u.2.2.2.2.2.2.2.2.2.2.1, u.2.2.2.2.2.2.2.2.2.2.2.1, z, u.2.2.2.2.2.2.2.2.2.2.2.2.2)
def xs_out (u : SX) (z : Int32) : SX := (u.1, u.2.1, u.2.2.1, u.2.2.2.1, u.2.2.2.2.1, u.2.2.2.2.2.1, u.2.2.2.2.2.2.1, u.2.2.2.2.2.2.2.1, u.2.2.2.2.2.2.2.2.1, u.2.2.2.2.2.2.2.2.2.1, u.2.2.2.2.2.2.2.2.2.2.1, u.2.2.2.2.2.2.2.2.2.2.2.1, u.2.2.2.2.2.2.2.2.2.2.2.2.1, z, u.2.2.2.2.2.2.2.2.2.2.2.2.2.2)
def xs_lastStages (u : SX) (z : Int32) : SX := (u.1, u.2.1, u.2.2.1, u.2.2.2.1, u.2.2.2.2.1, u.2.2.2.2.2.1, u.2.2.2.2.2.2.1, u.2.2.2.2.2.2.2.1, u.2.2.2.2.2.2.2.2.1, u.2.2.2.2.2.2.2.2.2.1, u.2.2.2.2.2.2.2.2.2.2.1, u.2.2.2.2.2.2.2.2.2.2.2.1, u.2.2.2.2.2.2.2.2.2.2.2.2.1, u.2.2.2.2.2.2.2.2.2.2.2.2.2.1, z, u.2.2.2.2.2.2.2.2.2.2.2.2.2.2.2)
def xs_failedStage (u : SX) (z : Int32) : SX := (u.1, u.2.1, u.2.2.1, u.2.2.2.1, u.2.2.2.2.1, u.2.2.2.2.2.1, u.2.2.2.2.2.2.1, u.2.2.2.2.2.2.2.1, u.2.2.2.2.2.2.2.2.1, u.2.2.2.2.2.2.2.2.2.1, u.2.2.2.2.2.2.2.2.2.2.1, u.2.2.2.2.2.2.2.2.2.2.2.1, u.2.2.2.2.2.2.2.2.2.2.2.2.1, u.2.2.2.2.2.2.2.2.2.2.2.2.2.1, u.2.2.2.2.2.2.2.2.2.2.2.2.2.2.1, z, u.2.2.2.2.2.2.2.2.2.2.2.2.2.2.2.2)
def xs_shownCount (u : SX) (z : Int32) : SX := (u.1, u.2.1, u.2.2.1, u.2.2.2.1, u.2.2.2.2.1, u.2.2.2.2.2.1, u.2.2.2.2.2.2.1, u.2.2.2.2.2.2.2.1, u.2.2.2.2.2.2.2.2.1, u.2.2.2.2.2.2.2.2.2.1, u.2.2.2.2.2.2.2.2.2.2.1, u.2.2.2.2.2.2.2.2.2.2.2.1, u.2.2.2.2.2.2.2.2.2.2.2.2.1, u.2.2.2.2.2.2.2.2.2.2.2.2.2.1, u.2.2.2.2.2.2.2.2.2.2.2.2.2.2.1, u.2.2.2.2.2.2.2.2.2.2.2.2.2.2.2.1, z, u.2.2.2.2.2.2.2.2.2.2.2.2.2.2.2.2.2)
def xs_element (u : SX) (z : Nat → Int32) : SX := (u.1, u.2.1, u.2.2.1, u.2.2.2.1, u.2.2.2.2.1, u.2.2.2.2.2.1, u.2.2.2.2.2.2.1, u.2.2.2.2.2.2.2.1, u.2.2.2.2.2.2.2.2.1, u.2.2.2.2.2.2.2.2.2.1, u.2.2.2.2.2.2.2.2.2.2.1, u.2.2.2.2.2.2.2.2.2.2.2.1, u.2.2.2.2.2.2.2.2.2.2.2.2.1, u.2.2.2.2.2.2.2.2.2.2.2.2.2.1, u.2.2.2.2.2.2.2.2.2.2.2.2.2.2.1, u.2.2.2.2.2.2.2.2.2.2.2.2.2.2.2.1, u.2.2.2.2.2.2.2.2.2.2.2.2.2.2.2.2.1, z, u.2.2.2.2.2.2.2.2.2.2.2.2.2.2.2.2.2.2)
def xs_length (u : SX) (z : Nat → Int32) : SX := (u.1, u.2.1, u.2.2.1, u.2.2.2.1, u.2.2.2.2.1, u.2.2.2.2.2.1, u.2.2.2.2.2.2.1, u.2.2.2.2.2.2.2.1, u.2.2.2.2.2.2.2.2.1, u.2.2.2.2.2.2.2.2.2.1, u.2.2.2.2.2.2.2.2.2.2.1, u.2.2.2.2.2.2.2.2.2.2.2.1, u.2.2.2.2.2.2.2.2.2.2.2.2.1, u.2.2.2.2.2.2.2.2.2.2.2.2.2.1, u.2.2.2.2.2.2.2.2.2.2.2.2.2.2.1, u.2.2.2.2.2.2.2.2.2.2.2.2.2.2.2.1, u.2.2.2.2.2.2.2.2.2.2.2.2.2.2.2.2.1, u.2.2.2.2.2.2.2.2.2.2.2.2.2.2.2.2.2.1, z, u.2.2.2.2.2.2.2.2.2.2.2.2.2.2.2.2.2.2.2)
def xs_kind (u : SX) (z : Nat → Int32) : SX := (u.1, u.2.1, u.2.2.1, u.2.2.2.1, u.2.2.2.2.1, u.2.2.2.2.2.1, u.2.2.2.2.2.2.1, u.2.2.2.2.2.2.2.1, u.2.2.2.2.2.2.2.2.1, u.2.2.2.2.2.2.2.2.2.1, u.2.2.2.2.2.2.2.2.2.2.1, u.2.2.2.2.2.2.2.2.2.2.2.1, u.2.2.2.2.2.2.2.2.2.2.2.2.1, u.2.2.2.2.2.2.2.2.2.2.2.2.2.1, u.2.2.2.2.2.2.2.2.2.2.2.2.2.2.1, u.2.2.2.2.2.2.2.2.2.2.2.2.2.2.2.1, u.2.2.2.2.2.2.2.2.2.2.2.2.2.2.2.2.1, u.2.2.2.2.2.2.2.2.2.2.2.2.2.2.2.2.2.1, u.2.2.2.2.2.2.2.2.2.2.2.2.2.2.2.2.2.2.1, z, u.2.2.2.2.2.2.2.2.2.2.2.2.2.2.2.2.2.2.2.2)
def xs_constant (u : SX) (z : Nat → Int32) : SX := (u.1, u.2.1, u.2.2.1, u.2.2.2.1, u.2.2.2.2.1, u.2.2.2.2.2.1, u.2.2.2.2.2.2.1, u.2.2.2.2.2.2.2.1, u.2.2.2.2.2.2.2.2.1, u.2.2.2.2.2.2.2.2.2.1, u.2.2.2.2.2.2.2.2.2.2.1, u.2.2.2.2.2.2.2.2.2.2.2.1, u.2.2.2.2.2.2.2.2.2.2.2.2.1, u.2.2.2.2.2.2.2.2.2.2.2.2.2.1, u.2.2.2.2.2.2.2.2.2.2.2.2.2.2.1, u.2.2.2.2.2.2.2.2.2.2.2.2.2.2.2.1, u.2.2.2.2.2.2.2.2.2.2.2.2.2.2.2.2.1, u.2.2.2.2.2.2.2.2.2.2.2.2.2.2.2.2.2.1, u.2.2.2.2.2.2.2.2.2.2.2.2.2.2.2.2.2.2.1, u.2.2.2.2.2.2.2.2.2.2.2.2.2.2.2.2.2.2.2.1, z, u.2.2.2.2.2.2.2.2.2.2.2.2.2.2.2.2.2.2.2.2.2)
def xs_step (u : SX) (z : Nat → Int32) : SX := (u.1, u.2.1, u.2.2.1, u.2.2.2.1, u.2.2.2.2.1, u.2.2.2.2.2.1, u.2.2.2.2.2.2.1, u.2.2.2.2.2.2.2.1, u.2.2.2.2.2.2.2.2.1, u.2.2.2.2.2.2.2.2.2.1, u.2.2.2.2.2.2.2.2.2.2.1, u.2.2.2.2.2.2.2.2.2.2.2.1, u.2.2.2.2.2.2.2.2.2.2.2.2.1, u.2.2.2.2.2.2.2.2.2.2.2.2.2.1, u.2.2.2.2.2.2.2.2.2.2.2.2.2.2.1, u.2.2.2.2.2.2.2.2.2.2.2.2.2.2.2.1, u.2.2.2.2.2.2.2.2.2.2.2.2.2.2.2.2.1, u.2.2.2.2.2.2.2.2.2.2.2.2.2.2.2.2.2.1, u.2.2.2.2.2.2.2.2.2.2.2.2.2.2.2.2.2.2.1, u.2.2.2.2.2.2.2.2.2.2.2.2.2.2.2.2.2.2.2.1, u.2.2.2.2.2.2.2.2.2.2.2.2.2.2.2.2.2.2.2.2.1, z, u.2.2.2.2.2.2.2.2.2.2.2.2.2.2.2.2.2.2.2.2.2.2)
def xs_number (u : SX) (z : Nat → Int32) : SX := (u.1, u.2.1, u.2.2.1, u.2.2.2.1, u.2.2.2.2.1, u.2.2.2.2.2.1, u.2.2.2.2.2.2.1, u.2.2.2.2.2.2.2.1, u.2.2.2.2.2.2.2.2.1, u.2.2.2.2.2.2.2.2.2.1, u.2.2.2.2.2.2.2.2.2.2.1, u.2.2.2.2.2.2.2.2.2.2.2.1, u.2.2.2.2.2.2.2.2.2.2.2.2.1, u.2.2.2.2.2.2.2.2.2.2.2.2.2.1, u.2.2.2.2.2.2.2.2.2.2.2.2.2.2.1, u.2.2.2.2.2.2.2.2.2.2.2.2.2.2.2.1, u.2.2.2.2.2.2.2.2.2.2.2.2.2.2.2.2.1, u.2.2.2.2.2.2.2.2.2.2.2.2.2.2.2.2.2.1, u.2.2.2.2.2.2.2.2.2.2.2.2.2.2.2.2.2.2.1, u.2.2.2.2.2.2.2.2.2.2.2.2.2.2.2.2.2.2.2.1, u.2.2.2.2.2.2.2.2.2.2.2.2.2.2.2.2.2.2.2.2.1, u.2.2.2.2.2.2.2.2.2.2.2.2.2.2.2.2.2.2.2.2.2.1, z, u.2.2.2.2.2.2.2.2.2.2.2.2.2.2.2.2.2.2.2.2.2.2.2)
def xs_steps (u : SX) (z : Nat → Int32) : SX := (u.1, u.2.1, u.2.2.1, u.2.2.2.1, u.2.2.2.2.1, u.2.2.2.2.2.1, u.2.2.2.2.2.2.1, u.2.2.2.2.2.2.2.1, u.2.2.2.2.2.2.2.2.1, u.2.2.2.2.2.2.2.2.2.1, u.2.2.2.2.2.2.2.2.2.2.1, u.2.2.2.2.2.2.2.2.2.2.2.1, u.2.2.2.2.2.2.2.2.2.2.2.2.1, u.2.2.2.2.2.2.2.2.2.2.2.2.2.1, u.2.2.2.2.2.2.2.2.2.2.2.2.2.2.1, u.2.2.2.2.2.2.2.2.2.2.2.2.2.2.2.1, u.2.2.2.2.2.2.2.2.2.2.2.2.2.2.2.2.1, u.2.2.2.2.2.2.2.2.2.2.2.2.2.2.2.2.2.1, u.2.2.2.2.2.2.2.2.2.2.2.2.2.2.2.2.2.2.1, u.2.2.2.2.2.2.2.2.2.2.2.2.2.2.2.2.2.2.2.1, u.2.2.2.2.2.2.2.2.2.2.2.2.2.2.2.2.2.2.2.2.1, u.2.2.2.2.2.2.2.2.2.2.2.2.2.2.2.2.2.2.2.2.2.1, u.2.2.2.2.2.2.2.2.2.2.2.2.2.2.2.2.2.2.2.2.2.2.1, z, u.2.2.2.2.2.2.2.2.2.2.2.2.2.2.2.2.2.2.2.2.2.2.2.2)
def xs_quick (u : SX) (z : Nat → Int32) : SX := (u.1, u.2.1, u.2.2.1, u.2.2.2.1, u.2.2.2.2.1, u.2.2.2.2.2.1, u.2.2.2.2.2.2.1, u.2.2.2.2.2.2.2.1, u.2.2.2.2.2.2.2.2.1, u.2.2.2.2.2.2.2.2.2.1, u.2.2.2.2.2.2.2.2.2.2.1, u.2.2.2.2.2.2.2.2.2.2.2.1, u.2.2.2.2.2.2.2.2.2.2.2.2.1, u.2.2.2.2.2.2.2.2.2.2.2.2.2.1, u.2.2.2.2.2.2.2.2.2.2.2.2.2.2.1, u.2.2.2.2.2.2.2.2.2.2.2.2.2.2.2.1, u.2.2.2.2.2.2.2.2.2.2.2.2.2.2.2.2.1, u.2.2.2.2.2.2.2.2.2.2.2.2.2.2.2.2.2.1, u.2.2.2.2.2.2.2.2.2.2.2.2.2.2.2.2.2.2.1, u.2.2.2.2.2.2.2.2.2.2.2.2.2.2.2.2.2.2.2.1, u.2.2.2.2.2.2.2.2.2.2.2.2.2.2.2.2.2.2.2.2.1, u.2.2.2.2.2.2.2.2.2.2.2.2.2.2.2.2.2.2.2.2.2.1, u.2.2.2.2.2.2.2.2.2.2.2.2.2.2.2.2.2.2.2.2.2.2.1, u.2.2.2.2.2.2.2.2.2.2.2.2.2.2.2.2.2.2.2.2.2.2.2.1, z, u.2.2.2.2.2.2.2.2.2.2.2.2.2.2.2.2.2.2.2.2.2.2.2.2.2)
def xs_token (u : SX) (z : Nat → Int32) : SX := (u.1, u.2.1, u.2.2.1, u.2.2.2.1, u.2.2.2.2.1, u.2.2.2.2.2.1, u.2.2.2.2.2.2.1, u.2.2.2.2.2.2.2.1, u.2.2.2.2.2.2.2.2.1, u.2.2.2.2.2.2.2.2.2.1, u.2.2.2.2.2.2.2.2.2.2.1, u.2.2.2.2.2.2.2.2.2.2.2.1, u.2.2.2.2.2.2.2.2.2.2.2.2.1, u.2.2.2.2.2.2.2.2.2.2.2.2.2.1, u.2.2.2.2.2.2.2.2.2.2.2.2.2.2.1, u.2.2.2.2.2.2.2.2.2.2.2.2.2.2.2.1, u.2.2.2.2.2.2.2.2.2.2.2.2.2.2.2.2.1, u.2.2.2.2.2.2.2.2.2.2.2.2.2.2.2.2.2.1, u.2.2.2.2.2.2.2.2.2.2.2.2.2.2.2.2.2.2.1, u.2.2.2.2.2.2.2.2.2.2.2.2.2.2.2.2.2.2.2.1, u.2.2.2.2.2.2.2.2.2.2.2.2.2.2.2.2.2.2.2.2.1, u.2.2.2.2.2.2.2.2.2.2.2.2.2.2.2.2.2.2.2.2.2.1, u.2.2.2.2.2.2.2.2.2.2.2.2.2.2.2.2.2.2.2.2.2.2.1, u.2.2.2.2.2.2.2.2.2.2.2.2.2.2.2.2.2.2.2.2.2.2.2.1, u.2.2.2.2.2.2.2.2.2.2.2.2.2.2.2.2.2.2.2.2.2.2.2.2.1, z, u.2.2.2.2.2.2.2.2.2.2.2.2.2.2.2.2.2.2.2.2.2.2.2.2.2.2)
def xs_waiting (u : SX) (z : Nat → Int32) : SX := (u.1, u.2.1, u.2.2.1, u.2.2.2.1, u.2.2.2.2.1, u.2.2.2.2.2.1, u.2.2.2.2.2.2.1, u.2.2.2.2.2.2.2.1, u.2.2.2.2.2.2.2.2.1, u.2.2.2.2.2.2.2.2.2.1, u.2.2.2.2.2.2.2.2.2.2.1, u.2.2.2.2.2.2.2.2.2.2.2.1, u.2.2.2.2.2.2.2.2.2.2.2.2.1, u.2.2.2.2.2.2.2.2.2.2.2.2.2.1, u.2.2.2.2.2.2.2.2.2.2.2.2.2.2.1, u.2.2.2.2.2.2.2.2.2.2.2.2.2.2.2.1, u.2.2.2.2.2.2.2.2.2.2.2.2.2.2.2.2.1, u.2.2.2.2.2.2.2.2.2.2.2.2.2.2.2.2.2.1, u.2.2.2.2.2.2.2.2.2.2.2.2.2.2.2.2.2.2.1, u.2.2.2.2.2.2.2.2.2.2.2.2.2.2.2.2.2.2.2.1, u.2.2.2.2.2.2.2.2.2.2.2.2.2.2.2.2.2.2.2.2.1, u.2.2.2.2.2.2.2.2.2.2.2.2.2.2.2.2.2.2.2.2.2.1, u.2.2.2.2.2.2.2.2.2.2.2.2.2.2.2.2.2.2.2.2.2.2.1, u.2.2.2.2.2.2.2.2.2.2.2.2.2.2.2.2.2.2.2.2.2.2.2.1, u.2.2.2.2.2.2.2.2.2.2.2.2.2.2.2.2.2.2.2.2.2.2.2.2.1, u.2.2.2.2.2.2.2.2.2.2.2.2.2.2.2.2.2.2.2.2.2.2.2.2.2.1, z, u.2.2.2.2.2.2.2.2.2.2.2.2.2.2.2.2.2.2.2.2.2.2.2.2.2.2.2)
def xs_compared (u : SX) (z : Nat → Int32) : SX := (u.1, u.2.1, u.2.2.1, u.2.2.2.1, u.2.2.2.2.1, u.2.2.2.2.2.1, u.2.2.2.2.2.2.1, u.2.2.2.2.2.2.2.1, u.2.2.2.2.2.2.2.2.1, u.2.2.2.2.2.2.2.2.2.1, u.2.2.2.2.2.2.2.2.2.2.1, u.2.2.2.2.2.2.2.2.2.2.2.1, u.2.2.2.2.2.2.2.2.2.2.2.2.1, u.2.2.2.2.2.2.2.2.2.2.2.2.2.1, u.2.2.2.2.2.2.2.2.2.2.2.2.2.2.1, u.2.2.2.2.2.2.2.2.2.2.2.2.2.2.2.1, u.2.2.2.2.2.2.2.2.2.2.2.2.2.2.2.2.1, u.2.2.2.2.2.2.2.2.2.2.2.2.2.2.2.2.2.1, u.2.2.2.2.2.2.2.2.2.2.2.2.2.2.2.2.2.2.1, u.2.2.2.2.2.2.2.2.2.2.2.2.2.2.2.2.2.2.2.1, u.2.2.2.2.2.2.2.2.2.2.2.2.2.2.2.2.2.2.2.2.1, u.2.2.2.2.2.2.2.2.2.2.2.2.2.2.2.2.2.2.2.2.2.1, u.2.2.2.2.2.2.2.2.2.2.2.2.2.2.2.2.2.2.2.2.2.2.1, u.2.2.2.2.2.2.2.2.2.2.2.2.2.2.2.2.2.2.2.2.2.2.2.1, u.2.2.2.2.2.2.2.2.2.2.2.2.2.2.2.2.2.2.2.2.2.2.2.2.1, u.2.2.2.2.2.2.2.2.2.2.2.2.2.2.2.2.2.2.2.2.2.2.2.2.2.1, u.2.2.2.2.2.2.2.2.2.2.2.2.2.2.2.2.2.2.2.2.2.2.2.2.2.2.1, z, u.2.2.2.2.2.2.2.2.2.2.2.2.2.2.2.2.2.2.2.2.2.2.2.2.2.2.2.2)
def xs_operand (u : SX) (z : Nat → Int32) : SX := (u.1, u.2.1, u.2.2.1, u.2.2.2.1, u.2.2.2.2.1, u.2.2.2.2.2.1, u.2.2.2.2.2.2.1, u.2.2.2.2.2.2.2.1, u.2.2.2.2.2.2.2.2.1, u.2.2.2.2.2.2.2.2.2.1, u.2.2.2.2.2.2.2.2.2.2.1, u.2.2.2.2.2.2.2.2.2.2.2.1, u.2.2.2.2.2.2.2.2.2.2.2.2.1, u.2.2.2.2.2.2.2.2.2.2.2.2.2.1, u.2.2.2.2.2.2.2.2.2.2.2.2.2.2.1, u.2.2.2.2.2.2.2.2.2.2.2.2.2.2.2.1, u.2.2.2.2.2.2.2.2.2.2.2.2.2.2.2.2.1, u.2.2.2.2.2.2.2.2.2.2.2.2.2.2.2.2.2.1, u.2.2.2.2.2.2.2.2.2.2.2.2.2.2.2.2.2.2.1, u.2.2.2.2.2.2.2.2.2.2.2.2.2.2.2.2.2.2.2.1, u.2.2.2.2.2.2.2.2.2.2.2.2.2.2.2.2.2.2.2.2.1, u.2.2.2.2.2.2.2.2.2.2.2.2.2.2.2.2.2.2.2.2.2.1, u.2.2.2.2.2.2.2.2.2.2.2.2.2.2.2.2.2.2.2.2.2.2.1, u.2.2.2.2.2.2.2.2.2.2.2.2.2.2.2.2.2.2.2.2.2.2.2.1, u.2.2.2.2.2.2.2.2.2.2.2.2.2.2.2.2.2.2.2.2.2.2.2.2.1, u.2.2.2.2.2.2.2.2.2.2.2.2.2.2.2.2.2.2.2.2.2.2.2.2.2.1, u.2.2.2.2.2.2.2.2.2.2.2.2.2.2.2.2.2.2.2.2.2.2.2.2.2.2.1, u.2.2.2.2.2.2.2.2.2.2.2.2.2.2.2.2.2.2.2.2.2.2.2.2.2.2.2.1, z, u.2.2.2.2.2.2.2.2.2.2.2.2.2.2.2.2.2.2.2.2.2.2.2.2.2.2.2.2.2)
def xs_memory (u : SX) (z : Nat → Int32) : SX := (u.1, u.2.1, u.2.2.1, u.2.2.2.1, u.2.2.2.2.1, u.2.2.2.2.2.1, u.2.2.2.2.2.2.1, u.2.2.2.2.2.2.2.1, u.2.2.2.2.2.2.2.2.1, u.2.2.2.2.2.2.2.2.2.1, u.2.2.2.2.2.2.2.2.2.2.1, u.2.2.2.2.2.2.2.2.2.2.2.1, u.2.2.2.2.2.2.2.2.2.2.2.2.1, u.2.2.2.2.2.2.2.2.2.2.2.2.2.1, u.2.2.2.2.2.2.2.2.2.2.2.2.2.2.1, u.2.2.2.2.2.2.2.2.2.2.2.2.2.2.2.1, u.2.2.2.2.2.2.2.2.2.2.2.2.2.2.2.2.1, u.2.2.2.2.2.2.2.2.2.2.2.2.2.2.2.2.2.1, u.2.2.2.2.2.2.2.2.2.2.2.2.2.2.2.2.2.2.1, u.2.2.2.2.2.2.2.2.2.2.2.2.2.2.2.2.2.2.2.1, u.2.2.2.2.2.2.2.2.2.2.2.2.2.2.2.2.2.2.2.2.1, u.2.2.2.2.2.2.2.2.2.2.2.2.2.2.2.2.2.2.2.2.2.1, u.2.2.2.2.2.2.2.2.2.2.2.2.2.2.2.2.2.2.2.2.2.2.1, u.2.2.2.2.2.2.2.2.2.2.2.2.2.2.2.2.2.2.2.2.2.2.2.1, u.2.2.2.2.2.2.2.2.2.2.2.2.2.2.2.2.2.2.2.2.2.2.2.2.1, u.2.2.2.2.2.2.2.2.2.2.2.2.2.2.2.2.2.2.2.2.2.2.2.2.2.1, u.2.2.2.2.2.2.2.2.2.2.2.2.2.2.2.2.2.2.2.2.2.2.2.2.2.2.1, u.2.2.2.2.2.2.2.2.2.2.2.2.2.2.2.2.2.2.2.2.2.2.2.2.2.2.2.1, u.2.2.2.2.2.2.2.2.2.2.2.2.2.2.2.2.2.2.2.2.2.2.2.2.2.2.2.2.1, z, u.2.2.2.2.2.2.2.2.2.2.2.2.2.2.2.2.2.2.2.2.2.2.2.2.2.2.2.2.2.2)
def xs_begun (u : SX) (z : Nat → Int32) : SX := (u.1, u.2.1, u.2.2.1, u.2.2.2.1, u.2.2.2.2.1, u.2.2.2.2.2.1, u.2.2.2.2.2.2.1, u.2.2.2.2.2.2.2.1, u.2.2.2.2.2.2.2.2.1, u.2.2.2.2.2.2.2.2.2.1, u.2.2.2.2.2.2.2.2.2.2.1, u.2.2.2.2.2.2.2.2.2.2.2.1, u.2.2.2.2.2.2.2.2.2.2.2.2.1, u.2.2.2.2.2.2.2.2.2.2.2.2.2.1, u.2.2.2.2.2.2.2.2.2.2.2.2.2.2.1, u.2.2.2.2.2.2.2.2.2.2.2.2.2.2.2.1, u.2.2.2.2.2.2.2.2.2.2.2.2.2.2.2.2.1, u.2.2.2.2.2.2.2.2.2.2.2.2.2.2.2.2.2.1, u.2.2.2.2.2.2.2.2.2.2.2.2.2.2.2.2.2.2.1, u.2.2.2.2.2.2.2.2.2.2.2.2.2.2.2.2.2.2.2.1, u.2.2.2.2.2.2.2.2.2.2.2.2.2.2.2.2.2.2.2.2.1, u.2.2.2.2.2.2.2.2.2.2.2.2.2.2.2.2.2.2.2.2.2.1, u.2.2.2.2.2.2.2.2.2.2.2.2.2.2.2.2.2.2.2.2.2.2.1, u.2.2.2.2.2.2.2.2.2.2.2.2.2.2.2.2.2.2.2.2.2.2.2.1, u.2.2.2.2.2.2.2.2.2.2.2.2.2.2.2.2.2.2.2.2.2.2.2.2.1, u.2.2.2.2.2.2.2.2.2.2.2.2.2.2.2.2.2.2.2.2.2.2.2.2.2.1, u.2.2.2.2.2.2.2.2.2.2.2.2.2.2.2.2.2.2.2.2.2.2.2.2.2.2.1, u.2.2.2.2.2.2.2.2.2.2.2.2.2.2.2.2.2.2.2.2.2.2.2.2.2.2.2.1, u.2.2.2.2.2.2.2.2.2.2.2.2.2.2.2.2.2.2.2.2.2.2.2.2.2.2.2.2.1, u.2.2.2.2.2.2.2.2.2.2.2.2.2.2.2.2.2.2.2.2.2.2.2.2.2.2.2.2.2.1, z, u.2.2.2.2.2.2.2.2.2.2.2.2.2.2.2.2.2.2.2.2.2.2.2.2.2.2.2.2.2.2.2)
def xs_place (u : SX) (z : Nat → Int32) : SX := (u.1, u.2.1, u.2.2.1, u.2.2.2.1, u.2.2.2.2.1, u.2.2.2.2.2.1, u.2.2.2.2.2.2.1, u.2.2.2.2.2.2.2.1, u.2.2.2.2.2.2.2.2.1, u.2.2.2.2.2.2.2.2.2.1, u.2.2.2.2.2.2.2.2.2.2.1, u.2.2.2.2.2.2.2.2.2.2.2.1, u.2.2.2.2.2.2.2.2.2.2.2.2.1, u.2.2.2.2.2.2.2.2.2.2.2.2.2.1, u.2.2.2.2.2.2.2.2.2.2.2.2.2.2.1, u.2.2.2.2.2.2.2.2.2.2.2.2.2.2.2.1, u.2.2.2.2.2.2.2.2.2.2.2.2.2.2.2.2.1, u.2.2.2.2.2.2.2.2.2.2.2.2.2.2.2.2.2.1, u.2.2.2.2.2.2.2.2.2.2.2.2.2.2.2.2.2.2.1, u.2.2.2.2.2.2.2.2.2.2.2.2.2.2.2.2.2.2.2.1, u.2.2.2.2.2.2.2.2.2.2.2.2.2.2.2.2.2.2.2.2.1, u.2.2.2.2.2.2.2.2.2.2.2.2.2.2.2.2.2.2.2.2.2.1, u.2.2.2.2.2.2.2.2.2.2.2.2.2.2.2.2.2.2.2.2.2.2.1, u.2.2.2.2.2.2.2.2.2.2.2.2.2.2.2.2.2.2.2.2.2.2.2.1, u.2.2.2.2.2.2.2.2.2.2.2.2.2.2.2.2.2.2.2.2.2.2.2.2.1, u.2.2.2.2.2.2.2.2.2.2.2.2.2.2.2.2.2.2.2.2.2.2.2.2.2.1, u.2.2.2.2.2.2.2.2.2.2.2.2.2.2.2.2.2.2.2.2.2.2.2.2.2.2.1, u.2.2.2.2.2.2.2.2.2.2.2.2.2.2.2.2.2.2.2.2.2.2.2.2.2.2.2.1, u.2.2.2.2.2.2.2.2.2.2.2.2.2.2.2.2.2.2.2.2.2.2.2.2.2.2.2.2.1, u.2.2.2.2.2.2.2.2.2.2.2.2.2.2.2.2.2.2.2.2.2.2.2.2.2.2.2.2.2.1, u.2.2.2.2.2.2.2.2.2.2.2.2.2.2.2.2.2.2.2.2.2.2.2.2.2.2.2.2.2.2.1, z, u.2.2.2.2.2.2.2.2.2.2.2.2.2.2.2.2.2.2.2.2.2.2.2.2.2.2.2.2.2.2.2.2)
def xs_held (u : SX) (z : Nat → Int32) : SX := (u.1, u.2.1, u.2.2.1, u.2.2.2.1, u.2.2.2.2.1, u.2.2.2.2.2.1, u.2.2.2.2.2.2.1, u.2.2.2.2.2.2.2.1, u.2.2.2.2.2.2.2.2.1, u.2.2.2.2.2.2.2.2.2.1, u.2.2.2.2.2.2.2.2.2.2.1, u.2.2.2.2.2.2.2.2.2.2.2.1, u.2.2.2.2.2.2.2.2.2.2.2.2.1, u.2.2.2.2.2.2.2.2.2.2.2.2.2.1, u.2.2.2.2.2.2.2.2.2.2.2.2.2.2.1, u.2.2.2.2.2.2.2.2.2.2.2.2.2.2.2.1, u.2.2.2.2.2.2.2.2.2.2.2.2.2.2.2.2.1, u.2.2.2.2.2.2.2.2.2.2.2.2.2.2.2.2.2.1, u.2.2.2.2.2.2.2.2.2.2.2.2.2.2.2.2.2.2.1, u.2.2.2.2.2.2.2.2.2.2.2.2.2.2.2.2.2.2.2.1, u.2.2.2.2.2.2.2.2.2.2.2.2.2.2.2.2.2.2.2.2.1, u.2.2.2.2.2.2.2.2.2.2.2.2.2.2.2.2.2.2.2.2.2.1, u.2.2.2.2.2.2.2.2.2.2.2.2.2.2.2.2.2.2.2.2.2.2.1, u.2.2.2.2.2.2.2.2.2.2.2.2.2.2.2.2.2.2.2.2.2.2.2.1, u.2.2.2.2.2.2.2.2.2.2.2.2.2.2.2.2.2.2.2.2.2.2.2.2.1, u.2.2.2.2.2.2.2.2.2.2.2.2.2.2.2.2.2.2.2.2.2.2.2.2.2.1, u.2.2.2.2.2.2.2.2.2.2.2.2.2.2.2.2.2.2.2.2.2.2.2.2.2.2.1, u.2.2.2.2.2.2.2.2.2.2.2.2.2.2.2.2.2.2.2.2.2.2.2.2.2.2.2.1, u.2.2.2.2.2.2.2.2.2.2.2.2.2.2.2.2.2.2.2.2.2.2.2.2.2.2.2.2.1, u.2.2.2.2.2.2.2.2.2.2.2.2.2.2.2.2.2.2.2.2.2.2.2.2.2.2.2.2.2.1, u.2.2.2.2.2.2.2.2.2.2.2.2.2.2.2.2.2.2.2.2.2.2.2.2.2.2.2.2.2.2.1, u.2.2.2.2.2.2.2.2.2.2.2.2.2.2.2.2.2.2.2.2.2.2.2.2.2.2.2.2.2.2.2.1, z, u.2.2.2.2.2.2.2.2.2.2.2.2.2.2.2.2.2.2.2.2.2.2.2.2.2.2.2.2.2.2.2.2.2)
def xs_keyOf (u : SX) (z : Nat → Int32) : SX := (u.1, u.2.1, u.2.2.1, u.2.2.2.1, u.2.2.2.2.1, u.2.2.2.2.2.1, u.2.2.2.2.2.2.1, u.2.2.2.2.2.2.2.1, u.2.2.2.2.2.2.2.2.1, u.2.2.2.2.2.2.2.2.2.1, u.2.2.2.2.2.2.2.2.2.2.1, u.2.2.2.2.2.2.2.2.2.2.2.1, u.2.2.2.2.2.2.2.2.2.2.2.2.1, u.2.2.2.2.2.2.2.2.2.2.2.2.2.1, u.2.2.2.2.2.2.2.2.2.2.2.2.2.2.1, u.2.2.2.2.2.2.2.2.2.2.2.2.2.2.2.1, u.2.2.2.2.2.2.2.2.2.2.2.2.2.2.2.2.1, u.2.2.2.2.2.2.2.2.2.2.2.2.2.2.2.2.2.1, u.2.2.2.2.2.2.2.2.2.2.2.2.2.2.2.2.2.2.1, u.2.2.2.2.2.2.2.2.2.2.2.2.2.2.2.2.2.2.2.1, u.2.2.2.2.2.2.2.2.2.2.2.2.2.2.2.2.2.2.2.2.1, u.2.2.2.2.2.2.2.2.2.2.2.2.2.2.2.2.2.2.2.2.2.1, u.2.2.2.2.2.2.2.2.2.2.2.2.2.2.2.2.2.2.2.2.2.2.1, u.2.2.2.2.2.2.2.2.2.2.2.2.2.2.2.2.2.2.2.2.2.2.2.1, u.2.2.2.2.2.2.2.2.2.2.2.2.2.2.2.2.2.2.2.2.2.2.2.2.1, u.2.2.2.2.2.2.2.2.2.2.2.2.2.2.2.2.2.2.2.2.2.2.2.2.2.1, u.2.2.2.2.2.2.2.2.2.2.2.2.2.2.2.2.2.2.2.2.2.2.2.2.2.2.1, u.2.2.2.2.2.2.2.2.2.2.2.2.2.2.2.2.2.2.2.2.2.2.2.2.2.2.2.1, u.2.2.2.2.2.2.2.2.2.2.2.2.2.2.2.2.2.2.2.2.2.2.2.2.2.2.2.2.1, u.2.2.2.2.2.2.2.2.2.2.2.2.2.2.2.2.2.2.2.2.2.2.2.2.2.2.2.2.2.1, u.2.2.2.2.2.2.2.2.2.2.2.2.2.2.2.2.2.2.2.2.2.2.2.2.2.2.2.2.2.2.1, u.2.2.2.2.2.2.2.2.2.2.2.2.2.2.2.2.2.2.2.2.2.2.2.2.2.2.2.2.2.2.2.1, u.2.2.2.2.2.2.2.2.2.2.2.2.2.2.2.2.2.2.2.2.2.2.2.2.2.2.2.2.2.2.2.2.1, z, u.2.2.2.2.2.2.2.2.2.2.2.2.2.2.2.2.2.2.2.2.2.2.2.2.2.2.2.2.2.2.2.2.2.2)
def xs_next (u : SX) (z : Nat → Int32) : SX := (u.1, u.2.1, u.2.2.1, u.2.2.2.1, u.2.2.2.2.1, u.2.2.2.2.2.1, u.2.2.2.2.2.2.1, u.2.2.2.2.2.2.2.1, u.2.2.2.2.2.2.2.2.1, u.2.2.2.2.2.2.2.2.2.1, u.2.2.2.2.2.2.2.2.2.2.1, u.2.2.2.2.2.2.2.2.2.2.2.1, u.2.2.2.2.2.2.2.2.2.2.2.2.1, u.2.2.2.2.2.2.2.2.2.2.2.2.2.1, u.2.2.2.2.2.2.2.2.2.2.2.2.2.2.1, u.2.2.2.2.2.2.2.2.2.2.2.2.2.2.2.1, u.2.2.2.2.2.2.2.2.2.2.2.2.2.2.2.2.1, u.2.2.2.2.2.2.2.2.2.2.2.2.2.2.2.2.2.1, u.2.2.2.2.2.2.2.2.2.2.2.2.2.2.2.2.2.2.1, u.2.2.2.2.2.2.2.2.2.2.2.2.2.2.2.2.2.2.2.1, u.2.2.2.2.2.2.2.2.2.2.2.2.2.2.2.2.2.2.2.2.1, u.2.2.2.2.2.2.2.2.2.2.2.2.2.2.2.2.2.2.2.2.2.1, u.2.2.2.2.2.2.2.2.2.2.2.2.2.2.2.2.2.2.2.2.2.2.1, u.2.2.2.2.2.2.2.2.2.2.2.2.2.2.2.2.2.2.2.2.2.2.2.1, u.2.2.2.2.2.2.2.2.2.2.2.2.2.2.2.2.2.2.2.2.2.2.2.2.1, u.2.2.2.2.2.2.2.2.2.2.2.2.2.2.2.2.2.2.2.2.2.2.2.2.2.1, u.2.2.2.2.2.2.2.2.2.2.2.2.2.2.2.2.2.2.2.2.2.2.2.2.2.2.1, u.2.2.2.2.2.2.2.2.2.2.2.2.2.2.2.2.2.2.2.2.2.2.2.2.2.2.2.1, u.2.2.2.2.2.2.2.2.2.2.2.2.2.2.2.2.2.2.2.2.2.2.2.2.2.2.2.2.1, u.2.2.2.2.2.2.2.2.2.2.2.2.2.2.2.2.2.2.2.2.2.2.2.2.2.2.2.2.2.1, u.2.2.2.2.2.2.2.2.2.2.2.2.2.2.2.2.2.2.2.2.2.2.2.2.2.2.2.2.2.2.1, u.2.2.2.2.2.2.2.2.2.2.2.2.2.2.2.2.2.2.2.2.2.2.2.2.2.2.2.2.2.2.2.1, u.2.2.2.2.2.2.2.2.2.2.2.2.2.2.2.2.2.2.2.2.2.2.2.2.2.2.2.2.2.2.2.2.1, u.2.2.2.2.2.2.2.2.2.2.2.2.2.2.2.2.2.2.2.2.2.2.2.2.2.2.2.2.2.2.2.2.2.1, z, u.2.2.2.2.2.2.2.2.2.2.2.2.2.2.2.2.2.2.2.2.2.2.2.2.2.2.2.2.2.2.2.2.2.2.2)
def xs_size (u : SX) (z : Nat → Int32) : SX := (u.1, u.2.1, u.2.2.1, u.2.2.2.1, u.2.2.2.2.1, u.2.2.2.2.2.1, u.2.2.2.2.2.2.1, u.2.2.2.2.2.2.2.1, u.2.2.2.2.2.2.2.2.1, u.2.2.2.2.2.2.2.2.2.1, u.2.2.2.2.2.2.2.2.2.2.1, u.2.2.2.2.2.2.2.2.2.2.2.1, u.2.2.2.2.2.2.2.2.2.2.2.2.1, u.2.2.2.2.2.2.2.2.2.2.2.2.2.1, u.2.2.2.2.2.2.2.2.2.2.2.2.2.2.1, u.2.2.2.2.2.2.2.2.2.2.2.2.2.2.2.1, u.2.2.2.2.2.2.2.2.2.2.2.2.2.2.2.2.1, u.2.2.2.2.2.2.2.2.2.2.2.2.2.2.2.2.2.1, u.2.2.2.2.2.2.2.2.2.2.2.2.2.2.2.2.2.2.1, u.2.2.2.2.2.2.2.2.2.2.2.2.2.2.2.2.2.2.2.1, u.2.2.2.2.2.2.2.2.2.2.2.2.2.2.2.2.2.2.2.2.1, u.2.2.2.2.2.2.2.2.2.2.2.2.2.2.2.2.2.2.2.2.2.1, u.2.2.2.2.2.2.2.2.2.2.2.2.2.2.2.2.2.2.2.2.2.2.1, u.2.2.2.2.2.2.2.2.2.2.2.2.2.2.2.2.2.2.2.2.2.2.2.1, u.2.2.2.2.2.2.2.2.2.2.2.2.2.2.2.2.2.2.2.2.2.2.2.2.1, u.2.2.2.2.2.2.2.2.2.2.2.2.2.2.2.2.2.2.2.2.2.2.2.2.2.1, u.2.2.2.2.2.2.2.2.2.2.2.2.2.2.2.2.2.2.2.2.2.2.2.2.2.2.1, u.2.2.2.2.2.2.2.2.2.2.2.2.2.2.2.2.2.2.2.2.2.2.2.2.2.2.2.1, u.2.2.2.2.2.2.2.2.2.2.2.2.2.2.2.2.2.2.2.2.2.2.2.2.2.2.2.2.1, u.2.2.2.2.2.2.2.2.2.2.2.2.2.2.2.2.2.2.2.2.2.2.2.2.2.2.2.2.2.1, u.2.2.2.2.2.2.2.2.2.2.2.2.2.2.2.2.2.2.2.2.2.2.2.2.2.2.2.2.2.2.1, u.2.2.2.2.2.2.2.2.2.2.2.2.2.2.2.2.2.2.2.2.2.2.2.2.2.2.2.2.2.2.2.1, u.2.2.2.2.2.2.2.2.2.2.2.2.2.2.2.2.2.2.2.2.2.2.2.2.2.2.2.2.2.2.2.2.1, u.2.2.2.2.2.2.2.2.2.2.2.2.2.2.2.2.2.2.2.2.2.2.2.2.2.2.2.2.2.2.2.2.2.1, u.2.2.2.2.2.2.2.2.2.2.2.2.2.2.2.2.2.2.2.2.2.2.2.2.2.2.2.2.2.2.2.2.2.2.1, z, u.2.2.2.2.2.2.2.2.2.2.2.2.2.2.2.2.2.2.2.2.2.2.2.2.2.2.2.2.2.2.2.2.2.2.2.2)
def xs_head (u : SX) (z : Nat → Int32) : SX := (u.1, u.2.1, u.2.2.1, u.2.2.2.1, u.2.2.2.2.1, u.2.2.2.2.2.1, u.2.2.2.2.2.2.1, u.2.2.2.2.2.2.2.1, u.2.2.2.2.2.2.2.2.1, u.2.2.2.2.2.2.2.2.2.1, u.2.2.2.2.2.2.2.2.2.2.1, u.2.2.2.2.2.2.2.2.2.2.2.1, u.2.2.2.2.2.2.2.2.2.2.2.2.1, u.2.2.2.2.2.2.2.2.2.2.2.2.2.1, u.2.2.2.2.2.2.2.2.2.2.2.2.2.2.1, u.2.2.2.2.2.2.2.2.2.2.2.2.2.2.2.1, u.2.2.2.2.2.2.2.2.2.2.2.2.2.2.2.2.1, u.2.2.2.2.2.2.2.2.2.2.2.2.2.2.2.2.2.1, u.2.2.2.2.2.2.2.2.2.2.2.2.2.2.2.2.2.2.1, u.2.2.2.2.2.2.2.2.2.2.2.2.2.2.2.2.2.2.2.1, u.2.2.2.2.2.2.2.2.2.2.2.2.2.2.2.2.2.2.2.2.1, u.2.2.2.2.2.2.2.2.2.2.2.2.2.2.2.2.2.2.2.2.2.1, u.2.2.2.2.2.2.2.2.2.2.2.2.2.2.2.2.2.2.2.2.2.2.1, u.2.2.2.2.2.2.2.2.2.2.2.2.2.2.2.2.2.2.2.2.2.2.2.1, u.2.2.2.2.2.2.2.2.2.2.2.2.2.2.2.2.2.2.2.2.2.2.2.2.1, u.2.2.2.2.2.2.2.2.2.2.2.2.2.2.2.2.2.2.2.2.2.2.2.2.2.1, u.2.2.2.2.2.2.2.2.2.2.2.2.2.2.2.2.2.2.2.2.2.2.2.2.2.2.1, u.2.2.2.2.2.2.2.2.2.2.2.2.2.2.2.2.2.2.2.2.2.2.2.2.2.2.2.1, u.2.2.2.2.2.2.2.2.2.2.2.2.2.2.2.2.2.2.2.2.2.2.2.2.2.2.2.2.1, u.2.2.2.2.2.2.2.2.2.2.2.2.2.2.2.2.2.2.2.2.2.2.2.2.2.2.2.2.2.1, u.2.2.2.2.2.2.2.2.2.2.2.2.2.2.2.2.2.2.2.2.2.2.2.2.2.2.2.2.2.2.1, u.2.2.2.2.2.2.2.2.2.2.2.2.2.2.2.2.2.2.2.2.2.2.2.2.2.2.2.2.2.2.2.1, u.2.2.2.2.2.2.2.2.2.2.2.2.2.2.2.2.2.2.2.2.2.2.2.2.2.2.2.2.2.2.2.2.1, u.2.2.2.2.2.2.2.2.2.2.2.2.2.2.2.2.2.2.2.2.2.2.2.2.2.2.2.2.2.2.2.2.2.1, u.2.2.2.2.2.2.2.2.2.2.2.2.2.2.2.2.2.2.2.2.2.2.2.2.2.2.2.2.2.2.2.2.2.2.1, u.2.2.2.2.2.2.2.2.2.2.2.2.2.2.2.2.2.2.2.2.2.2.2.2.2.2.2.2.2.2.2.2.2.2.2.1, z, u.2.2.2.2.2.2.2.2.2.2.2.2.2.2.2.2.2.2.2.2.2.2.2.2.2.2.2.2.2.2.2.2.2.2.2.2.2)
def xs_openStage (u : SX) (z : Nat → Int32) : SX := (u.1, u.2.1, u.2.2.1, u.2.2.2.1, u.2.2.2.2.1, u.2.2.2.2.2.1, u.2.2.2.2.2.2.1, u.2.2.2.2.2.2.2.1, u.2.2.2.2.2.2.2.2.1, u.2.2.2.2.2.2.2.2.2.1, u.2.2.2.2.2.2.2.2.2.2.1, u.2.2.2.2.2.2.2.2.2.2.2.1, u.2.2.2.2.2.2.2.2.2.2.2.2.1, u.2.2.2.2.2.2.2.2.2.2.2.2.2.1, u.2.2.2.2.2.2.2.2.2.2.2.2.2.2.1, u.2.2.2.2.2.2.2.2.2.2.2.2.2.2.2.1, u.2.2.2.2.2.2.2.2.2.2.2.2.2.2.2.2.1, u.2.2.2.2.2.2.2.2.2.2.2.2.2.2.2.2.2.1, u.2.2.2.2.2.2.2.2.2.2.2.2.2.2.2.2.2.2.1, u.2.2.2.2.2.2.2.2.2.2.2.2.2.2.2.2.2.2.2.1, u.2.2.2.2.2.2.2.2.2.2.2.2.2.2.2.2.2.2.2.2.1, u.2.2.2.2.2.2.2.2.2.2.2.2.2.2.2.2.2.2.2.2.2.1, u.2.2.2.2.2.2.2.2.2.2.2.2.2.2.2.2.2.2.2.2.2.2.1, u.2.2.2.2.2.2.2.2.2.2.2.2.2.2.2.2.2.2.2.2.2.2.2.1, u.2.2.2.2.2.2.2.2.2.2.2.2.2.2.2.2.2.2.2.2.2.2.2.2.1, u.2.2.2.2.2.2.2.2.2.2.2.2.2.2.2.2.2.2.2.2.2.2.2.2.2.1, u.2.2.2.2.2.2.2.2.2.2.2.2.2.2.2.2.2.2.2.2.2.2.2.2.2.2.1, u.2.2.2.2.2.2.2.2.2.2.2.2.2.2.2.2.2.2.2.2.2.2.2.2.2.2.2.1, u.2.2.2.2.2.2.2.2.2.2.2.2.2.2.2.2.2.2.2.2.2.2.2.2.2.2.2.2.1, u.2.2.2.2.2.2.2.2.2.2.2.2.2.2.2.2.2.2.2.2.2.2.2.2.2.2.2.2.2.1, u.2.2.2.2.2.2.2.2.2.2.2.2.2.2.2.2.2.2.2.2.2.2.2.2.2.2.2.2.2.2.1, u.2.2.2.2.2.2.2.2.2.2.2.2.2.2.2.2.2.2.2.2.2.2.2.2.2.2.2.2.2.2.2.1, u.2.2.2.2.2.2.2.2.2.2.2.2.2.2.2.2.2.2.2.2.2.2.2.2.2.2.2.2.2.2.2.2.1, u.2.2.2.2.2.2.2.2.2.2.2.2.2.2.2.2.2.2.2.2.2.2.2.2.2.2.2.2.2.2.2.2.2.1, u.2.2.2.2.2.2.2.2.2.2.2.2.2.2.2.2.2.2.2.2.2.2.2.2.2.2.2.2.2.2.2.2.2.2.1, u.2.2.2.2.2.2.2.2.2.2.2.2.2.2.2.2.2.2.2.2.2.2.2.2.2.2.2.2.2.2.2.2.2.2.2.1, u.2.2.2.2.2.2.2.2.2.2.2.2.2.2.2.2.2.2.2.2.2.2.2.2.2.2.2.2.2.2.2.2.2.2.2.2.1, z, u.2.2.2.2.2.2.2.2.2.2.2.2.2.2.2.2.2.2.2.2.2.2.2.2.2.2.2.2.2.2.2.2.2.2.2.2.2.2)
def xs_openValue (u : SX) (z : Nat → Int32) : SX := (u.1, u.2.1, u.2.2.1, u.2.2.2.1, u.2.2.2.2.1, u.2.2.2.2.2.1, u.2.2.2.2.2.2.1, u.2.2.2.2.2.2.2.1, u.2.2.2.2.2.2.2.2.1, u.2.2.2.2.2.2.2.2.2.1, u.2.2.2.2.2.2.2.2.2.2.1, u.2.2.2.2.2.2.2.2.2.2.2.1, u.2.2.2.2.2.2.2.2.2.2.2.2.1, u.2.2.2.2.2.2.2.2.2.2.2.2.2.1, u.2.2.2.2.2.2.2.2.2.2.2.2.2.2.1, u.2.2.2.2.2.2.2.2.2.2.2.2.2.2.2.1, u.2.2.2.2.2.2.2.2.2.2.2.2.2.2.2.2.1, u.2.2.2.2.2.2.2.2.2.2.2.2.2.2.2.2.2.1, u.2.2.2.2.2.2.2.2.2.2.2.2.2.2.2.2.2.2.1, u.2.2.2.2.2.2.2.2.2.2.2.2.2.2.2.2.2.2.2.1, u.2.2.2.2.2.2.2.2.2.2.2.2.2.2.2.2.2.2.2.2.1, u.2.2.2.2.2.2.2.2.2.2.2.2.2.2.2.2.2.2.2.2.2.1, u.2.2.2.2.2.2.2.2.2.2.2.2.2.2.2.2.2.2.2.2.2.2.1, u.2.2.2.2.2.2.2.2.2.2.2.2.2.2.2.2.2.2.2.2.2.2.2.1, u.2.2.2.2.2.2.2.2.2.2.2.2.2.2.2.2.2.2.2.2.2.2.2.2.1, u.2.2.2.2.2.2.2.2.2.2.2.2.2.2.2.2.2.2.2.2.2.2.2.2.2.1, u.2.2.2.2.2.2.2.2.2.2.2.2.2.2.2.2.2.2.2.2.2.2.2.2.2.2.1, u.2.2.2.2.2.2.2.2.2.2.2.2.2.2.2.2.2.2.2.2.2.2.2.2.2.2.2.1, u.2.2.2.2.2.2.2.2.2.2.2.2.2.2.2.2.2.2.2.2.2.2.2.2.2.2.2.2.1, u.2.2.2.2.2.2.2.2.2.2.2.2.2.2.2.2.2.2.2.2.2.2.2.2.2.2.2.2.2.1, u.2.2.2.2.2.2.2.2.2.2.2.2.2.2.2.2.2.2.2.2.2.2.2.2.2.2.2.2.2.2.1, u.2.2.2.2.2.2.2.2.2.2.2.2.2.2.2.2.2.2.2.2.2.2.2.2.2.2.2.2.2.2.2.1, u.2.2.2.2.2.2.2.2.2.2.2.2.2.2.2.2.2.2.2.2.2.2.2.2.2.2.2.2.2.2.2.2.1, u.2.2.2.2.2.2.2.2.2.2.2.2.2.2.2.2.2.2.2.2.2.2.2.2.2.2.2.2.2.2.2.2.2.1, u.2.2.2.2.2.2.2.2.2.2.2.2.2.2.2.2.2.2.2.2.2.2.2.2.2.2.2.2.2.2.2.2.2.2.1, u.2.2.2.2.2.2.2.2.2.2.2.2.2.2.2.2.2.2.2.2.2.2.2.2.2.2.2.2.2.2.2.2.2.2.2.1, u.2.2.2.2.2.2.2.2.2.2.2.2.2.2.2.2.2.2.2.2.2.2.2.2.2.2.2.2.2.2.2.2.2.2.2.2.1, u.2.2.2.2.2.2.2.2.2.2.2.2.2.2.2.2.2.2.2.2.2.2.2.2.2.2.2.2.2.2.2.2.2.2.2.2.2.1, z, u.2.2.2.2.2.2.2.2.2.2.2.2.2.2.2.2.2.2.2.2.2.2.2.2.2.2.2.2.2.2.2.2.2.2.2.2.2.2.2)
def xs_openLeft (u : SX) (z : Nat → Int32) : SX := (u.1, u.2.1, u.2.2.1, u.2.2.2.1, u.2.2.2.2.1, u.2.2.2.2.2.1, u.2.2.2.2.2.2.1, u.2.2.2.2.2.2.2.1, u.2.2.2.2.2.2.2.2.1, u.2.2.2.2.2.2.2.2.2.1, u.2.2.2.2.2.2.2.2.2.2.1, u.2.2.2.2.2.2.2.2.2.2.2.1, u.2.2.2.2.2.2.2.2.2.2.2.2.1, u.2.2.2.2.2.2.2.2.2.2.2.2.2.1, u.2.2.2.2.2.2.2.2.2.2.2.2.2.2.1, u.2.2.2.2.2.2.2.2.2.2.2.2.2.2.2.1, u.2.2.2.2.2.2.2.2.2.2.2.2.2.2.2.2.1, u.2.2.2.2.2.2.2.2.2.2.2.2.2.2.2.2.2.1, u.2.2.2.2.2.2.2.2.2.2.2.2.2.2.2.2.2.2.1, u.2.2.2.2.2.2.2.2.2.2.2.2.2.2.2.2.2.2.2.1, u.2.2.2.2.2.2.2.2.2.2.2.2.2.2.2.2.2.2.2.2.1, u.2.2.2.2.2.2.2.2.2.2.2.2.2.2.2.2.2.2.2.2.2.1, u.2.2.2.2.2.2.2.2.2.2.2.2.2.2.2.2.2.2.2.2.2.2.1, u.2.2.2.2.2.2.2.2.2.2.2.2.2.2.2.2.2.2.2.2.2.2.2.1, u.2.2.2.2.2.2.2.2.2.2.2.2.2.2.2.2.2.2.2.2.2.2.2.2.1, u.2.2.2.2.2.2.2.2.2.2.2.2.2.2.2.2.2.2.2.2.2.2.2.2.2.1, u.2.2.2.2.2.2.2.2.2.2.2.2.2.2.2.2.2.2.2.2.2.2.2.2.2.2.1, u.2.2.2.2.2.2.2.2.2.2.2.2.2.2.2.2.2.2.2.2.2.2.2.2.2.2.2.1, u.2.2.2.2.2.2.2.2.2.2.2.2.2.2.2.2.2.2.2.2.2.2.2.2.2.2.2.2.1, u.2.2.2.2.2.2.2.2.2.2.2.2.2.2.2.2.2.2.2.2.2.2.2.2.2.2.2.2.2.1, u.2.2.2.2.2.2.2.2.2.2.2.2.2.2.2.2.2.2.2.2.2.2.2.2.2.2.2.2.2.2.1, u.2.2.2.2.2.2.2.2.2.2.2.2.2.2.2.2.2.2.2.2.2.2.2.2.2.2.2.2.2.2.2.1, u.2.2.2.2.2.2.2.2.2.2.2.2.2.2.2.2.2.2.2.2.2.2.2.2.2.2.2.2.2.2.2.2.1, u.2.2.2.2.2.2.2.2.2.2.2.2.2.2.2.2.2.2.2.2.2.2.2.2.2.2.2.2.2.2.2.2.2.1, u.2.2.2.2.2.2.2.2.2.2.2.2.2.2.2.2.2.2.2.2.2.2.2.2.2.2.2.2.2.2.2.2.2.2.1, u.2.2.2.2.2.2.2.2.2.2.2.2.2.2.2.2.2.2.2.2.2.2.2.2.2.2.2.2.2.2.2.2.2.2.2.1, u.2.2.2.2.2.2.2.2.2.2.2.2.2.2.2.2.2.2.2.2.2.2.2.2.2.2.2.2.2.2.2.2.2.2.2.2.1, u.2.2.2.2.2.2.2.2.2.2.2.2.2.2.2.2.2.2.2.2.2.2.2.2.2.2.2.2.2.2.2.2.2.2.2.2.2.1, u.2.2.2.2.2.2.2.2.2.2.2.2.2.2.2.2.2.2.2.2.2.2.2.2.2.2.2.2.2.2.2.2.2.2.2.2.2.2.1, z, u.2.2.2.2.2.2.2.2.2.2.2.2.2.2.2.2.2.2.2.2.2.2.2.2.2.2.2.2.2.2.2.2.2.2.2.2.2.2.2.2)
def xs_applications (u : SX) (z : Nat → Int32) : SX := (u.1, u.2.1, u.2.2.1, u.2.2.2.1, u.2.2.2.2.1, u.2.2.2.2.2.1, u.2.2.2.2.2.2.1, u.2.2.2.2.2.2.2.1, u.2.2.2.2.2.2.2.2.1, u.2.2.2.2.2.2.2.2.2.1, u.2.2.2.2.2.2.2.2.2.2.1, u.2.2.2.2.2.2.2.2.2.2.2.1, u.2.2.2.2.2.2.2.2.2.2.2.2.1, u.2.2.2.2.2.2.2.2.2.2.2.2.2.1, u.2.2.2.2.2.2.2.2.2.2.2.2.2.2.1, u.2.2.2.2.2.2.2.2.2.2.2.2.2.2.2.1, u.2.2.2.2.2.2.2.2.2.2.2.2.2.2.2.2.1, u.2.2.2.2.2.2.2.2.2.2.2.2.2.2.2.2.2.1, u.2.2.2.2.2.2.2.2.2.2.2.2.2.2.2.2.2.2.1, u.2.2.2.2.2.2.2.2.2.2.2.2.2.2.2.2.2.2.2.1, u.2.2.2.2.2.2.2.2.2.2.2.2.2.2.2.2.2.2.2.2.1, u.2.2.2.2.2.2.2.2.2.2.2.2.2.2.2.2.2.2.2.2.2.1, u.2.2.2.2.2.2.2.2.2.2.2.2.2.2.2.2.2.2.2.2.2.2.1, u.2.2.2.2.2.2.2.2.2.2.2.2.2.2.2.2.2.2.2.2.2.2.2.1, u.2.2.2.2.2.2.2.2.2.2.2.2.2.2.2.2.2.2.2.2.2.2.2.2.1, u.2.2.2.2.2.2.2.2.2.2.2.2.2.2.2.2.2.2.2.2.2.2.2.2.2.1, u.2.2.2.2.2.2.2.2.2.2.2.2.2.2.2.2.2.2.2.2.2.2.2.2.2.2.1, u.2.2.2.2.2.2.2.2.2.2.2.2.2.2.2.2.2.2.2.2.2.2.2.2.2.2.2.1, u.2.2.2.2.2.2.2.2.2.2.2.2.2.2.2.2.2.2.2.2.2.2.2.2.2.2.2.2.1, u.2.2.2.2.2.2.2.2.2.2.2.2.2.2.2.2.2.2.2.2.2.2.2.2.2.2.2.2.2.1, u.2.2.2.2.2.2.2.2.2.2.2.2.2.2.2.2.2.2.2.2.2.2.2.2.2.2.2.2.2.2.1, u.2.2.2.2.2.2.2.2.2.2.2.2.2.2.2.2.2.2.2.2.2.2.2.2.2.2.2.2.2.2.2.1, u.2.2.2.2.2.2.2.2.2.2.2.2.2.2.2.2.2.2.2.2.2.2.2.2.2.2.2.2.2.2.2.2.1, u.2.2.2.2.2.2.2.2.2.2.2.2.2.2.2.2.2.2.2.2.2.2.2.2.2.2.2.2.2.2.2.2.2.1, u.2.2.2.2.2.2.2.2.2.2.2.2.2.2.2.2.2.2.2.2.2.2.2.2.2.2.2.2.2.2.2.2.2.2.1, u.2.2.2.2.2.2.2.2.2.2.2.2.2.2.2.2.2.2.2.2.2.2.2.2.2.2.2.2.2.2.2.2.2.2.2.1, u.2.2.2.2.2.2.2.2.2.2.2.2.2.2.2.2.2.2.2.2.2.2.2.2.2.2.2.2.2.2.2.2.2.2.2.2.1, u.2.2.2.2.2.2.2.2.2.2.2.2.2.2.2.2.2.2.2.2.2.2.2.2.2.2.2.2.2.2.2.2.2.2.2.2.2.1, u.2.2.2.2.2.2.2.2.2.2.2.2.2.2.2.2.2.2.2.2.2.2.2.2.2.2.2.2.2.2.2.2.2.2.2.2.2.2.1, u.2.2.2.2.2.2.2.2.2.2.2.2.2.2.2.2.2.2.2.2.2.2.2.2.2.2.2.2.2.2.2.2.2.2.2.2.2.2.2.1, z, u.2.2.2.2.2.2.2.2.2.2.2.2.2.2.2.2.2.2.2.2.2.2.2.2.2.2.2.2.2.2.2.2.2.2.2.2.2.2.2.2.2)
def xs_reads (u : SX) (z : Nat → Int32) : SX := (u.1, u.2.1, u.2.2.1, u.2.2.2.1, u.2.2.2.2.1, u.2.2.2.2.2.1, u.2.2.2.2.2.2.1, u.2.2.2.2.2.2.2.1, u.2.2.2.2.2.2.2.2.1, u.2.2.2.2.2.2.2.2.2.1, u.2.2.2.2.2.2.2.2.2.2.1, u.2.2.2.2.2.2.2.2.2.2.2.1, u.2.2.2.2.2.2.2.2.2.2.2.2.1, u.2.2.2.2.2.2.2.2.2.2.2.2.2.1, u.2.2.2.2.2.2.2.2.2.2.2.2.2.2.1, u.2.2.2.2.2.2.2.2.2.2.2.2.2.2.2.1, u.2.2.2.2.2.2.2.2.2.2.2.2.2.2.2.2.1, u.2.2.2.2.2.2.2.2.2.2.2.2.2.2.2.2.2.1, u.2.2.2.2.2.2.2.2.2.2.2.2.2.2.2.2.2.2.1, u.2.2.2.2.2.2.2.2.2.2.2.2.2.2.2.2.2.2.2.1, u.2.2.2.2.2.2.2.2.2.2.2.2.2.2.2.2.2.2.2.2.1, u.2.2.2.2.2.2.2.2.2.2.2.2.2.2.2.2.2.2.2.2.2.1, u.2.2.2.2.2.2.2.2.2.2.2.2.2.2.2.2.2.2.2.2.2.2.1, u.2.2.2.2.2.2.2.2.2.2.2.2.2.2.2.2.2.2.2.2.2.2.2.1, u.2.2.2.2.2.2.2.2.2.2.2.2.2.2.2.2.2.2.2.2.2.2.2.2.1, u.2.2.2.2.2.2.2.2.2.2.2.2.2.2.2.2.2.2.2.2.2.2.2.2.2.1, u.2.2.2.2.2.2.2.2.2.2.2.2.2.2.2.2.2.2.2.2.2.2.2.2.2.2.1, u.2.2.2.2.2.2.2.2.2.2.2.2.2.2.2.2.2.2.2.2.2.2.2.2.2.2.2.1, u.2.2.2.2.2.2.2.2.2.2.2.2.2.2.2.2.2.2.2.2.2.2.2.2.2.2.2.2.1, u.2.2.2.2.2.2.2.2.2.2.2.2.2.2.2.2.2.2.2.2.2.2.2.2.2.2.2.2.2.1, u.2.2.2.2.2.2.2.2.2.2.2.2.2.2.2.2.2.2.2.2.2.2.2.2.2.2.2.2.2.2.1, u.2.2.2.2.2.2.2.2.2.2.2.2.2.2.2.2.2.2.2.2.2.2.2.2.2.2.2.2.2.2.2.1, u.2.2.2.2.2.2.2.2.2.2.2.2.2.2.2.2.2.2.2.2.2.2.2.2.2.2.2.2.2.2.2.2.1, u.2.2.2.2.2.2.2.2.2.2.2.2.2.2.2.2.2.2.2.2.2.2.2.2.2.2.2.2.2.2.2.2.2.1, u.2.2.2.2.2.2.2.2.2.2.2.2.2.2.2.2.2.2.2.2.2.2.2.2.2.2.2.2.2.2.2.2.2.2.1, u.2.2.2.2.2.2.2.2.2.2.2.2.2.2.2.2.2.2.2.2.2.2.2.2.2.2.2.2.2.2.2.2.2.2.2.1, u.2.2.2.2.2.2.2.2.2.2.2.2.2.2.2.2.2.2.2.2.2.2.2.2.2.2.2.2.2.2.2.2.2.2.2.2.1, u.2.2.2.2.2.2.2.2.2.2.2.2.2.2.2.2.2.2.2.2.2.2.2.2.2.2.2.2.2.2.2.2.2.2.2.2.2.1, u.2.2.2.2.2.2.2.2.2.2.2.2.2.2.2.2.2.2.2.2.2.2.2.2.2.2.2.2.2.2.2.2.2.2.2.2.2.2.1, u.2.2.2.2.2.2.2.2.2.2.2.2.2.2.2.2.2.2.2.2.2.2.2.2.2.2.2.2.2.2.2.2.2.2.2.2.2.2.2.1, u.2.2.2.2.2.2.2.2.2.2.2.2.2.2.2.2.2.2.2.2.2.2.2.2.2.2.2.2.2.2.2.2.2.2.2.2.2.2.2.2.1, z, u.2.2.2.2.2.2.2.2.2.2.2.2.2.2.2.2.2.2.2.2.2.2.2.2.2.2.2.2.2.2.2.2.2.2.2.2.2.2.2.2.2.2)
def xs_shown (u : SX) (z : Nat → Int32) : SX := (u.1, u.2.1, u.2.2.1, u.2.2.2.1, u.2.2.2.2.1, u.2.2.2.2.2.1, u.2.2.2.2.2.2.1, u.2.2.2.2.2.2.2.1, u.2.2.2.2.2.2.2.2.1, u.2.2.2.2.2.2.2.2.2.1, u.2.2.2.2.2.2.2.2.2.2.1, u.2.2.2.2.2.2.2.2.2.2.2.1, u.2.2.2.2.2.2.2.2.2.2.2.2.1, u.2.2.2.2.2.2.2.2.2.2.2.2.2.1, u.2.2.2.2.2.2.2.2.2.2.2.2.2.2.1, u.2.2.2.2.2.2.2.2.2.2.2.2.2.2.2.1, u.2.2.2.2.2.2.2.2.2.2.2.2.2.2.2.2.1, u.2.2.2.2.2.2.2.2.2.2.2.2.2.2.2.2.2.1, u.2.2.2.2.2.2.2.2.2.2.2.2.2.2.2.2.2.2.1, u.2.2.2.2.2.2.2.2.2.2.2.2.2.2.2.2.2.2.2.1, u.2.2.2.2.2.2.2.2.2.2.2.2.2.2.2.2.2.2.2.2.1, u.2.2.2.2.2.2.2.2.2.2.2.2.2.2.2.2.2.2.2.2.2.1, u.2.2.2.2.2.2.2.2.2.2.2.2.2.2.2.2.2.2.2.2.2.2.1, u.2.2.2.2.2.2.2.2.2.2.2.2.2.2.2.2.2.2.2.2.2.2.2.1, u.2.2.2.2.2.2.2.2.2.2.2.2.2.2.2.2.2.2.2.2.2.2.2.2.1, u.2.2.2.2.2.2.2.2.2.2.2.2.2.2.2.2.2.2.2.2.2.2.2.2.2.1, u.2.2.2.2.2.2.2.2.2.2.2.2.2.2.2.2.2.2.2.2.2.2.2.2.2.2.1, u.2.2.2.2.2.2.2.2.2.2.2.2.2.2.2.2.2.2.2.2.2.2.2.2.2.2.2.1, u.2.2.2.2.2.2.2.2.2.2.2.2.2.2.2.2.2.2.2.2.2.2.2.2.2.2.2.2.1, u.2.2.2.2.2.2.2.2.2.2.2.2.2.2.2.2.2.2.2.2.2.2.2.2.2.2.2.2.2.1, u.2.2.2.2.2.2.2.2.2.2.2.2.2.2.2.2.2.2.2.2.2.2.2.2.2.2.2.2.2.2.1, u.2.2.2.2.2.2.2.2.2.2.2.2.2.2.2.2.2.2.2.2.2.2.2.2.2.2.2.2.2.2.2.1, u.2.2.2.2.2.2.2.2.2.2.2.2.2.2.2.2.2.2.2.2.2.2.2.2.2.2.2.2.2.2.2.2.1, u.2.2.2.2.2.2.2.2.2.2.2.2.2.2.2.2.2.2.2.2.2.2.2.2.2.2.2.2.2.2.2.2.2.1, u.2.2.2.2.2.2.2.2.2.2.2.2.2.2.2.2.2.2.2.2.2.2.2.2.2.2.2.2.2.2.2.2.2.2.1, u.2.2.2.2.2.2.2.2.2.2.2.2.2.2.2.2.2.2.2.2.2.2.2.2.2.2.2.2.2.2.2.2.2.2.2.1, u.2.2.2.2.2.2.2.2.2.2.2.2.2.2.2.2.2.2.2.2.2.2.2.2.2.2.2.2.2.2.2.2.2.2.2.2.1, u.2.2.2.2.2.2.2.2.2.2.2.2.2.2.2.2.2.2.2.2.2.2.2.2.2.2.2.2.2.2.2.2.2.2.2.2.2.1, u.2.2.2.2.2.2.2.2.2.2.2.2.2.2.2.2.2.2.2.2.2.2.2.2.2.2.2.2.2.2.2.2.2.2.2.2.2.2.1, u.2.2.2.2.2.2.2.2.2.2.2.2.2.2.2.2.2.2.2.2.2.2.2.2.2.2.2.2.2.2.2.2.2.2.2.2.2.2.2.1, u.2.2.2.2.2.2.2.2.2.2.2.2.2.2.2.2.2.2.2.2.2.2.2.2.2.2.2.2.2.2.2.2.2.2.2.2.2.2.2.2.1, u.2.2.2.2.2.2.2.2.2.2.2.2.2.2.2.2.2.2.2.2.2.2.2.2.2.2.2.2.2.2.2.2.2.2.2.2.2.2.2.2.2.1, z)
abbrev ya_limit (u : SY) : Int32 := u.1
abbrev ya_source (u : SY) : Int32 := u.2.1
abbrev ya_stages (u : SY) : Int32 := u.2.2.1
abbrev ya_wrongAt (u : SY) : Int32 := u.2.2.2.1
abbrev ya_paid (u : SY) : Int32 := u.2.2.2.2.1
abbrev ya_at (u : SY) : Int32 := u.2.2.2.2.2.1
abbrev ya_seenCount (u : SY) : Int32 := u.2.2.2.2.2.2.1
abbrev ya_failedAt (u : SY) : Int32 := u.2.2.2.2.2.2.2.1
abbrev ya_v (u : SY) : Int32 := u.2.2.2.2.2.2.2.2.1
abbrev ya_valTop (u : SY) : Int32 := u.2.2.2.2.2.2.2.2.2.1
abbrev ya_opTop (u : SY) : Int32 := u.2.2.2.2.2.2.2.2.2.2.1
abbrev ya_ran (u : SY) : Int32 := u.2.2.2.2.2.2.2.2.2.2.2.1
abbrev ya_broken (u : SY) : Int32 := u.2.2.2.2.2.2.2.2.2.2.2.2.1
abbrev ya_outcome (u : SY) : Int64 := u.2.2.2.2.2.2.2.2.2.2.2.2.2.1
abbrev ya_lists (u : SY) : Nat → Int32 := u.2.2.2.2.2.2.2.2.2.2.2.2.2.2.1
abbrev ya_sizes (u : SY) : Nat → Int32 := u.2.2.2.2.2.2.2.2.2.2.2.2.2.2.2.1
abbrev ya_tokens (u : SY) : Nat → Int32 := u.2.2.2.2.2.2.2.2.2.2.2.2.2.2.2.2.1
abbrev ya_counts (u : SY) : Nat → Int32 := u.2.2.2.2.2.2.2.2.2.2.2.2.2.2.2.2.2.1
abbrev ya_kinds (u : SY) : Nat → Int32 := u.2.2.2.2.2.2.2.2.2.2.2.2.2.2.2.2.2.2.1
abbrev ya_numbers (u : SY) : Nat → Int32 := u.2.2.2.2.2.2.2.2.2.2.2.2.2.2.2.2.2.2.2.1
abbrev ya_left (u : SY) : Nat → Int32 := u.2.2.2.2.2.2.2.2.2.2.2.2.2.2.2.2.2.2.2.2.1
abbrev ya_last (u : SY) : Nat → Int32 := u.2.2.2.2.2.2.2.2.2.2.2.2.2.2.2.2.2.2.2.2.2.1
abbrev ya_place (u : SY) : Nat → Int32 := u.2.2.2.2.2.2.2.2.2.2.2.2.2.2.2.2.2.2.2.2.2.2.1
abbrev ya_begun (u : SY) : Nat → Int32 := u.2.2.2.2.2.2.2.2.2.2.2.2.2.2.2.2.2.2.2.2.2.2.2.1
abbrev ya_held (u : SY) : Nat → Int32 := u.2.2.2.2.2.2.2.2.2.2.2.2.2.2.2.2.2.2.2.2.2.2.2.2.1
abbrev ya_keys (u : SY) : Nat → Int32 := u.2.2.2.2.2.2.2.2.2.2.2.2.2.2.2.2.2.2.2.2.2.2.2.2.2.1
abbrev ya_holds (u : SY) : Nat → Int32 := u.2.2.2.2.2.2.2.2.2.2.2.2.2.2.2.2.2.2.2.2.2.2.2.2.2.2.1
abbrev ya_applied (u : SY) : Nat → Int32 := u.2.2.2.2.2.2.2.2.2.2.2.2.2.2.2.2.2.2.2.2.2.2.2.2.2.2.2.1
abbrev ya_reads (u : SY) : Nat → Int32 := u.2.2.2.2.2.2.2.2.2.2.2.2.2.2.2.2.2.2.2.2.2.2.2.2.2.2.2.2.1
abbrev ya_seen (u : SY) : Nat → Int32 := u.2.2.2.2.2.2.2.2.2.2.2.2.2.2.2.2.2.2.2.2.2.2.2.2.2.2.2.2.2.1
abbrev ya_vals (u : SY) : Nat → Int32 := u.2.2.2.2.2.2.2.2.2.2.2.2.2.2.2.2.2.2.2.2.2.2.2.2.2.2.2.2.2.2.1
abbrev ya_ops (u : SY) : Nat → Int32 := u.2.2.2.2.2.2.2.2.2.2.2.2.2.2.2.2.2.2.2.2.2.2.2.2.2.2.2.2.2.2.2
def ys_limit (u : SY) (z : Int32) : SY := (z, u.2)
def ys_source (u : SY) (z : Int32) : SY := (u.1, z, u.2.2)
def ys_stages (u : SY) (z : Int32) : SY := (u.1, u.2.1, z, u.2.2.2)
def ys_wrongAt (u : SY) (z : Int32) : SY := (u.1, u.2.1, u.2.2.1, z, u.2.2.2.2)
def ys_paid (u : SY) (z : Int32) : SY := (u.1, u.2.1, u.2.2.1, u.2.2.2.1, z, u.2.2.2.2.2)
def ys_at (u : SY) (z : Int32) : SY := (u.1, u.2.1, u.2.2.1, u.2.2.2.1, u.2.2.2.2.1, z, u.2.2.2.2.2.2)
def ys_seenCount (u : SY) (z : Int32) : SY := (u.1, u.2.1, u.2.2.1, u.2.2.2.1, u.2.2.2.2.1, u.2.2.2.2.2.1, z, u.2.2.2.2.2.2.2)
def ys_failedAt (u : SY) (z : Int32) : SY := (u.1, u.2.1, u.2.2.1, u.2.2.2.1, u.2.2.2.2.1, u.2.2.2.2.2.1, u.2.2.2.2.2.2.1, z, u.2.2.2.2.2.2.2.2)
def ys_v (u : SY) (z : Int32) : SY := (u.1, u.2.1, u.2.2.1, u.2.2.2.1, u.2.2.2.2.1, u.2.2.2.2.2.1, u.2.2.2.2.2.2.1, u.2.2.2.2.2.2.2.1, z, u.2.2.2.2.2.2.2.2.2)
def ys_valTop (u : SY) (z : Int32) : SY := (u.1, u.2.1, u.2.2.1, u.2.2.2.1, u.2.2.2.2.1, u.2.2.2.2.2.1, u.2.2.2.2.2.2.1, u.2.2.2.2.2.2.2.1, u.2.2.2.2.2.2.2.2.1, z, u.2.2.2.2.2.2.2.2.2.2)
def ys_opTop (u : SY) (z : Int32) : SY := (u.1, u.2.1, u.2.2.1, u.2.2.2.1, u.2.2.2.2.1, u.2.2.2.2.2.1, u.2.2.2.2.2.2.1, u.2.2.2.2.2.2.2.1, u.2.2.2.2.2.2.2.2.1, u.2.2.2.2.2.2.2.2.2.1, z, u.2.2.2.2.2.2.2.2.2.2.2)
def ys_ran (u : SY) (z : Int32) : SY := (u.1, u.2.1, u.2.2.1, u.2.2.2.1, u.2.2.2.2.1, u.2.2.2.2.2.1, u.2.2.2.2.2.2.1, u.2.2.2.2.2.2.2.1, u.2.2.2.2.2.2.2.2.1, u.2.2.2.2.2.2.2.2.2.1, u.2.2.2.2.2.2.2.2.2.2.1, z, u.2.2.2.2.2.2.2.2.2.2.2.2)
def ys_broken (u : SY) (z : Int32) : SY := (u.1, u.2.1, u.2.2.1, u.2.2.2.1, u.2.2.2.2.1, u.2.2.2.2.2.1, u.2.2.2.2.2.2.1, u.2.2.2.2.2.2.2.1, u.2.2.2.2.2.2.2.2.1, u.2.2.2.2.2.2.2.2.2.1, u.2.2.2.2.2.2.2.2.2.2.1, u.2.2.2.2.2.2.2.2.2.2.2.1, z, u.2.2.2.2.2.2.2.2.2.2.2.2.2)
def ys_outcome (u : SY) (z : Int64) : SY := (u.1, u.2.1, u.2.2.1, u.2.2.2.1, u.2.2.2.2.1, u.2.2.2.2.2.1, u.2.2.2.2.2.2.1, u.2.2.2.2.2.2.2.1, u.2.2.2.2.2.2.2.2.1, u.2.2.2.2.2.2.2.2.2.1, u.2.2.2.2.2.2.2.2.2.2.1, u.2.2.2.2.2.2.2.2.2.2.2.1, u.2.2.2.2.2.2.2.2.2.2.2.2.1, z, u.2.2.2.2.2.2.2.2.2.2.2.2.2.2)
def ys_lists (u : SY) (z : Nat → Int32) : SY := (u.1, u.2.1, u.2.2.1, u.2.2.2.1, u.2.2.2.2.1, u.2.2.2.2.2.1, u.2.2.2.2.2.2.1, u.2.2.2.2.2.2.2.1, u.2.2.2.2.2.2.2.2.1, u.2.2.2.2.2.2.2.2.2.1, u.2.2.2.2.2.2.2.2.2.2.1, u.2.2.2.2.2.2.2.2.2.2.2.1, u.2.2.2.2.2.2.2.2.2.2.2.2.1, u.2.2.2.2.2.2.2.2.2.2.2.2.2.1, z, u.2.2.2.2.2.2.2.2.2.2.2.2.2.2.2)
def ys_sizes (u : SY) (z : Nat → Int32) : SY := (u.1, u.2.1, u.2.2.1, u.2.2.2.1, u.2.2.2.2.1, u.2.2.2.2.2.1, u.2.2.2.2.2.2.1, u.2.2.2.2.2.2.2.1, u.2.2.2.2.2.2.2.2.1, u.2.2.2.2.2.2.2.2.2.1, u.2.2.2.2.2.2.2.2.2.2.1, u.2.2.2.2.2.2.2.2.2.2.2.1, u.2.2.2.2.2.2.2.2.2.2.2.2.1, u.2.2.2.2.2.2.2.2.2.2.2.2.2.1, u.2.2.2.2.2.2.2.2.2.2.2.2.2.2.1, z, u.2.2.2.2.2.2.2.2.2.2.2.2.2.2.2.2)
def ys_tokens (u : SY) (z : Nat → Int32) : SY := (u.1, u.2.1, u.2.2.1, u.2.2.2.1, u.2.2.2.2.1, u.2.2.2.2.2.1, u.2.2.2.2.2.2.1, u.2.2.2.2.2.2.2.1, u.2.2.2.2.2.2.2.2.1, u.2.2.2.2.2.2.2.2.2.1, u.2.2.2.2.2.2.2.2.2.2.1, u.2.2.2.2.2.2.2.2.2.2.2.1, u.2.2.2.2.2.2.2.2.2.2.2.2.1, u.2.2.2.2.2.2.2.2.2.2.2.2.2.1, u.2.2.2.2.2.2.2.2.2.2.2.2.2.2.1, u.2.2.2.2.2.2.2.2.2.2.2.2.2.2.2.1, z, u.2.2.2.2.2.2.2.2.2.2.2.2.2.2.2.2.2)
def ys_counts (u : SY) (z : Nat → Int32) : SY := (u.1, u.2.1, u.2.2.1, u.2.2.2.1, u.2.2.2.2.1, u.2.2.2.2.2.1, u.2.2.2.2.2.2.1, u.2.2.2.2.2.2.2.1, u.2.2.2.2.2.2.2.2.1, u.2.2.2.2.2.2.2.2.2.1, u.2.2.2.2.2.2.2.2.2.2.1, u.2.2.2.2.2.2.2.2.2.2.2.1, u.2.2.2.2.2.2.2.2.2.2.2.2.1, u.2.2.2.2.2.2.2.2.2.2.2.2.2.1, u.2.2.2.2.2.2.2.2.2.2.2.2.2.2.1, u.2.2.2.2.2.2.2.2.2.2.2.2.2.2.2.1, u.2.2.2.2.2.2.2.2.2.2.2.2.2.2.2.2.1, z, u.2.2.2.2.2.2.2.2.2.2.2.2.2.2.2.2.2.2)
def ys_kinds (u : SY) (z : Nat → Int32) : SY := (u.1, u.2.1, u.2.2.1, u.2.2.2.1, u.2.2.2.2.1, u.2.2.2.2.2.1, u.2.2.2.2.2.2.1, u.2.2.2.2.2.2.2.1, u.2.2.2.2.2.2.2.2.1, u.2.2.2.2.2.2.2.2.2.1, u.2.2.2.2.2.2.2.2.2.2.1, u.2.2.2.2.2.2.2.2.2.2.2.1, u.2.2.2.2.2.2.2.2.2.2.2.2.1, u.2.2.2.2.2.2.2.2.2.2.2.2.2.1, u.2.2.2.2.2.2.2.2.2.2.2.2.2.2.1, u.2.2.2.2.2.2.2.2.2.2.2.2.2.2.2.1, u.2.2.2.2.2.2.2.2.2.2.2.2.2.2.2.2.1, u.2.2.2.2.2.2.2.2.2.2.2.2.2.2.2.2.2.1, z, u.2.2.2.2.2.2.2.2.2.2.2.2.2.2.2.2.2.2.2)
def ys_numbers (u : SY) (z : Nat → Int32) : SY := (u.1, u.2.1, u.2.2.1, u.2.2.2.1, u.2.2.2.2.1, u.2.2.2.2.2.1, u.2.2.2.2.2.2.1, u.2.2.2.2.2.2.2.1, u.2.2.2.2.2.2.2.2.1, u.2.2.2.2.2.2.2.2.2.1, u.2.2.2.2.2.2.2.2.2.2.1, u.2.2.2.2.2.2.2.2.2.2.2.1, u.2.2.2.2.2.2.2.2.2.2.2.2.1, u.2.2.2.2.2.2.2.2.2.2.2.2.2.1, u.2.2.2.2.2.2.2.2.2.2.2.2.2.2.1, u.2.2.2.2.2.2.2.2.2.2.2.2.2.2.2.1, u.2.2.2.2.2.2.2.2.2.2.2.2.2.2.2.2.1, u.2.2.2.2.2.2.2.2.2.2.2.2.2.2.2.2.2.1, u.2.2.2.2.2.2.2.2.2.2.2.2.2.2.2.2.2.2.1, z, u.2.2.2.2.2.2.2.2.2.2.2.2.2.2.2.2.2.2.2.2)
def ys_left (u : SY) (z : Nat → Int32) : SY := (u.1, u.2.1, u.2.2.1, u.2.2.2.1, u.2.2.2.2.1, u.2.2.2.2.2.1, u.2.2.2.2.2.2.1, u.2.2.2.2.2.2.2.1, u.2.2.2.2.2.2.2.2.1, u.2.2.2.2.2.2.2.2.2.1, u.2.2.2.2.2.2.2.2.2.2.1, u.2.2.2.2.2.2.2.2.2.2.2.1, u.2.2.2.2.2.2.2.2.2.2.2.2.1, u.2.2.2.2.2.2.2.2.2.2.2.2.2.1, u.2.2.2.2.2.2.2.2.2.2.2.2.2.2.1, u.2.2.2.2.2.2.2.2.2.2.2.2.2.2.2.1, u.2.2.2.2.2.2.2.2.2.2.2.2.2.2.2.2.1, u.2.2.2.2.2.2.2.2.2.2.2.2.2.2.2.2.2.1, u.2.2.2.2.2.2.2.2.2.2.2.2.2.2.2.2.2.2.1, u.2.2.2.2.2.2.2.2.2.2.2.2.2.2.2.2.2.2.2.1, z, u.2.2.2.2.2.2.2.2.2.2.2.2.2.2.2.2.2.2.2.2.2)
def ys_last (u : SY) (z : Nat → Int32) : SY := (u.1, u.2.1, u.2.2.1, u.2.2.2.1, u.2.2.2.2.1, u.2.2.2.2.2.1, u.2.2.2.2.2.2.1, u.2.2.2.2.2.2.2.1, u.2.2.2.2.2.2.2.2.1, u.2.2.2.2.2.2.2.2.2.1, u.2.2.2.2.2.2.2.2.2.2.1, u.2.2.2.2.2.2.2.2.2.2.2.1, u.2.2.2.2.2.2.2.2.2.2.2.2.1, u.2.2.2.2.2.2.2.2.2.2.2.2.2.1, u.2.2.2.2.2.2.2.2.2.2.2.2.2.2.1, u.2.2.2.2.2.2.2.2.2.2.2.2.2.2.2.1, u.2.2.2.2.2.2.2.2.2.2.2.2.2.2.2.2.1, u.2.2.2.2.2.2.2.2.2.2.2.2.2.2.2.2.2.1, u.2.2.2.2.2.2.2.2.2.2.2.2.2.2.2.2.2.2.1, u.2.2.2.2.2.2.2.2.2.2.2.2.2.2.2.2.2.2.2.1, u.2.2.2.2.2.2.2.2.2.2.2.2.2.2.2.2.2.2.2.2.1, z, u.2.2.2.2.2.2.2.2.2.2.2.2.2.2.2.2.2.2.2.2.2.2)
def ys_place (u : SY) (z : Nat → Int32) : SY := (u.1, u.2.1, u.2.2.1, u.2.2.2.1, u.2.2.2.2.1, u.2.2.2.2.2.1, u.2.2.2.2.2.2.1, u.2.2.2.2.2.2.2.1, u.2.2.2.2.2.2.2.2.1, u.2.2.2.2.2.2.2.2.2.1, u.2.2.2.2.2.2.2.2.2.2.1, u.2.2.2.2.2.2.2.2.2.2.2.1, u.2.2.2.2.2.2.2.2.2.2.2.2.1, u.2.2.2.2.2.2.2.2.2.2.2.2.2.1, u.2.2.2.2.2.2.2.2.2.2.2.2.2.2.1, u.2.2.2.2.2.2.2.2.2.2.2.2.2.2.2.1, u.2.2.2.2.2.2.2.2.2.2.2.2.2.2.2.2.1, u.2.2.2.2.2.2.2.2.2.2.2.2.2.2.2.2.2.1, u.2.2.2.2.2.2.2.2.2.2.2.2.2.2.2.2.2.2.1, u.2.2.2.2.2.2.2.2.2.2.2.2.2.2.2.2.2.2.2.1, u.2.2.2.2.2.2.2.2.2.2.2.2.2.2.2.2.2.2.2.2.1, u.2.2.2.2.2.2.2.2.2.2.2.2.2.2.2.2.2.2.2.2.2.1, z, u.2.2.2.2.2.2.2.2.2.2.2.2.2.2.2.2.2.2.2.2.2.2.2)
def ys_begun (u : SY) (z : Nat → Int32) : SY := (u.1, u.2.1, u.2.2.1, u.2.2.2.1, u.2.2.2.2.1, u.2.2.2.2.2.1, u.2.2.2.2.2.2.1, u.2.2.2.2.2.2.2.1, u.2.2.2.2.2.2.2.2.1, u.2.2.2.2.2.2.2.2.2.1, u.2.2.2.2.2.2.2.2.2.2.1, u.2.2.2.2.2.2.2.2.2.2.2.1, u.2.2.2.2.2.2.2.2.2.2.2.2.1, u.2.2.2.2.2.2.2.2.2.2.2.2.2.1, u.2.2.2.2.2.2.2.2.2.2.2.2.2.2.1, u.2.2.2.2.2.2.2.2.2.2.2.2.2.2.2.1, u.2.2.2.2.2.2.2.2.2.2.2.2.2.2.2.2.1, u.2.2.2.2.2.2.2.2.2.2.2.2.2.2.2.2.2.1, u.2.2.2.2.2.2.2.2.2.2.2.2.2.2.2.2.2.2.1, u.2.2.2.2.2.2.2.2.2.2.2.2.2.2.2.2.2.2.2.1, u.2.2.2.2.2.2.2.2.2.2.2.2.2.2.2.2.2.2.2.2.1, u.2.2.2.2.2.2.2.2.2.2.2.2.2.2.2.2.2.2.2.2.2.1, u.2.2.2.2.2.2.2.2.2.2.2.2.2.2.2.2.2.2.2.2.2.2.1, z, u.2.2.2.2.2.2.2.2.2.2.2.2.2.2.2.2.2.2.2.2.2.2.2.2)
def ys_held (u : SY) (z : Nat → Int32) : SY := (u.1, u.2.1, u.2.2.1, u.2.2.2.1, u.2.2.2.2.1, u.2.2.2.2.2.1, u.2.2.2.2.2.2.1, u.2.2.2.2.2.2.2.1, u.2.2.2.2.2.2.2.2.1, u.2.2.2.2.2.2.2.2.2.1, u.2.2.2.2.2.2.2.2.2.2.1, u.2.2.2.2.2.2.2.2.2.2.2.1, u.2.2.2.2.2.2.2.2.2.2.2.2.1, u.2.2.2.2.2.2.2.2.2.2.2.2.2.1, u.2.2.2.2.2.2.2.2.2.2.2.2.2.2.1, u.2.2.2.2.2.2.2.2.2.2.2.2.2.2.2.1, u.2.2.2.2.2.2.2.2.2.2.2.2.2.2.2.2.1, u.2.2.2.2.2.2.2.2.2.2.2.2.2.2.2.2.2.1, u.2.2.2.2.2.2.2.2.2.2.2.2.2.2.2.2.2.2.1, u.2.2.2.2.2.2.2.2.2.2.2.2.2.2.2.2.2.2.2.1, u.2.2.2.2.2.2.2.2.2.2.2.2.2.2.2.2.2.2.2.2.1, u.2.2.2.2.2.2.2.2.2.2.2.2.2.2.2.2.2.2.2.2.2.1, u.2.2.2.2.2.2.2.2.2.2.2.2.2.2.2.2.2.2.2.2.2.2.1, u.2.2.2.2.2.2.2.2.2.2.2.2.2.2.2.2.2.2.2.2.2.2.2.1, z, u.2.2.2.2.2.2.2.2.2.2.2.2.2.2.2.2.2.2.2.2.2.2.2.2.2)
def ys_keys (u : SY) (z : Nat → Int32) : SY := (u.1, u.2.1, u.2.2.1, u.2.2.2.1, u.2.2.2.2.1, u.2.2.2.2.2.1, u.2.2.2.2.2.2.1, u.2.2.2.2.2.2.2.1, u.2.2.2.2.2.2.2.2.1, u.2.2.2.2.2.2.2.2.2.1, u.2.2.2.2.2.2.2.2.2.2.1, u.2.2.2.2.2.2.2.2.2.2.2.1, u.2.2.2.2.2.2.2.2.2.2.2.2.1, u.2.2.2.2.2.2.2.2.2.2.2.2.2.1, u.2.2.2.2.2.2.2.2.2.2.2.2.2.2.1, u.2.2.2.2.2.2.2.2.2.2.2.2.2.2.2.1, u.2.2.2.2.2.2.2.2.2.2.2.2.2.2.2.2.1, u.2.2.2.2.2.2.2.2.2.2.2.2.2.2.2.2.2.1, u.2.2.2.2.2.2.2.2.2.2.2.2.2.2.2.2.2.2.1, u.2.2.2.2.2.2.2.2.2.2.2.2.2.2.2.2.2.2.2.1, u.2.2.2.2.2.2.2.2.2.2.2.2.2.2.2.2.2.2.2.2.1, u.2.2.2.2.2.2.2.2.2.2.2.2.2.2.2.2.2.2.2.2.2.1, u.2.2.2.2.2.2.2.2.2.2.2.2.2.2.2.2.2.2.2.2.2.2.1, u.2.2.2.2.2.2.2.2.2.2.2.2.2.2.2.2.2.2.2.2.2.2.2.1, u.2.2.2.2.2.2.2.2.2.2.2.2.2.2.2.2.2.2.2.2.2.2.2.2.1, z, u.2.2.2.2.2.2.2.2.2.2.2.2.2.2.2.2.2.2.2.2.2.2.2.2.2.2)
def ys_holds (u : SY) (z : Nat → Int32) : SY := (u.1, u.2.1, u.2.2.1, u.2.2.2.1, u.2.2.2.2.1, u.2.2.2.2.2.1, u.2.2.2.2.2.2.1, u.2.2.2.2.2.2.2.1, u.2.2.2.2.2.2.2.2.1, u.2.2.2.2.2.2.2.2.2.1, u.2.2.2.2.2.2.2.2.2.2.1, u.2.2.2.2.2.2.2.2.2.2.2.1, u.2.2.2.2.2.2.2.2.2.2.2.2.1, u.2.2.2.2.2.2.2.2.2.2.2.2.2.1, u.2.2.2.2.2.2.2.2.2.2.2.2.2.2.1, u.2.2.2.2.2.2.2.2.2.2.2.2.2.2.2.1, u.2.2.2.2.2.2.2.2.2.2.2.2.2.2.2.2.1, u.2.2.2.2.2.2.2.2.2.2.2.2.2.2.2.2.2.1, u.2.2.2.2.2.2.2.2.2.2.2.2.2.2.2.2.2.2.1, u.2.2.2.2.2.2.2.2.2.2.2.2.2.2.2.2.2.2.2.1, u.2.2.2.2.2.2.2.2.2.2.2.2.2.2.2.2.2.2.2.2.1, u.2.2.2.2.2.2.2.2.2.2.2.2.2.2.2.2.2.2.2.2.2.1, u.2.2.2.2.2.2.2.2.2.2.2.2.2.2.2.2.2.2.2.2.2.2.1, u.2.2.2.2.2.2.2.2.2.2.2.2.2.2.2.2.2.2.2.2.2.2.2.1, u.2.2.2.2.2.2.2.2.2.2.2.2.2.2.2.2.2.2.2.2.2.2.2.2.1, u.2.2.2.2.2.2.2.2.2.2.2.2.2.2.2.2.2.2.2.2.2.2.2.2.2.1, z, u.2.2.2.2.2.2.2.2.2.2.2.2.2.2.2.2.2.2.2.2.2.2.2.2.2.2.2)
def ys_applied (u : SY) (z : Nat → Int32) : SY := (u.1, u.2.1, u.2.2.1, u.2.2.2.1, u.2.2.2.2.1, u.2.2.2.2.2.1, u.2.2.2.2.2.2.1, u.2.2.2.2.2.2.2.1, u.2.2.2.2.2.2.2.2.1, u.2.2.2.2.2.2.2.2.2.1, u.2.2.2.2.2.2.2.2.2.2.1, u.2.2.2.2.2.2.2.2.2.2.2.1, u.2.2.2.2.2.2.2.2.2.2.2.2.1, u.2.2.2.2.2.2.2.2.2.2.2.2.2.1, u.2.2.2.2.2.2.2.2.2.2.2.2.2.2.1, u.2.2.2.2.2.2.2.2.2.2.2.2.2.2.2.1, u.2.2.2.2.2.2.2.2.2.2.2.2.2.2.2.2.1, u.2.2.2.2.2.2.2.2.2.2.2.2.2.2.2.2.2.1, u.2.2.2.2.2.2.2.2.2.2.2.2.2.2.2.2.2.2.1, u.2.2.2.2.2.2.2.2.2.2.2.2.2.2.2.2.2.2.2.1, u.2.2.2.2.2.2.2.2.2.2.2.2.2.2.2.2.2.2.2.2.1, u.2.2.2.2.2.2.2.2.2.2.2.2.2.2.2.2.2.2.2.2.2.1, u.2.2.2.2.2.2.2.2.2.2.2.2.2.2.2.2.2.2.2.2.2.2.1, u.2.2.2.2.2.2.2.2.2.2.2.2.2.2.2.2.2.2.2.2.2.2.2.1, u.2.2.2.2.2.2.2.2.2.2.2.2.2.2.2.2.2.2.2.2.2.2.2.2.1, u.2.2.2.2.2.2.2.2.2.2.2.2.2.2.2.2.2.2.2.2.2.2.2.2.2.1, u.2.2.2.2.2.2.2.2.2.2.2.2.2.2.2.2.2.2.2.2.2.2.2.2.2.2.1, z, u.2.2.2.2.2.2.2.2.2.2.2.2.2.2.2.2.2.2.2.2.2.2.2.2.2.2.2.2)
def ys_reads (u : SY) (z : Nat → Int32) : SY := (u.1, u.2.1, u.2.2.1, u.2.2.2.1, u.2.2.2.2.1, u.2.2.2.2.2.1, u.2.2.2.2.2.2.1, u.2.2.2.2.2.2.2.1, u.2.2.2.2.2.2.2.2.1, u.2.2.2.2.2.2.2.2.2.1, u.2.2.2.2.2.2.2.2.2.2.1, u.2.2.2.2.2.2.2.2.2.2.2.1, u.2.2.2.2.2.2.2.2.2.2.2.2.1, u.2.2.2.2.2.2.2.2.2.2.2.2.2.1, u.2.2.2.2.2.2.2.2.2.2.2.2.2.2.1, u.2.2.2.2.2.2.2.2.2.2.2.2.2.2.2.1, u.2.2.2.2.2.2.2.2.2.2.2.2.2.2.2.2.1, u.2.2.2.2.2.2.2.2.2.2.2.2.2.2.2.2.2.1, u.2.2.2.2.2.2.2.2.2.2.2.2.2.2.2.2.2.2.1, u.2.2.2.2.2.2.2.2.2.2.2.2.2.2.2.2.2.2.2.1, u.2.2.2.2.2.2.2.2.2.2.2.2.2.2.2.2.2.2.2.2.1, u.2.2.2.2.2.2.2.2.2.2.2.2.2.2.2.2.2.2.2.2.2.1, u.2.2.2.2.2.2.2.2.2.2.2.2.2.2.2.2.2.2.2.2.2.2.1, u.2.2.2.2.2.2.2.2.2.2.2.2.2.2.2.2.2.2.2.2.2.2.2.1, u.2.2.2.2.2.2.2.2.2.2.2.2.2.2.2.2.2.2.2.2.2.2.2.2.1, u.2.2.2.2.2.2.2.2.2.2.2.2.2.2.2.2.2.2.2.2.2.2.2.2.2.1, u.2.2.2.2.2.2.2.2.2.2.2.2.2.2.2.2.2.2.2.2.2.2.2.2.2.2.1, u.2.2.2.2.2.2.2.2.2.2.2.2.2.2.2.2.2.2.2.2.2.2.2.2.2.2.2.1, z, u.2.2.2.2.2.2.2.2.2.2.2.2.2.2.2.2.2.2.2.2.2.2.2.2.2.2.2.2.2)
def ys_seen (u : SY) (z : Nat → Int32) : SY := (u.1, u.2.1, u.2.2.1, u.2.2.2.1, u.2.2.2.2.1, u.2.2.2.2.2.1, u.2.2.2.2.2.2.1, u.2.2.2.2.2.2.2.1, u.2.2.2.2.2.2.2.2.1, u.2.2.2.2.2.2.2.2.2.1, u.2.2.2.2.2.2.2.2.2.2.1, u.2.2.2.2.2.2.2.2.2.2.2.1, u.2.2.2.2.2.2.2.2.2.2.2.2.1, u.2.2.2.2.2.2.2.2.2.2.2.2.2.1, u.2.2.2.2.2.2.2.2.2.2.2.2.2.2.1, u.2.2.2.2.2.2.2.2.2.2.2.2.2.2.2.1, u.2.2.2.2.2.2.2.2.2.2.2.2.2.2.2.2.1, u.2.2.2.2.2.2.2.2.2.2.2.2.2.2.2.2.2.1, u.2.2.2.2.2.2.2.2.2.2.2.2.2.2.2.2.2.2.1, u.2.2.2.2.2.2.2.2.2.2.2.2.2.2.2.2.2.2.2.1, u.2.2.2.2.2.2.2.2.2.2.2.2.2.2.2.2.2.2.2.2.1, u.2.2.2.2.2.2.2.2.2.2.2.2.2.2.2.2.2.2.2.2.2.1, u.2.2.2.2.2.2.2.2.2.2.2.2.2.2.2.2.2.2.2.2.2.2.1, u.2.2.2.2.2.2.2.2.2.2.2.2.2.2.2.2.2.2.2.2.2.2.2.1, u.2.2.2.2.2.2.2.2.2.2.2.2.2.2.2.2.2.2.2.2.2.2.2.2.1, u.2.2.2.2.2.2.2.2.2.2.2.2.2.2.2.2.2.2.2.2.2.2.2.2.2.1, u.2.2.2.2.2.2.2.2.2.2.2.2.2.2.2.2.2.2.2.2.2.2.2.2.2.2.1, u.2.2.2.2.2.2.2.2.2.2.2.2.2.2.2.2.2.2.2.2.2.2.2.2.2.2.2.1, u.2.2.2.2.2.2.2.2.2.2.2.2.2.2.2.2.2.2.2.2.2.2.2.2.2.2.2.2.1, z, u.2.2.2.2.2.2.2.2.2.2.2.2.2.2.2.2.2.2.2.2.2.2.2.2.2.2.2.2.2.2)
def ys_vals (u : SY) (z : Nat → Int32) : SY := (u.1, u.2.1, u.2.2.1, u.2.2.2.1, u.2.2.2.2.1, u.2.2.2.2.2.1, u.2.2.2.2.2.2.1, u.2.2.2.2.2.2.2.1, u.2.2.2.2.2.2.2.2.1, u.2.2.2.2.2.2.2.2.2.1, u.2.2.2.2.2.2.2.2.2.2.1, u.2.2.2.2.2.2.2.2.2.2.2.1, u.2.2.2.2.2.2.2.2.2.2.2.2.1, u.2.2.2.2.2.2.2.2.2.2.2.2.2.1, u.2.2.2.2.2.2.2.2.2.2.2.2.2.2.1, u.2.2.2.2.2.2.2.2.2.2.2.2.2.2.2.1, u.2.2.2.2.2.2.2.2.2.2.2.2.2.2.2.2.1, u.2.2.2.2.2.2.2.2.2.2.2.2.2.2.2.2.2.1, u.2.2.2.2.2.2.2.2.2.2.2.2.2.2.2.2.2.2.1, u.2.2.2.2.2.2.2.2.2.2.2.2.2.2.2.2.2.2.2.1, u.2.2.2.2.2.2.2.2.2.2.2.2.2.2.2.2.2.2.2.2.1, u.2.2.2.2.2.2.2.2.2.2.2.2.2.2.2.2.2.2.2.2.2.1, u.2.2.2.2.2.2.2.2.2.2.2.2.2.2.2.2.2.2.2.2.2.2.1, u.2.2.2.2.2.2.2.2.2.2.2.2.2.2.2.2.2.2.2.2.2.2.2.1, u.2.2.2.2.2.2.2.2.2.2.2.2.2.2.2.2.2.2.2.2.2.2.2.2.1, u.2.2.2.2.2.2.2.2.2.2.2.2.2.2.2.2.2.2.2.2.2.2.2.2.2.1, u.2.2.2.2.2.2.2.2.2.2.2.2.2.2.2.2.2.2.2.2.2.2.2.2.2.2.1, u.2.2.2.2.2.2.2.2.2.2.2.2.2.2.2.2.2.2.2.2.2.2.2.2.2.2.2.1, u.2.2.2.2.2.2.2.2.2.2.2.2.2.2.2.2.2.2.2.2.2.2.2.2.2.2.2.2.1, u.2.2.2.2.2.2.2.2.2.2.2.2.2.2.2.2.2.2.2.2.2.2.2.2.2.2.2.2.2.1, z, u.2.2.2.2.2.2.2.2.2.2.2.2.2.2.2.2.2.2.2.2.2.2.2.2.2.2.2.2.2.2.2)
def ys_ops (u : SY) (z : Nat → Int32) : SY := (u.1, u.2.1, u.2.2.1, u.2.2.2.1, u.2.2.2.2.1, u.2.2.2.2.2.1, u.2.2.2.2.2.2.1, u.2.2.2.2.2.2.2.1, u.2.2.2.2.2.2.2.2.1, u.2.2.2.2.2.2.2.2.2.1, u.2.2.2.2.2.2.2.2.2.2.1, u.2.2.2.2.2.2.2.2.2.2.2.1, u.2.2.2.2.2.2.2.2.2.2.2.2.1, u.2.2.2.2.2.2.2.2.2.2.2.2.2.1, u.2.2.2.2.2.2.2.2.2.2.2.2.2.2.1, u.2.2.2.2.2.2.2.2.2.2.2.2.2.2.2.1, u.2.2.2.2.2.2.2.2.2.2.2.2.2.2.2.2.1, u.2.2.2.2.2.2.2.2.2.2.2.2.2.2.2.2.2.1, u.2.2.2.2.2.2.2.2.2.2.2.2.2.2.2.2.2.2.1, u.2.2.2.2.2.2.2.2.2.2.2.2.2.2.2.2.2.2.2.1, u.2.2.2.2.2.2.2.2.2.2.2.2.2.2.2.2.2.2.2.2.1, u.2.2.2.2.2.2.2.2.2.2.2.2.2.2.2.2.2.2.2.2.2.1, u.2.2.2.2.2.2.2.2.2.2.2.2.2.2.2.2.2.2.2.2.2.2.1, u.2.2.2.2.2.2.2.2.2.2.2.2.2.2.2.2.2.2.2.2.2.2.2.1, u.2.2.2.2.2.2.2.2.2.2.2.2.2.2.2.2.2.2.2.2.2.2.2.2.1, u.2.2.2.2.2.2.2.2.2.2.2.2.2.2.2.2.2.2.2.2.2.2.2.2.2.1, u.2.2.2.2.2.2.2.2.2.2.2.2.2.2.2.2.2.2.2.2.2.2.2.2.2.2.1, u.2.2.2.2.2.2.2.2.2.2.2.2.2.2.2.2.2.2.2.2.2.2.2.2.2.2.2.1, u.2.2.2.2.2.2.2.2.2.2.2.2.2.2.2.2.2.2.2.2.2.2.2.2.2.2.2.2.1, u.2.2.2.2.2.2.2.2.2.2.2.2.2.2.2.2.2.2.2.2.2.2.2.2.2.2.2.2.2.1, u.2.2.2.2.2.2.2.2.2.2.2.2.2.2.2.2.2.2.2.2.2.2.2.2.2.2.2.2.2.2.1, z)
def xm_ps (u : SX) (z_spent : Int32) (z_applications : Nat → Int32) : SX := (u.1, u.2.1, u.2.2.1, u.2.2.2.1, u.2.2.2.2.1, u.2.2.2.2.2.1, u.2.2.2.2.2.2.1, u.2.2.2.2.2.2.2.1, u.2.2.2.2.2.2.2.2.1, u.2.2.2.2.2.2.2.2.2.1, u.2.2.2.2.2.2.2.2.2.2.1, z_spent, u.2.2.2.2.2.2.2.2.2.2.2.2.1, u.2.2.2.2.2.2.2.2.2.2.2.2.2.1, u.2.2.2.2.2.2.2.2.2.2.2.2.2.2.1, u.2.2.2.2.2.2.2.2.2.2.2.2.2.2.2.1, u.2.2.2.2.2.2.2.2.2.2.2.2.2.2.2.2.1, u.2.2.2.2.2.2.2.2.2.2.2.2.2.2.2.2.2.1, u.2.2.2.2.2.2.2.2.2.2.2.2.2.2.2.2.2.2.1, u.2.2.2.2.2.2.2.2.2.2.2.2.2.2.2.2.2.2.2.1, u.2.2.2.2.2.2.2.2.2.2.2.2.2.2.2.2.2.2.2.2.1, u.2.2.2.2.2.2.2.2.2.2.2.2.2.2.2.2.2.2.2.2.2.1, u.2.2.2.2.2.2.2.2.2.2.2.2.2.2.2.2.2.2.2.2.2.2.1, u.2.2.2.2.2.2.2.2.2.2.2.2.2.2.2.2.2.2.2.2.2.2.2.1, u.2.2.2.2.2.2.2.2.2.2.2.2.2.2.2.2.2.2.2.2.2.2.2.2.1, u.2.2.2.2.2.2.2.2.2.2.2.2.2.2.2.2.2.2.2.2.2.2.2.2.2.1, u.2.2.2.2.2.2.2.2.2.2.2.2.2.2.2.2.2.2.2.2.2.2.2.2.2.2.1, u.2.2.2.2.2.2.2.2.2.2.2.2.2.2.2.2.2.2.2.2.2.2.2.2.2.2.2.1, u.2.2.2.2.2.2.2.2.2.2.2.2.2.2.2.2.2.2.2.2.2.2.2.2.2.2.2.2.1, u.2.2.2.2.2.2.2.2.2.2.2.2.2.2.2.2.2.2.2.2.2.2.2.2.2.2.2.2.2.1, u.2.2.2.2.2.2.2.2.2.2.2.2.2.2.2.2.2.2.2.2.2.2.2.2.2.2.2.2.2.2.1, u.2.2.2.2.2.2.2.2.2.2.2.2.2.2.2.2.2.2.2.2.2.2.2.2.2.2.2.2.2.2.2.1, u.2.2.2.2.2.2.2.2.2.2.2.2.2.2.2.2.2.2.2.2.2.2.2.2.2.2.2.2.2.2.2.2.1, u.2.2.2.2.2.2.2.2.2.2.2.2.2.2.2.2.2.2.2.2.2.2.2.2.2.2.2.2.2.2.2.2.2.1, u.2.2.2.2.2.2.2.2.2.2.2.2.2.2.2.2.2.2.2.2.2.2.2.2.2.2.2.2.2.2.2.2.2.2.1, u.2.2.2.2.2.2.2.2.2.2.2.2.2.2.2.2.2.2.2.2.2.2.2.2.2.2.2.2.2.2.2.2.2.2.2.1, u.2.2.2.2.2.2.2.2.2.2.2.2.2.2.2.2.2.2.2.2.2.2.2.2.2.2.2.2.2.2.2.2.2.2.2.2.1, u.2.2.2.2.2.2.2.2.2.2.2.2.2.2.2.2.2.2.2.2.2.2.2.2.2.2.2.2.2.2.2.2.2.2.2.2.2.1, u.2.2.2.2.2.2.2.2.2.2.2.2.2.2.2.2.2.2.2.2.2.2.2.2.2.2.2.2.2.2.2.2.2.2.2.2.2.2.1, u.2.2.2.2.2.2.2.2.2.2.2.2.2.2.2.2.2.2.2.2.2.2.2.2.2.2.2.2.2.2.2.2.2.2.2.2.2.2.2.1, z_applications, u.2.2.2.2.2.2.2.2.2.2.2.2.2.2.2.2.2.2.2.2.2.2.2.2.2.2.2.2.2.2.2.2.2.2.2.2.2.2.2.2.2)
def xm_pr (u : SX) (z_spent : Int32) (z_reads : Nat → Int32) : SX := (u.1, u.2.1, u.2.2.1, u.2.2.2.1, u.2.2.2.2.1, u.2.2.2.2.2.1, u.2.2.2.2.2.2.1, u.2.2.2.2.2.2.2.1, u.2.2.2.2.2.2.2.2.1, u.2.2.2.2.2.2.2.2.2.1, u.2.2.2.2.2.2.2.2.2.2.1, z_spent, u.2.2.2.2.2.2.2.2.2.2.2.2.1, u.2.2.2.2.2.2.2.2.2.2.2.2.2.1, u.2.2.2.2.2.2.2.2.2.2.2.2.2.2.1, u.2.2.2.2.2.2.2.2.2.2.2.2.2.2.2.1, u.2.2.2.2.2.2.2.2.2.2.2.2.2.2.2.2.1, u.2.2.2.2.2.2.2.2.2.2.2.2.2.2.2.2.2.1, u.2.2.2.2.2.2.2.2.2.2.2.2.2.2.2.2.2.2.1, u.2.2.2.2.2.2.2.2.2.2.2.2.2.2.2.2.2.2.2.1, u.2.2.2.2.2.2.2.2.2.2.2.2.2.2.2.2.2.2.2.2.1, u.2.2.2.2.2.2.2.2.2.2.2.2.2.2.2.2.2.2.2.2.2.1, u.2.2.2.2.2.2.2.2.2.2.2.2.2.2.2.2.2.2.2.2.2.2.1, u.2.2.2.2.2.2.2.2.2.2.2.2.2.2.2.2.2.2.2.2.2.2.2.1, u.2.2.2.2.2.2.2.2.2.2.2.2.2.2.2.2.2.2.2.2.2.2.2.2.1, u.2.2.2.2.2.2.2.2.2.2.2.2.2.2.2.2.2.2.2.2.2.2.2.2.2.1, u.2.2.2.2.2.2.2.2.2.2.2.2.2.2.2.2.2.2.2.2.2.2.2.2.2.2.1, u.2.2.2.2.2.2.2.2.2.2.2.2.2.2.2.2.2.2.2.2.2.2.2.2.2.2.2.1, u.2.2.2.2.2.2.2.2.2.2.2.2.2.2.2.2.2.2.2.2.2.2.2.2.2.2.2.2.1, u.2.2.2.2.2.2.2.2.2.2.2.2.2.2.2.2.2.2.2.2.2.2.2.2.2.2.2.2.2.1, u.2.2.2.2.2.2.2.2.2.2.2.2.2.2.2.2.2.2.2.2.2.2.2.2.2.2.2.2.2.2.1, u.2.2.2.2.2.2.2.2.2.2.2.2.2.2.2.2.2.2.2.2.2.2.2.2.2.2.2.2.2.2.2.1, u.2.2.2.2.2.2.2.2.2.2.2.2.2.2.2.2.2.2.2.2.2.2.2.2.2.2.2.2.2.2.2.2.1, u.2.2.2.2.2.2.2.2.2.2.2.2.2.2.2.2.2.2.2.2.2.2.2.2.2.2.2.2.2.2.2.2.2.1, u.2.2.2.2.2.2.2.2.2.2.2.2.2.2.2.2.2.2.2.2.2.2.2.2.2.2.2.2.2.2.2.2.2.2.1, u.2.2.2.2.2.2.2.2.2.2.2.2.2.2.2.2.2.2.2.2.2.2.2.2.2.2.2.2.2.2.2.2.2.2.2.1, u.2.2.2.2.2.2.2.2.2.2.2.2.2.2.2.2.2.2.2.2.2.2.2.2.2.2.2.2.2.2.2.2.2.2.2.2.1, u.2.2.2.2.2.2.2.2.2.2.2.2.2.2.2.2.2.2.2.2.2.2.2.2.2.2.2.2.2.2.2.2.2.2.2.2.2.1, u.2.2.2.2.2.2.2.2.2.2.2.2.2.2.2.2.2.2.2.2.2.2.2.2.2.2.2.2.2.2.2.2.2.2.2.2.2.2.1, u.2.2.2.2.2.2.2.2.2.2.2.2.2.2.2.2.2.2.2.2.2.2.2.2.2.2.2.2.2.2.2.2.2.2.2.2.2.2.2.1, u.2.2.2.2.2.2.2.2.2.2.2.2.2.2.2.2.2.2.2.2.2.2.2.2.2.2.2.2.2.2.2.2.2.2.2.2.2.2.2.2.1, z_reads, u.2.2.2.2.2.2.2.2.2.2.2.2.2.2.2.2.2.2.2.2.2.2.2.2.2.2.2.2.2.2.2.2.2.2.2.2.2.2.2.2.2.2)
def xm_op (u : SX) (z_opens : Int32) (z_openStage : Nat → Int32) (z_openValue : Nat → Int32) (z_openLeft : Nat → Int32) : SX := (u.1, u.2.1, u.2.2.1, u.2.2.2.1, u.2.2.2.2.1, u.2.2.2.2.2.1, u.2.2.2.2.2.2.1, z_opens, u.2.2.2.2.2.2.2.2.1, u.2.2.2.2.2.2.2.2.2.1, u.2.2.2.2.2.2.2.2.2.2.1, u.2.2.2.2.2.2.2.2.2.2.2.1, u.2.2.2.2.2.2.2.2.2.2.2.2.1, u.2.2.2.2.2.2.2.2.2.2.2.2.2.1, u.2.2.2.2.2.2.2.2.2.2.2.2.2.2.1, u.2.2.2.2.2.2.2.2.2.2.2.2.2.2.2.1, u.2.2.2.2.2.2.2.2.2.2.2.2.2.2.2.2.1, u.2.2.2.2.2.2.2.2.2.2.2.2.2.2.2.2.2.1, u.2.2.2.2.2.2.2.2.2.2.2.2.2.2.2.2.2.2.1, u.2.2.2.2.2.2.2.2.2.2.2.2.2.2.2.2.2.2.2.1, u.2.2.2.2.2.2.2.2.2.2.2.2.2.2.2.2.2.2.2.2.1, u.2.2.2.2.2.2.2.2.2.2.2.2.2.2.2.2.2.2.2.2.2.1, u.2.2.2.2.2.2.2.2.2.2.2.2.2.2.2.2.2.2.2.2.2.2.1, u.2.2.2.2.2.2.2.2.2.2.2.2.2.2.2.2.2.2.2.2.2.2.2.1, u.2.2.2.2.2.2.2.2.2.2.2.2.2.2.2.2.2.2.2.2.2.2.2.2.1, u.2.2.2.2.2.2.2.2.2.2.2.2.2.2.2.2.2.2.2.2.2.2.2.2.2.1, u.2.2.2.2.2.2.2.2.2.2.2.2.2.2.2.2.2.2.2.2.2.2.2.2.2.2.1, u.2.2.2.2.2.2.2.2.2.2.2.2.2.2.2.2.2.2.2.2.2.2.2.2.2.2.2.1, u.2.2.2.2.2.2.2.2.2.2.2.2.2.2.2.2.2.2.2.2.2.2.2.2.2.2.2.2.1, u.2.2.2.2.2.2.2.2.2.2.2.2.2.2.2.2.2.2.2.2.2.2.2.2.2.2.2.2.2.1, u.2.2.2.2.2.2.2.2.2.2.2.2.2.2.2.2.2.2.2.2.2.2.2.2.2.2.2.2.2.2.1, u.2.2.2.2.2.2.2.2.2.2.2.2.2.2.2.2.2.2.2.2.2.2.2.2.2.2.2.2.2.2.2.1, u.2.2.2.2.2.2.2.2.2.2.2.2.2.2.2.2.2.2.2.2.2.2.2.2.2.2.2.2.2.2.2.2.1, u.2.2.2.2.2.2.2.2.2.2.2.2.2.2.2.2.2.2.2.2.2.2.2.2.2.2.2.2.2.2.2.2.2.1, u.2.2.2.2.2.2.2.2.2.2.2.2.2.2.2.2.2.2.2.2.2.2.2.2.2.2.2.2.2.2.2.2.2.2.1, u.2.2.2.2.2.2.2.2.2.2.2.2.2.2.2.2.2.2.2.2.2.2.2.2.2.2.2.2.2.2.2.2.2.2.2.1, u.2.2.2.2.2.2.2.2.2.2.2.2.2.2.2.2.2.2.2.2.2.2.2.2.2.2.2.2.2.2.2.2.2.2.2.2.1, z_openStage, z_openValue, z_openLeft, u.2.2.2.2.2.2.2.2.2.2.2.2.2.2.2.2.2.2.2.2.2.2.2.2.2.2.2.2.2.2.2.2.2.2.2.2.2.2.2.2)
def xm_hd (u : SX) (z_held : Nat → Int32) (z_keyOf : Nat → Int32) (z_size : Nat → Int32) : SX := (u.1, u.2.1, u.2.2.1, u.2.2.2.1, u.2.2.2.2.1, u.2.2.2.2.2.1, u.2.2.2.2.2.2.1, u.2.2.2.2.2.2.2.1, u.2.2.2.2.2.2.2.2.1, u.2.2.2.2.2.2.2.2.2.1, u.2.2.2.2.2.2.2.2.2.2.1, u.2.2.2.2.2.2.2.2.2.2.2.1, u.2.2.2.2.2.2.2.2.2.2.2.2.1, u.2.2.2.2.2.2.2.2.2.2.2.2.2.1, u.2.2.2.2.2.2.2.2.2.2.2.2.2.2.1, u.2.2.2.2.2.2.2.2.2.2.2.2.2.2.2.1, u.2.2.2.2.2.2.2.2.2.2.2.2.2.2.2.2.1, u.2.2.2.2.2.2.2.2.2.2.2.2.2.2.2.2.2.1, u.2.2.2.2.2.2.2.2.2.2.2.2.2.2.2.2.2.2.1, u.2.2.2.2.2.2.2.2.2.2.2.2.2.2.2.2.2.2.2.1, u.2.2.2.2.2.2.2.2.2.2.2.2.2.2.2.2.2.2.2.2.1, u.2.2.2.2.2.2.2.2.2.2.2.2.2.2.2.2.2.2.2.2.2.1, u.2.2.2.2.2.2.2.2.2.2.2.2.2.2.2.2.2.2.2.2.2.2.1, u.2.2.2.2.2.2.2.2.2.2.2.2.2.2.2.2.2.2.2.2.2.2.2.1, u.2.2.2.2.2.2.2.2.2.2.2.2.2.2.2.2.2.2.2.2.2.2.2.2.1, u.2.2.2.2.2.2.2.2.2.2.2.2.2.2.2.2.2.2.2.2.2.2.2.2.2.1, u.2.2.2.2.2.2.2.2.2.2.2.2.2.2.2.2.2.2.2.2.2.2.2.2.2.2.1, u.2.2.2.2.2.2.2.2.2.2.2.2.2.2.2.2.2.2.2.2.2.2.2.2.2.2.2.1, u.2.2.2.2.2.2.2.2.2.2.2.2.2.2.2.2.2.2.2.2.2.2.2.2.2.2.2.2.1, u.2.2.2.2.2.2.2.2.2.2.2.2.2.2.2.2.2.2.2.2.2.2.2.2.2.2.2.2.2.1, u.2.2.2.2.2.2.2.2.2.2.2.2.2.2.2.2.2.2.2.2.2.2.2.2.2.2.2.2.2.2.1, u.2.2.2.2.2.2.2.2.2.2.2.2.2.2.2.2.2.2.2.2.2.2.2.2.2.2.2.2.2.2.2.1, z_held, z_keyOf, u.2.2.2.2.2.2.2.2.2.2.2.2.2.2.2.2.2.2.2.2.2.2.2.2.2.2.2.2.2.2.2.2.2.2.1, z_size, u.2.2.2.2.2.2.2.2.2.2.2.2.2.2.2.2.2.2.2.2.2.2.2.2.2.2.2.2.2.2.2.2.2.2.2.2)
def xk_s (u : SX) (z_step : Nat → Int32) (z_number : Nat → Int32) (z_steps : Nat → Int32) : SX := (u.1, u.2.1, u.2.2.1, u.2.2.2.1, u.2.2.2.2.1, u.2.2.2.2.2.1, u.2.2.2.2.2.2.1, u.2.2.2.2.2.2.2.1, u.2.2.2.2.2.2.2.2.1, u.2.2.2.2.2.2.2.2.2.1, u.2.2.2.2.2.2.2.2.2.2.1, u.2.2.2.2.2.2.2.2.2.2.2.1, u.2.2.2.2.2.2.2.2.2.2.2.2.1, u.2.2.2.2.2.2.2.2.2.2.2.2.2.1, u.2.2.2.2.2.2.2.2.2.2.2.2.2.2.1, u.2.2.2.2.2.2.2.2.2.2.2.2.2.2.2.1, u.2.2.2.2.2.2.2.2.2.2.2.2.2.2.2.2.1, u.2.2.2.2.2.2.2.2.2.2.2.2.2.2.2.2.2.1, u.2.2.2.2.2.2.2.2.2.2.2.2.2.2.2.2.2.2.1, u.2.2.2.2.2.2.2.2.2.2.2.2.2.2.2.2.2.2.2.1, u.2.2.2.2.2.2.2.2.2.2.2.2.2.2.2.2.2.2.2.2.1, z_step, z_number, z_steps, u.2.2.2.2.2.2.2.2.2.2.2.2.2.2.2.2.2.2.2.2.2.2.2.2)
def xr_s (u : SX) (z_waits : Int32) (z_step : Nat → Int32) (z_number : Nat → Int32) (z_steps : Nat → Int32) : SX := (u.1, u.2.1, u.2.2.1, u.2.2.2.1, u.2.2.2.2.1, z_waits, u.2.2.2.2.2.2.1, u.2.2.2.2.2.2.2.1, u.2.2.2.2.2.2.2.2.1, u.2.2.2.2.2.2.2.2.2.1, u.2.2.2.2.2.2.2.2.2.2.1, u.2.2.2.2.2.2.2.2.2.2.2.1, u.2.2.2.2.2.2.2.2.2.2.2.2.1, u.2.2.2.2.2.2.2.2.2.2.2.2.2.1, u.2.2.2.2.2.2.2.2.2.2.2.2.2.2.1, u.2.2.2.2.2.2.2.2.2.2.2.2.2.2.2.1, u.2.2.2.2.2.2.2.2.2.2.2.2.2.2.2.2.1, u.2.2.2.2.2.2.2.2.2.2.2.2.2.2.2.2.2.1, u.2.2.2.2.2.2.2.2.2.2.2.2.2.2.2.2.2.2.1, u.2.2.2.2.2.2.2.2.2.2.2.2.2.2.2.2.2.2.2.1, u.2.2.2.2.2.2.2.2.2.2.2.2.2.2.2.2.2.2.2.2.1, z_step, z_number, z_steps, u.2.2.2.2.2.2.2.2.2.2.2.2.2.2.2.2.2.2.2.2.2.2.2.2)
def xc_s (u : SX) (z_parens : Int32) (z_waiting : Nat → Int32) (z_compared : Nat → Int32) : SX := (u.1, u.2.1, u.2.2.1, u.2.2.2.1, u.2.2.2.2.1, u.2.2.2.2.2.1, z_parens, u.2.2.2.2.2.2.2.1, u.2.2.2.2.2.2.2.2.1, u.2.2.2.2.2.2.2.2.2.1, u.2.2.2.2.2.2.2.2.2.2.1, u.2.2.2.2.2.2.2.2.2.2.2.1, u.2.2.2.2.2.2.2.2.2.2.2.2.1, u.2.2.2.2.2.2.2.2.2.2.2.2.2.1, u.2.2.2.2.2.2.2.2.2.2.2.2.2.2.1, u.2.2.2.2.2.2.2.2.2.2.2.2.2.2.2.1, u.2.2.2.2.2.2.2.2.2.2.2.2.2.2.2.2.1, u.2.2.2.2.2.2.2.2.2.2.2.2.2.2.2.2.2.1, u.2.2.2.2.2.2.2.2.2.2.2.2.2.2.2.2.2.2.1, u.2.2.2.2.2.2.2.2.2.2.2.2.2.2.2.2.2.2.2.1, u.2.2.2.2.2.2.2.2.2.2.2.2.2.2.2.2.2.2.2.2.1, u.2.2.2.2.2.2.2.2.2.2.2.2.2.2.2.2.2.2.2.2.2.1, u.2.2.2.2.2.2.2.2.2.2.2.2.2.2.2.2.2.2.2.2.2.2.1, u.2.2.2.2.2.2.2.2.2.2.2.2.2.2.2.2.2.2.2.2.2.2.2.1, u.2.2.2.2.2.2.2.2.2.2.2.2.2.2.2.2.2.2.2.2.2.2.2.2.1, u.2.2.2.2.2.2.2.2.2.2.2.2.2.2.2.2.2.2.2.2.2.2.2.2.2.1, z_waiting, z_compared, u.2.2.2.2.2.2.2.2.2.2.2.2.2.2.2.2.2.2.2.2.2.2.2.2.2.2.2.2)
def xt_s (u : SX) (z_waits : Int32) (z_parens : Int32) (z_waiting : Nat → Int32) (z_compared : Nat → Int32) (z_step : Nat → Int32) (z_number : Nat → Int32) (z_steps : Nat → Int32) : SX := (u.1, u.2.1, u.2.2.1, u.2.2.2.1, u.2.2.2.2.1, z_waits, z_parens, u.2.2.2.2.2.2.2.1, u.2.2.2.2.2.2.2.2.1, u.2.2.2.2.2.2.2.2.2.1, u.2.2.2.2.2.2.2.2.2.2.1, u.2.2.2.2.2.2.2.2.2.2.2.1, u.2.2.2.2.2.2.2.2.2.2.2.2.1, u.2.2.2.2.2.2.2.2.2.2.2.2.2.1, u.2.2.2.2.2.2.2.2.2.2.2.2.2.2.1, u.2.2.2.2.2.2.2.2.2.2.2.2.2.2.2.1, u.2.2.2.2.2.2.2.2.2.2.2.2.2.2.2.2.1, u.2.2.2.2.2.2.2.2.2.2.2.2.2.2.2.2.2.1, u.2.2.2.2.2.2.2.2.2.2.2.2.2.2.2.2.2.2.1, u.2.2.2.2.2.2.2.2.2.2.2.2.2.2.2.2.2.2.2.1, u.2.2.2.2.2.2.2.2.2.2.2.2.2.2.2.2.2.2.2.2.1, z_step, z_number, z_steps, u.2.2.2.2.2.2.2.2.2.2.2.2.2.2.2.2.2.2.2.2.2.2.2.2.1, u.2.2.2.2.2.2.2.2.2.2.2.2.2.2.2.2.2.2.2.2.2.2.2.2.2.1, z_waiting, z_compared, u.2.2.2.2.2.2.2.2.2.2.2.2.2.2.2.2.2.2.2.2.2.2.2.2.2.2.2.2)
def xf_s (u : SX) (z_failedStage : Int32) (z_stopped : Int32) (z_operand : Nat → Int32) : SX := (u.1, u.2.1, u.2.2.1, u.2.2.2.1, u.2.2.2.2.1, u.2.2.2.2.2.1, u.2.2.2.2.2.2.1, u.2.2.2.2.2.2.2.1, u.2.2.2.2.2.2.2.2.1, u.2.2.2.2.2.2.2.2.2.1, u.2.2.2.2.2.2.2.2.2.2.1, u.2.2.2.2.2.2.2.2.2.2.2.1, z_stopped, u.2.2.2.2.2.2.2.2.2.2.2.2.2.1, u.2.2.2.2.2.2.2.2.2.2.2.2.2.2.1, z_failedStage, u.2.2.2.2.2.2.2.2.2.2.2.2.2.2.2.2.1, u.2.2.2.2.2.2.2.2.2.2.2.2.2.2.2.2.2.1, u.2.2.2.2.2.2.2.2.2.2.2.2.2.2.2.2.2.2.1, u.2.2.2.2.2.2.2.2.2.2.2.2.2.2.2.2.2.2.2.1, u.2.2.2.2.2.2.2.2.2.2.2.2.2.2.2.2.2.2.2.2.1, u.2.2.2.2.2.2.2.2.2.2.2.2.2.2.2.2.2.2.2.2.2.1, u.2.2.2.2.2.2.2.2.2.2.2.2.2.2.2.2.2.2.2.2.2.2.1, u.2.2.2.2.2.2.2.2.2.2.2.2.2.2.2.2.2.2.2.2.2.2.2.1, u.2.2.2.2.2.2.2.2.2.2.2.2.2.2.2.2.2.2.2.2.2.2.2.2.1, u.2.2.2.2.2.2.2.2.2.2.2.2.2.2.2.2.2.2.2.2.2.2.2.2.2.1, u.2.2.2.2.2.2.2.2.2.2.2.2.2.2.2.2.2.2.2.2.2.2.2.2.2.2.1, u.2.2.2.2.2.2.2.2.2.2.2.2.2.2.2.2.2.2.2.2.2.2.2.2.2.2.2.1, z_operand, u.2.2.2.2.2.2.2.2.2.2.2.2.2.2.2.2.2.2.2.2.2.2.2.2.2.2.2.2.2)
def xg_s (u : SX) (z_failedStage : Int32) (z_stopped : Int32) : SX := (u.1, u.2.1, u.2.2.1, u.2.2.2.1, u.2.2.2.2.1, u.2.2.2.2.2.1, u.2.2.2.2.2.2.1, u.2.2.2.2.2.2.2.1, u.2.2.2.2.2.2.2.2.1, u.2.2.2.2.2.2.2.2.2.1, u.2.2.2.2.2.2.2.2.2.2.1, u.2.2.2.2.2.2.2.2.2.2.2.1, z_stopped, u.2.2.2.2.2.2.2.2.2.2.2.2.2.1, u.2.2.2.2.2.2.2.2.2.2.2.2.2.2.1, z_failedStage, u.2.2.2.2.2.2.2.2.2.2.2.2.2.2.2.2)
def ym_ft (u : SY) (z_paid : Int32) (z_v : Int32) (z_reads : Nat → Int32) : SY := (u.1, u.2.1, u.2.2.1, u.2.2.2.1, z_paid, u.2.2.2.2.2.1, u.2.2.2.2.2.2.1, u.2.2.2.2.2.2.2.1, z_v, u.2.2.2.2.2.2.2.2.2.1, u.2.2.2.2.2.2.2.2.2.2.1, u.2.2.2.2.2.2.2.2.2.2.2.1, u.2.2.2.2.2.2.2.2.2.2.2.2.1, u.2.2.2.2.2.2.2.2.2.2.2.2.2.1, u.2.2.2.2.2.2.2.2.2.2.2.2.2.2.1, u.2.2.2.2.2.2.2.2.2.2.2.2.2.2.2.1, u.2.2.2.2.2.2.2.2.2.2.2.2.2.2.2.2.1, u.2.2.2.2.2.2.2.2.2.2.2.2.2.2.2.2.2.1, u.2.2.2.2.2.2.2.2.2.2.2.2.2.2.2.2.2.2.1, u.2.2.2.2.2.2.2.2.2.2.2.2.2.2.2.2.2.2.2.1, u.2.2.2.2.2.2.2.2.2.2.2.2.2.2.2.2.2.2.2.2.1, u.2.2.2.2.2.2.2.2.2.2.2.2.2.2.2.2.2.2.2.2.2.1, u.2.2.2.2.2.2.2.2.2.2.2.2.2.2.2.2.2.2.2.2.2.2.1, u.2.2.2.2.2.2.2.2.2.2.2.2.2.2.2.2.2.2.2.2.2.2.2.1, u.2.2.2.2.2.2.2.2.2.2.2.2.2.2.2.2.2.2.2.2.2.2.2.2.1, u.2.2.2.2.2.2.2.2.2.2.2.2.2.2.2.2.2.2.2.2.2.2.2.2.2.1, u.2.2.2.2.2.2.2.2.2.2.2.2.2.2.2.2.2.2.2.2.2.2.2.2.2.2.1, u.2.2.2.2.2.2.2.2.2.2.2.2.2.2.2.2.2.2.2.2.2.2.2.2.2.2.2.1, z_reads, u.2.2.2.2.2.2.2.2.2.2.2.2.2.2.2.2.2.2.2.2.2.2.2.2.2.2.2.2.2)
def ym_hd (u : SY) (z_held : Nat → Int32) (z_keys : Nat → Int32) (z_holds : Nat → Int32) : SY := (u.1, u.2.1, u.2.2.1, u.2.2.2.1, u.2.2.2.2.1, u.2.2.2.2.2.1, u.2.2.2.2.2.2.1, u.2.2.2.2.2.2.2.1, u.2.2.2.2.2.2.2.2.1, u.2.2.2.2.2.2.2.2.2.1, u.2.2.2.2.2.2.2.2.2.2.1, u.2.2.2.2.2.2.2.2.2.2.2.1, u.2.2.2.2.2.2.2.2.2.2.2.2.1, u.2.2.2.2.2.2.2.2.2.2.2.2.2.1, u.2.2.2.2.2.2.2.2.2.2.2.2.2.2.1, u.2.2.2.2.2.2.2.2.2.2.2.2.2.2.2.1, u.2.2.2.2.2.2.2.2.2.2.2.2.2.2.2.2.1, u.2.2.2.2.2.2.2.2.2.2.2.2.2.2.2.2.2.1, u.2.2.2.2.2.2.2.2.2.2.2.2.2.2.2.2.2.2.1, u.2.2.2.2.2.2.2.2.2.2.2.2.2.2.2.2.2.2.2.1, u.2.2.2.2.2.2.2.2.2.2.2.2.2.2.2.2.2.2.2.2.1, u.2.2.2.2.2.2.2.2.2.2.2.2.2.2.2.2.2.2.2.2.2.1, u.2.2.2.2.2.2.2.2.2.2.2.2.2.2.2.2.2.2.2.2.2.2.1, u.2.2.2.2.2.2.2.2.2.2.2.2.2.2.2.2.2.2.2.2.2.2.2.1, z_held, z_keys, z_holds, u.2.2.2.2.2.2.2.2.2.2.2.2.2.2.2.2.2.2.2.2.2.2.2.2.2.2.2)
def yz_s (u : SY) (z_valTop : Int32) (z_opTop : Int32) (z_broken : Int32) (z_vals : Nat → Int32) (z_ops : Nat → Int32) : SY := (u.1, u.2.1, u.2.2.1, u.2.2.2.1, u.2.2.2.2.1, u.2.2.2.2.2.1, u.2.2.2.2.2.2.1, u.2.2.2.2.2.2.2.1, u.2.2.2.2.2.2.2.2.1, z_valTop, z_opTop, u.2.2.2.2.2.2.2.2.2.2.2.1, z_broken, u.2.2.2.2.2.2.2.2.2.2.2.2.2.1, u.2.2.2.2.2.2.2.2.2.2.2.2.2.2.1, u.2.2.2.2.2.2.2.2.2.2.2.2.2.2.2.1, u.2.2.2.2.2.2.2.2.2.2.2.2.2.2.2.2.1, u.2.2.2.2.2.2.2.2.2.2.2.2.2.2.2.2.2.1, u.2.2.2.2.2.2.2.2.2.2.2.2.2.2.2.2.2.2.1, u.2.2.2.2.2.2.2.2.2.2.2.2.2.2.2.2.2.2.2.1, u.2.2.2.2.2.2.2.2.2.2.2.2.2.2.2.2.2.2.2.2.1, u.2.2.2.2.2.2.2.2.2.2.2.2.2.2.2.2.2.2.2.2.2.1, u.2.2.2.2.2.2.2.2.2.2.2.2.2.2.2.2.2.2.2.2.2.2.1, u.2.2.2.2.2.2.2.2.2.2.2.2.2.2.2.2.2.2.2.2.2.2.2.1, u.2.2.2.2.2.2.2.2.2.2.2.2.2.2.2.2.2.2.2.2.2.2.2.2.1, u.2.2.2.2.2.2.2.2.2.2.2.2.2.2.2.2.2.2.2.2.2.2.2.2.2.1, u.2.2.2.2.2.2.2.2.2.2.2.2.2.2.2.2.2.2.2.2.2.2.2.2.2.2.1, u.2.2.2.2.2.2.2.2.2.2.2.2.2.2.2.2.2.2.2.2.2.2.2.2.2.2.2.1, u.2.2.2.2.2.2.2.2.2.2.2.2.2.2.2.2.2.2.2.2.2.2.2.2.2.2.2.2.1, u.2.2.2.2.2.2.2.2.2.2.2.2.2.2.2.2.2.2.2.2.2.2.2.2.2.2.2.2.2.1, z_vals, z_ops)
def ym_po (u : SY) (z_opTop : Int32) (z_ops : Nat → Int32) : SY := (u.1, u.2.1, u.2.2.1, u.2.2.2.1, u.2.2.2.2.1, u.2.2.2.2.2.1, u.2.2.2.2.2.2.1, u.2.2.2.2.2.2.2.1, u.2.2.2.2.2.2.2.2.1, u.2.2.2.2.2.2.2.2.2.1, z_opTop, u.2.2.2.2.2.2.2.2.2.2.2.1, u.2.2.2.2.2.2.2.2.2.2.2.2.1, u.2.2.2.2.2.2.2.2.2.2.2.2.2.1, u.2.2.2.2.2.2.2.2.2.2.2.2.2.2.1, u.2.2.2.2.2.2.2.2.2.2.2.2.2.2.2.1, u.2.2.2.2.2.2.2.2.2.2.2.2.2.2.2.2.1, u.2.2.2.2.2.2.2.2.2.2.2.2.2.2.2.2.2.1, u.2.2.2.2.2.2.2.2.2.2.2.2.2.2.2.2.2.2.1, u.2.2.2.2.2.2.2.2.2.2.2.2.2.2.2.2.2.2.2.1, u.2.2.2.2.2.2.2.2.2.2.2.2.2.2.2.2.2.2.2.2.1, u.2.2.2.2.2.2.2.2.2.2.2.2.2.2.2.2.2.2.2.2.2.1, u.2.2.2.2.2.2.2.2.2.2.2.2.2.2.2.2.2.2.2.2.2.2.1, u.2.2.2.2.2.2.2.2.2.2.2.2.2.2.2.2.2.2.2.2.2.2.2.1, u.2.2.2.2.2.2.2.2.2.2.2.2.2.2.2.2.2.2.2.2.2.2.2.2.1, u.2.2.2.2.2.2.2.2.2.2.2.2.2.2.2.2.2.2.2.2.2.2.2.2.2.1, u.2.2.2.2.2.2.2.2.2.2.2.2.2.2.2.2.2.2.2.2.2.2.2.2.2.2.1, u.2.2.2.2.2.2.2.2.2.2.2.2.2.2.2.2.2.2.2.2.2.2.2.2.2.2.2.1, u.2.2.2.2.2.2.2.2.2.2.2.2.2.2.2.2.2.2.2.2.2.2.2.2.2.2.2.2.1, u.2.2.2.2.2.2.2.2.2.2.2.2.2.2.2.2.2.2.2.2.2.2.2.2.2.2.2.2.2.1, u.2.2.2.2.2.2.2.2.2.2.2.2.2.2.2.2.2.2.2.2.2.2.2.2.2.2.2.2.2.2.1, z_ops)
def ym_pv (u : SY) (z_valTop : Int32) (z_vals : Nat → Int32) : SY := (u.1, u.2.1, u.2.2.1, u.2.2.2.1, u.2.2.2.2.1, u.2.2.2.2.2.1, u.2.2.2.2.2.2.1, u.2.2.2.2.2.2.2.1, u.2.2.2.2.2.2.2.2.1, z_valTop, u.2.2.2.2.2.2.2.2.2.2.1, u.2.2.2.2.2.2.2.2.2.2.2.1, u.2.2.2.2.2.2.2.2.2.2.2.2.1, u.2.2.2.2.2.2.2.2.2.2.2.2.2.1, u.2.2.2.2.2.2.2.2.2.2.2.2.2.2.1, u.2.2.2.2.2.2.2.2.2.2.2.2.2.2.2.1, u.2.2.2.2.2.2.2.2.2.2.2.2.2.2.2.2.1, u.2.2.2.2.2.2.2.2.2.2.2.2.2.2.2.2.2.1, u.2.2.2.2.2.2.2.2.2.2.2.2.2.2.2.2.2.2.1, u.2.2.2.2.2.2.2.2.2.2.2.2.2.2.2.2.2.2.2.1, u.2.2.2.2.2.2.2.2.2.2.2.2.2.2.2.2.2.2.2.2.1, u.2.2.2.2.2.2.2.2.2.2.2.2.2.2.2.2.2.2.2.2.2.1, u.2.2.2.2.2.2.2.2.2.2.2.2.2.2.2.2.2.2.2.2.2.2.1, u.2.2.2.2.2.2.2.2.2.2.2.2.2.2.2.2.2.2.2.2.2.2.2.1, u.2.2.2.2.2.2.2.2.2.2.2.2.2.2.2.2.2.2.2.2.2.2.2.2.1, u.2.2.2.2.2.2.2.2.2.2.2.2.2.2.2.2.2.2.2.2.2.2.2.2.2.1, u.2.2.2.2.2.2.2.2.2.2.2.2.2.2.2.2.2.2.2.2.2.2.2.2.2.2.1, u.2.2.2.2.2.2.2.2.2.2.2.2.2.2.2.2.2.2.2.2.2.2.2.2.2.2.2.1, u.2.2.2.2.2.2.2.2.2.2.2.2.2.2.2.2.2.2.2.2.2.2.2.2.2.2.2.2.1, u.2.2.2.2.2.2.2.2.2.2.2.2.2.2.2.2.2.2.2.2.2.2.2.2.2.2.2.2.2.1, z_vals, u.2.2.2.2.2.2.2.2.2.2.2.2.2.2.2.2.2.2.2.2.2.2.2.2.2.2.2.2.2.2.2)
def ym_pa (u : SY) (z_paid : Int32) (z_applied : Nat → Int32) : SY := (u.1, u.2.1, u.2.2.1, u.2.2.2.1, z_paid, u.2.2.2.2.2.1, u.2.2.2.2.2.2.1, u.2.2.2.2.2.2.2.1, u.2.2.2.2.2.2.2.2.1, u.2.2.2.2.2.2.2.2.2.1, u.2.2.2.2.2.2.2.2.2.2.1, u.2.2.2.2.2.2.2.2.2.2.2.1, u.2.2.2.2.2.2.2.2.2.2.2.2.1, u.2.2.2.2.2.2.2.2.2.2.2.2.2.1, u.2.2.2.2.2.2.2.2.2.2.2.2.2.2.1, u.2.2.2.2.2.2.2.2.2.2.2.2.2.2.2.1, u.2.2.2.2.2.2.2.2.2.2.2.2.2.2.2.2.1, u.2.2.2.2.2.2.2.2.2.2.2.2.2.2.2.2.2.1, u.2.2.2.2.2.2.2.2.2.2.2.2.2.2.2.2.2.2.1, u.2.2.2.2.2.2.2.2.2.2.2.2.2.2.2.2.2.2.2.1, u.2.2.2.2.2.2.2.2.2.2.2.2.2.2.2.2.2.2.2.2.1, u.2.2.2.2.2.2.2.2.2.2.2.2.2.2.2.2.2.2.2.2.2.1, u.2.2.2.2.2.2.2.2.2.2.2.2.2.2.2.2.2.2.2.2.2.2.1, u.2.2.2.2.2.2.2.2.2.2.2.2.2.2.2.2.2.2.2.2.2.2.2.1, u.2.2.2.2.2.2.2.2.2.2.2.2.2.2.2.2.2.2.2.2.2.2.2.2.1, u.2.2.2.2.2.2.2.2.2.2.2.2.2.2.2.2.2.2.2.2.2.2.2.2.2.1, u.2.2.2.2.2.2.2.2.2.2.2.2.2.2.2.2.2.2.2.2.2.2.2.2.2.2.1, z_applied, u.2.2.2.2.2.2.2.2.2.2.2.2.2.2.2.2.2.2.2.2.2.2.2.2.2.2.2.2)
def yq_m (u : SY) (z_paid : Int32) (z_applied : Nat → Int32) (z_valTop : Int32) (z_opTop : Int32) (z_broken : Int32) (z_vals : Nat → Int32) (z_ops : Nat → Int32) (z_v : Int32) : SY := (u.1, u.2.1, u.2.2.1, u.2.2.2.1, z_paid, u.2.2.2.2.2.1, u.2.2.2.2.2.2.1, u.2.2.2.2.2.2.2.1, z_v, z_valTop, z_opTop, u.2.2.2.2.2.2.2.2.2.2.2.1, z_broken, u.2.2.2.2.2.2.2.2.2.2.2.2.2.1, u.2.2.2.2.2.2.2.2.2.2.2.2.2.2.1, u.2.2.2.2.2.2.2.2.2.2.2.2.2.2.2.1, u.2.2.2.2.2.2.2.2.2.2.2.2.2.2.2.2.1, u.2.2.2.2.2.2.2.2.2.2.2.2.2.2.2.2.2.1, u.2.2.2.2.2.2.2.2.2.2.2.2.2.2.2.2.2.2.1, u.2.2.2.2.2.2.2.2.2.2.2.2.2.2.2.2.2.2.2.1, u.2.2.2.2.2.2.2.2.2.2.2.2.2.2.2.2.2.2.2.2.1, u.2.2.2.2.2.2.2.2.2.2.2.2.2.2.2.2.2.2.2.2.2.1, u.2.2.2.2.2.2.2.2.2.2.2.2.2.2.2.2.2.2.2.2.2.2.1, u.2.2.2.2.2.2.2.2.2.2.2.2.2.2.2.2.2.2.2.2.2.2.2.1, u.2.2.2.2.2.2.2.2.2.2.2.2.2.2.2.2.2.2.2.2.2.2.2.2.1, u.2.2.2.2.2.2.2.2.2.2.2.2.2.2.2.2.2.2.2.2.2.2.2.2.2.1, u.2.2.2.2.2.2.2.2.2.2.2.2.2.2.2.2.2.2.2.2.2.2.2.2.2.2.1, z_applied, u.2.2.2.2.2.2.2.2.2.2.2.2.2.2.2.2.2.2.2.2.2.2.2.2.2.2.2.2.1, u.2.2.2.2.2.2.2.2.2.2.2.2.2.2.2.2.2.2.2.2.2.2.2.2.2.2.2.2.2.1, z_vals, z_ops)
def yq_f (u : SY) (z_paid : Int32) (z_applied : Nat → Int32) (z_valTop : Int32) (z_opTop : Int32) (z_broken : Int32) (z_vals : Nat → Int32) (z_ops : Nat → Int32) (z_v : Int32) (z_failedAt : Int32) (z_outcome : Int64) : SY := (u.1, u.2.1, u.2.2.1, u.2.2.2.1, z_paid, u.2.2.2.2.2.1, u.2.2.2.2.2.2.1, z_failedAt, z_v, z_valTop, z_opTop, u.2.2.2.2.2.2.2.2.2.2.2.1, z_broken, z_outcome, u.2.2.2.2.2.2.2.2.2.2.2.2.2.2.1, u.2.2.2.2.2.2.2.2.2.2.2.2.2.2.2.1, u.2.2.2.2.2.2.2.2.2.2.2.2.2.2.2.2.1, u.2.2.2.2.2.2.2.2.2.2.2.2.2.2.2.2.2.1, u.2.2.2.2.2.2.2.2.2.2.2.2.2.2.2.2.2.2.1, u.2.2.2.2.2.2.2.2.2.2.2.2.2.2.2.2.2.2.2.1, u.2.2.2.2.2.2.2.2.2.2.2.2.2.2.2.2.2.2.2.2.1, u.2.2.2.2.2.2.2.2.2.2.2.2.2.2.2.2.2.2.2.2.2.1, u.2.2.2.2.2.2.2.2.2.2.2.2.2.2.2.2.2.2.2.2.2.2.1, u.2.2.2.2.2.2.2.2.2.2.2.2.2.2.2.2.2.2.2.2.2.2.2.1, u.2.2.2.2.2.2.2.2.2.2.2.2.2.2.2.2.2.2.2.2.2.2.2.2.1, u.2.2.2.2.2.2.2.2.2.2.2.2.2.2.2.2.2.2.2.2.2.2.2.2.2.1, u.2.2.2.2.2.2.2.2.2.2.2.2.2.2.2.2.2.2.2.2.2.2.2.2.2.2.1, z_applied, u.2.2.2.2.2.2.2.2.2.2.2.2.2.2.2.2.2.2.2.2.2.2.2.2.2.2.2.2.1, u.2.2.2.2.2.2.2.2.2.2.2.2.2.2.2.2.2.2.2.2.2.2.2.2.2.2.2.2.2.1, z_vals, z_ops)
def ym_fl (u : SY) (z_failedAt : Int32) (z_v : Int32) (z_outcome : Int64) : SY := (u.1, u.2.1, u.2.2.1, u.2.2.2.1, u.2.2.2.2.1, u.2.2.2.2.2.1, u.2.2.2.2.2.2.1, z_failedAt, z_v, u.2.2.2.2.2.2.2.2.2.1, u.2.2.2.2.2.2.2.2.2.2.1, u.2.2.2.2.2.2.2.2.2.2.2.1, u.2.2.2.2.2.2.2.2.2.2.2.2.1, z_outcome, u.2.2.2.2.2.2.2.2.2.2.2.2.2.2)
def xm_nk (u : SX) (z_number : Nat → Int32) (z_steps : Nat → Int32) : SX := (u.1, u.2.1, u.2.2.1, u.2.2.2.1, u.2.2.2.2.1, u.2.2.2.2.2.1, u.2.2.2.2.2.2.1, u.2.2.2.2.2.2.2.1, u.2.2.2.2.2.2.2.2.1, u.2.2.2.2.2.2.2.2.2.1, u.2.2.2.2.2.2.2.2.2.2.1, u.2.2.2.2.2.2.2.2.2.2.2.1, u.2.2.2.2.2.2.2.2.2.2.2.2.1, u.2.2.2.2.2.2.2.2.2.2.2.2.2.1, u.2.2.2.2.2.2.2.2.2.2.2.2.2.2.1, u.2.2.2.2.2.2.2.2.2.2.2.2.2.2.2.1, u.2.2.2.2.2.2.2.2.2.2.2.2.2.2.2.2.1, u.2.2.2.2.2.2.2.2.2.2.2.2.2.2.2.2.2.1, u.2.2.2.2.2.2.2.2.2.2.2.2.2.2.2.2.2.2.1, u.2.2.2.2.2.2.2.2.2.2.2.2.2.2.2.2.2.2.2.1, u.2.2.2.2.2.2.2.2.2.2.2.2.2.2.2.2.2.2.2.2.1, u.2.2.2.2.2.2.2.2.2.2.2.2.2.2.2.2.2.2.2.2.2.1, z_number, z_steps, u.2.2.2.2.2.2.2.2.2.2.2.2.2.2.2.2.2.2.2.2.2.2.2.2)
end
section
/-! small numbers -/
theorem zn_cl {s : Nat} (h : s < 2 ^ 31) : (nI s).toNatClampNeg = s := nI_clamp h
theorem zn_ti {x : Int32} {s : Nat} (h : x.toInt = s) : x = nI s := by
  have hb := x.toInt_lt
  apply Int32.toInt_inj.mp
  rw [nI_toInt (by omega), h]
theorem zn_lt {x y : Int32} {a b : Int} (ha : x.toInt = a) (hb : y.toInt = b) : x < y ↔ a < b := by
  rw [Int32.lt_iff_toInt_lt, ha, hb]
theorem zn_le {x y : Int32} {a b : Int} (ha : x.toInt = a) (hb : y.toInt = b) : x ≤ y ↔ a ≤ b := by
  rw [Int32.le_iff_toInt_le, ha, hb]
theorem zn_eq {x y : Int32} {a b : Int} (ha : x.toInt = a) (hb : y.toInt = b) : x = y ↔ a = b := by
  rw [← Int32.toInt_inj, ha, hb]
theorem zn_add1 {x : Int32} {a : Int} (h : x.toInt = a) (hb : a < 1000000) : (x + 1).toInt = a + 1 := by
  have h1 := x.le_toInt
  rw [Int32.toInt_add, h, show (1 : Int32).toInt = 1 from by decide]
  exact Int.bmod_eq_of_le (by omega) (by omega)
theorem zn_sub1 {x : Int32} {a : Int} (h : x.toInt = a) (hb : -1000000 < a) : (x - 1).toInt = a - 1 := by
  have h1 := x.toInt_lt
  rw [Int32.toInt_sub, h, show (1 : Int32).toInt = 1 from by decide]
  exact Int.bmod_eq_of_le (by omega) (by omega)
theorem zn_m1 (x : Int32) : x + (-1) = x - 1 := by
  rw [Int32.sub_eq_add_neg]
theorem zn_b8 {n : Nat} (h : n < 128) : (nI n).toInt8.toInt32 = nI n :=
  lg_i2b_small (by rw [nI_toInt (by omega)]; omega) (by rw [nI_toInt (by omega)]; omega)
theorem zn_b16 {n : Nat} (h : n < 32768) : (nI n).toInt16.toInt32 = nI n :=
  lg_i2s_small (by rw [nI_toInt (by omega)]; omega) (by rw [nI_toInt (by omega)]; omega)
theorem zn_vb {n : Nat} (h : n < 128) : vp_nar .byte (nI n).toInt8.toInt32 = nI n := by rw [pk_vb, zn_b8 h]
theorem zn_vs {n : Nat} (h : n < 32768) : vp_nar .short (nI n).toInt16.toInt32 = nI n := by rw [pk_vs, zn_b16 h]
theorem zn_b0 : vp_nar .boolean 0 = 0 := rfl
theorem zn_b1 : vp_nar .boolean 1 = 1 := rfl

/-! X: pay and its kin -/
theorem xw_pay_no {post : Int32 → SX → Prop} {u : SX} (h : xa_spent u = xa_limit u) (hp : post 0 (xs_stopped u 1)) : wpX_pay post u := br_t h hp
theorem xw_pay_ok {post : Int32 → SX → Prop} {u : SX} (h : ¬ xa_spent u = xa_limit u) (hp : post 1 (xs_spent u (xa_spent u + 1))) : wpX_pay post u := br_f h (nm_e hp)
theorem xw_ps_no {post : Int32 → SX → Prop} {u : SX} {p : Int32} (h : xa_spent u = xa_limit u) (hp : post 0 (xs_stopped u 1)) : wpX_payStage post u p := by
  unfold wpX_payStage
  exact xw_pay_no (u := u) h (br_t rfl hp)
theorem xw_ps_ok {post : Int32 → SX → Prop} {u : SX} {p : Int32} {s : Nat} (e : p.toNatClampNeg = s) (hi : vp_in p 8) (h : ¬ xa_spent u = xa_limit u)
    (hp : post 1 (xm_ps u (xa_spent u + 1) (upd (xa_applications u) s (xa_applications u s + 1)))) : wpX_payStage post u p := by
  subst e
  unfold wpX_payStage
  exact xw_pay_ok (u := u) h (br_f (by decide) ⟨hi, hi, nm_e hp⟩)
theorem xw_pr_no {post : Int32 → SX → Prop} {u : SX} {p : Int32} (h : xa_spent u = xa_limit u) (hp : post 0 (xs_stopped u 1)) : wpX_payRead post u p := by
  unfold wpX_payRead
  exact xw_pay_no (u := u) h (br_t rfl hp)
theorem xw_pr_ok {post : Int32 → SX → Prop} {u : SX} {p : Int32} {s : Nat} (e : p.toNatClampNeg = s) (hi : vp_in p 3) (h : ¬ xa_spent u = xa_limit u)
    (hp : post 1 (xm_pr u (xa_spent u + 1) (upd (xa_reads u) s (xa_reads u s + 1)))) : wpX_payRead post u p := by
  subst e
  unfold wpX_payRead
  exact xw_pay_ok (u := u) h (br_f (by decide) ⟨hi, hi, nm_e hp⟩)
theorem xw_end {post : SX → Prop} {u : SX} {p : Int32} (hp : post (xs_ended u p)) : wpX_end post u p := hp
theorem xw_openFor {post : SX → Prop} {u : SX} {p v l p' l' : Int32} {o : Nat} (e : (xa_opens u).toNatClampNeg = o) (hi : vp_in (xa_opens u) 8)
    (ep : vp_nar .byte p.toInt8.toInt32 = p') (el : vp_nar .byte l.toInt8.toInt32 = l')
    (hp : post (xm_op u (xa_opens u + 1) (upd (xa_openStage u) o p') (upd (xa_openValue u) o v) (upd (xa_openLeft u) o l'))) :
    wpX_openFor post u p v l := by
  subst e
  subst ep
  subst el
  exact And.intro hi (nm_e ⟨hi, nm_e (nm_e ⟨hi, nm_e hp⟩)⟩)
theorem xw_hold {post : Int32 → SX → Prop} {u : SX} {p v k z : Int32} {s c : Nat} (e : p.toNatClampNeg = s) (hi : vp_in p 8)
    (ec : (150 * p + xa_size u s).toNatClampNeg = c) (hc : vp_in (150 * p + xa_size u s) 1200)
    (ez : vp_nar .short (xa_size u s + 1).toInt16.toInt32 = z)
    (hp : post (xa_size u s) (xm_hd u (upd (xa_held u) c v) (upd (xa_keyOf u) c k) (upd (xa_size u) s z))) :
    wpX_hold post u p v k := by
  subst e
  subst ec
  subst ez
  exact And.intro hi (nm_e ⟨hc, nm_e ⟨hc, nm_e ⟨hi, hi, nm_e hp⟩⟩⟩)
theorem zn_ma (c s i : Nat) : nI c * nI s + nI i = nI (c * s + i) := by rw [pk_mul, nI_add]
theorem zn_160 (s i : Nat) : (160 : Int32) * nI s + nI i = nI (160 * s + i) := zn_ma 160 s i
theorem zn_150 (s i : Nat) : (150 : Int32) * nI s + nI i = nI (150 * s + i) := zn_ma 150 s i
theorem zn_24 (s i : Nat) : (24 : Int32) * nI s + nI i = nI (24 * s + i) := zn_ma 24 s i
theorem zn_16 (s i : Nat) : (16 : Int32) * nI s + nI i = nI (16 * s + i) := zn_ma 16 s i

/-! Y: pay, fetch, hold, find -/
theorem yw_pay_no {post : Int32 → SY → Prop} {v : SY} (h : ya_paid v = ya_limit v) (hp : post 0 (ys_outcome v 9000000000000000001)) : wpY_pay post v := br_t h hp
theorem yw_pay_ok {post : Int32 → SY → Prop} {v : SY} (h : ¬ ya_paid v = ya_limit v) (hp : post 1 (ys_paid v (ya_paid v + 1))) : wpY_pay post v := br_f h (nm_e hp)
theorem yw_fetch_end {post : Int32 → SY → Prop} {v : SY} {p k : Int32} {l : Nat} (e : p.toNatClampNeg = l) (hi : vp_in p 3) (h : ¬ k < ya_sizes v l) (hp : post 0 v) :
    wpY_fetch post v p k := by
  subst e
  exact And.intro hi (br_f h hp)
theorem yw_fetch_no {post : Int32 → SY → Prop} {v : SY} {p k : Int32} {l : Nat} (e : p.toNatClampNeg = l) (hi : vp_in p 3) (h : k < ya_sizes v l)
    (hn : ya_paid v = ya_limit v) (hp : post 3 (ys_outcome v 9000000000000000001)) : wpY_fetch post v p k := by
  subst e
  exact And.intro hi (br_t h (yw_pay_no (v := v) hn (br_t rfl hp)))
theorem yw_fetch_ok {post : Int32 → SY → Prop} {v : SY} {p k : Int32} {l c : Nat} (e : p.toNatClampNeg = l) (hi : vp_in p 3) (h : k < ya_sizes v l)
    (hn : ¬ ya_paid v = ya_limit v) (ec : (24 * p + k).toNatClampNeg = c) (hc : vp_in (24 * p + k) 72)
    (hp : post 1 (ym_ft v (ya_paid v + 1) (ya_lists v c) (upd (ya_reads v) l (ya_reads v l + 1)))) : wpY_fetch post v p k := by
  subst e
  subst ec
  exact And.intro hi (br_t h (yw_pay_ok (v := v) hn (br_f (by decide) ⟨hi, hi, nm_e ⟨hc, nm_e hp⟩⟩)))
theorem yw_hold {post : SY → Prop} {v : SY} {p x k : Int32} {s c : Nat} (e : p.toNatClampNeg = s) (hi : vp_in p 8)
    (ec : (160 * p + ya_holds v s).toNatClampNeg = c) (hc : vp_in (160 * p + ya_holds v s) 1280)
    (hp : post (ym_hd v (upd (ya_held v) c x) (upd (ya_keys v) c k) (upd (ya_holds v) s (ya_holds v s + 1)))) :
    wpY_hold post v p x k := by
  subst e
  subst ec
  exact And.intro hi ⟨hc, nm_e ⟨hi, hi, nm_e ⟨hc, nm_e hp⟩⟩⟩
/-- find: j is the first place with the key, or the number held -/
theorem yw_find_l {post : Int32 → Prop} {v : SY} {s n j : Nat} {key r : Int32} (hs : s < 8) (hn : n ≤ 160) (hh : ya_holds v s = nI n) (hj : j ≤ n)
    (hb : ∀ i, i < j → ¬ ya_keys v (160 * s + i) = key)
    (hr : (j < n ∧ ya_keys v (160 * s + j) = key ∧ r = nI j) ∨ (j = n ∧ r = -1)) (hp : post r) :
    ∀ d i, i + d = j → wY_find_2 post (nI s) key (ya_limit v) (ya_source v) (ya_stages v) (ya_wrongAt v) (ya_paid v) (ya_at v) (ya_seenCount v) (ya_failedAt v) (ya_v v) (ya_valTop v) (ya_opTop v) (ya_ran v) (ya_broken v) (ya_outcome v) (ya_lists v) (ya_sizes v) (ya_tokens v) (ya_counts v) (ya_kinds v) (ya_numbers v) (ya_left v) (ya_last v) (ya_place v) (ya_begun v) (ya_held v) (ya_keys v) (ya_holds v) (ya_applied v) (ya_reads v) (ya_seen v) (ya_vals v) (ya_ops v) (d + 1) (nI i) := by
  have hin : vp_in (nI s) 8 := vp_in_nI hs (by omega)
  have ecl : (nI s).toNatClampNeg = s := nI_clamp (by omega)
  intro d
  induction d with
  | zero =>
    intro i e
    have e' : i = j := by omega
    subst e'
    refine And.intro hin ?_
    rw [ecl]
    rcases hr with ⟨h1, h2, rfl⟩ | ⟨h1, rfl⟩
    · refine br_f (by rw [hh]; exact nI_ge h1 (by omega)) ?_
      rw [zn_160]
      refine ⟨vp_in_nI (by omega) (by omega), ?_⟩
      rw [nI_clamp (by omega)]
      exact br_t h2 hp
    · refine br_t (by rw [hh]; exact nI_le (by omega) (by omega)) hp
  | succ d ih =>
    intro i e
    refine And.intro hin ?_
    rw [ecl]
    refine br_f (by rw [hh]; exact nI_ge (by omega) (by omega)) ?_
    rw [zn_160]
    refine ⟨vp_in_nI (by omega) (by omega), ?_⟩
    rw [nI_clamp (by omega)]
    exact br_f (hb i (by omega)) (nm_r (nI_1 i) (ih (i + 1) (by omega)))
theorem yw_find {post : Int32 → Prop} {v : SY} {s n j : Nat} {key r : Int32} (hs : s < 8) (hn : n ≤ 160) (hh : ya_holds v s = nI n) (hj : j ≤ n)
    (hb : ∀ i, i < j → ¬ ya_keys v (160 * s + i) = key)
    (hr : (j < n ∧ ya_keys v (160 * s + j) = key ∧ r = nI j) ∨ (j = n ∧ r = -1)) (hp : post r) : wpY_find post v (nI s) key :=
  Exists.intro (j + 1) (yw_find_l hs hn hh hj hb hr hp j 0 (by omega))
end
section
/-! pure: shunting yard over natural tokens, its postfix, its values; X's folded code -/
def sy_str (t : Nat) : Nat := if t = 4 ∨ t = 5 ∨ t = 11 then 2 else if t = 6 ∨ t = 7 ∨ t = 8 then 3 else if t = 9 ∨ t = 10 then 1 else if t = 14 then 4 else 0
def sy_bin (t : Nat) : Prop := 4 ≤ t ∧ t ≤ 11
def sy_rel (l : Nat) : List Nat → List Nat → List Nat × List Nat
  | [], out => ([], out)
  | t :: ops, out => if l ≤ sy_str t then sy_rel l ops (t :: out) else (t :: ops, out)
def sy_step (st : List Nat × List Nat × Bool) (t : Nat) : List Nat × List Nat × Bool :=
  if st.2.2 = true then
    (if t = 5 then (14 :: st.1, st.2.1, true) else if t = 12 then (12 :: st.1, st.2.1, true) else (st.1, t :: st.2.1, false))
  else if t = 13 then ((sy_rel 1 st.1 st.2.1).1.tail, (sy_rel 1 st.1 st.2.1).2, false)
  else (t :: (sy_rel (sy_str t) st.1 st.2.1).1, (sy_rel (sy_str t) st.1 st.2.1).2, true)
def sy_run (tk : Nat → Nat) : Nat → List Nat × List Nat × Bool
  | 0 => ([], [], true)
  | i + 1 => sy_step (sy_run tk i) (tk i)
def sy_out (tk : Nat → Nat) (n : Nat) : List Nat := (sy_rel 1 (sy_run tk n).1 (sy_run tk n).2.1).2
def sy_ok (st : List Nat × List Nat × Bool) (t : Nat) : Prop :=
  (st.2.2 = true ∧ (t = 5 ∨ t = 12 ∨ 1000 ≤ t ∨ t = 1 ∨ t = 3 ∨ t = 2)) ∨
  (st.2.2 = false ∧ ((t = 13 ∧ 12 ∈ st.1) ∨ sy_bin t))
def sy_valid (tk : Nat → Nat) (n : Nat) : Prop :=
  (∀ i, i < n → sy_ok (sy_run tk i) (tk i)) ∧ (sy_run tk n).2.2 = false ∧ ¬ 12 ∈ (sy_run tk n).1

/-- binary operators among the waiting ones -/
def sy_nb : List Nat → Nat
  | [] => 0
  | t :: o => if 4 ≤ t ∧ t ≤ 11 then sy_nb o + 1 else sy_nb o
def sy_dp : List Nat → Nat
  | [] => 0
  | t :: o => if t = 14 then sy_dp o else if 4 ≤ t ∧ t ≤ 11 then sy_dp o - 1 else sy_dp o + 1
def sy_opsOK (ops : List Nat) : Prop := ∀ t, t ∈ ops → (4 ≤ t ∧ t ≤ 11) ∨ t = 12 ∨ t = 14
/-- every operator in the output found its operands -/
def sy_wf : List Nat → Prop
  | [] => True
  | t :: o => sy_wf o ∧ (t = 14 → 1 ≤ sy_dp o) ∧ (4 ≤ t ∧ t ≤ 11 → 2 ≤ sy_dp o) ∧ (t = 14 ∨ (4 ≤ t ∧ t ≤ 11) ∨ t = 1 ∨ t = 2 ∨ t = 3 ∨ 1000 ≤ t)

theorem sy_str_pos {t : Nat} (h : (4 ≤ t ∧ t ≤ 11) ∨ t = 14) : 1 ≤ sy_str t := by
  unfold sy_str
  split
  · omega
  · split
    · omega
    · split
      · omega
      · split
        · omega
        · omega
theorem sy_str_12 : sy_str 12 = 0 := by decide

/-- release keeps the balance: waiting binary ones + 1 = depth -/
theorem sy_rel_inv (l : Nat) (hl : 1 ≤ l) : ∀ (ops out : List Nat), sy_opsOK ops → sy_wf out → sy_dp out = sy_nb ops + 1 →
    sy_opsOK (sy_rel l ops out).1 ∧ sy_wf (sy_rel l ops out).2 ∧ sy_dp (sy_rel l ops out).2 = sy_nb (sy_rel l ops out).1 + 1 ∧
    (sy_rel l ops out).1.length + (sy_rel l ops out).2.length = ops.length + out.length ∧
    (12 ∈ (sy_rel l ops out).1 ↔ 12 ∈ ops) := by
  intro ops
  induction ops with
  | nil => intro out h1 h2 h3; exact ⟨h1, h2, h3, rfl, Iff.rfl⟩
  | cons t ops ih =>
    intro out h1 h2 h3
    by_cases c : l ≤ sy_str t
    · have e : sy_rel l (t :: ops) out = sy_rel l ops (t :: out) := by
        show (if l ≤ sy_str t then sy_rel l ops (t :: out) else (t :: ops, out)) = _
        rw [if_pos c]
      rw [e]
      have ht : (4 ≤ t ∧ t ≤ 11) ∨ t = 14 := by
        rcases h1 t (List.mem_cons_self ..) with h | h | h
        · exact Or.inl h
        · subst h; rw [sy_str_12] at c; omega
        · exact Or.inr h
      have h1' : sy_opsOK ops := fun t' h' => h1 t' (List.mem_cons_of_mem _ h')
      have hn : t ≠ 12 := by
        intro h; subst h; rw [sy_str_12] at c; omega
      rcases ht with ht | ht
      · have e1 : sy_nb (t :: ops) = sy_nb ops + 1 := by
          show (if 4 ≤ t ∧ t ≤ 11 then sy_nb ops + 1 else sy_nb ops) = _
          rw [if_pos ht]
        have e2 : sy_dp (t :: out) = sy_dp out - 1 := by
          show (if t = 14 then sy_dp out else if 4 ≤ t ∧ t ≤ 11 then sy_dp out - 1 else sy_dp out + 1) = _
          rw [if_neg (by omega), if_pos ht]
        have := ih (t :: out) h1' ⟨h2, by omega, by omega, by omega⟩ (by omega)
        obtain ⟨a, b, c', d, f⟩ := this
        refine ⟨a, b, c', by simp only [List.length_cons] at d ⊢; omega, ?_⟩
        rw [f, List.mem_cons]
        constructor
        · exact Or.inr
        · rintro (h | h)
          · exact absurd h.symm hn
          · exact h
      · have e1 : sy_nb (t :: ops) = sy_nb ops := by
          show (if 4 ≤ t ∧ t ≤ 11 then sy_nb ops + 1 else sy_nb ops) = _
          rw [if_neg (by omega)]
        have e2 : sy_dp (t :: out) = sy_dp out := by
          show (if t = 14 then sy_dp out else if 4 ≤ t ∧ t ≤ 11 then sy_dp out - 1 else sy_dp out + 1) = _
          rw [if_pos ht]
        have := ih (t :: out) h1' ⟨h2, by omega, by omega, by omega⟩ (by omega)
        obtain ⟨a, b, c', d, f⟩ := this
        refine ⟨a, b, c', by simp only [List.length_cons] at d ⊢; omega, ?_⟩
        rw [f, List.mem_cons]
        constructor
        · exact Or.inr
        · rintro (h | h)
          · exact absurd h.symm hn
          · exact h
    · have e : sy_rel l (t :: ops) out = (t :: ops, out) := by
        show (if l ≤ sy_str t then sy_rel l ops (t :: out) else (t :: ops, out)) = _
        rw [if_neg c]
      rw [e]
      exact ⟨h1, h2, h3, rfl, Iff.rfl⟩

/-- release at 1 stops at an open parenthesis, or at the end -/
theorem sy_rel1 : ∀ (ops out : List Nat), sy_opsOK ops → ((sy_rel 1 ops out).1 = [] ∧ ¬ 12 ∈ ops) ∨ ∃ r, (sy_rel 1 ops out).1 = 12 :: r := by
  intro ops
  induction ops with
  | nil => intro out _; exact Or.inl ⟨rfl, by simp⟩
  | cons t ops ih =>
    intro out h1
    by_cases c : 1 ≤ sy_str t
    · have e : sy_rel 1 (t :: ops) out = sy_rel 1 ops (t :: out) := by
        show (if 1 ≤ sy_str t then sy_rel 1 ops (t :: out) else (t :: ops, out)) = _
        rw [if_pos c]
      rw [e]
      rcases ih (t :: out) (fun t' h' => h1 t' (List.mem_cons_of_mem _ h')) with ⟨a, b⟩ | h
      · refine Or.inl ⟨a, ?_⟩
        rw [List.mem_cons]
        rintro (h | h)
        · subst h; rw [sy_str_12] at c; omega
        · exact b h
      · exact Or.inr h
    · have e : sy_rel 1 (t :: ops) out = (t :: ops, out) := by
        show (if 1 ≤ sy_str t then sy_rel 1 ops (t :: out) else (t :: ops, out)) = _
        rw [if_neg c]
      rw [e]
      rcases h1 t (List.mem_cons_self ..) with h | h | h
      · exact absurd (sy_str_pos (Or.inl h)) c
      · subst h; exact Or.inr ⟨ops, rfl⟩
      · exact absurd (sy_str_pos (Or.inr h)) c

/-- the invariant of the yard -/
def sy_inv (st : List Nat × List Nat × Bool) (i : Nat) : Prop :=
  sy_opsOK st.1 ∧ sy_wf st.2.1 ∧ (sy_dp st.2.1 = sy_nb st.1 + (if st.2.2 = true then 0 else 1)) ∧ st.1.length + st.2.1.length ≤ i
theorem sy_inv0 : sy_inv ([], [], true) 0 := ⟨fun _ h => absurd h List.not_mem_nil, trivial, rfl, Nat.le_refl 0⟩
theorem sy_inv_step {st : List Nat × List Nat × Bool} {i t : Nat} (h : sy_inv st i) (ho : sy_ok st t) : sy_inv (sy_step st t) (i + 1) := by
  obtain ⟨ops, out, opd⟩ := st
  obtain ⟨h1, h2, h3, h4⟩ := h
  dsimp only at h1 h2 h3 h4
  rcases ho with ⟨o, ho⟩ | ⟨o, ho⟩
  · dsimp only at o ho
    subst o
    rw [if_pos rfl] at h3
    by_cases c5 : t = 5
    · have e : sy_step (ops, out, true) t = (14 :: ops, out, true) := by
        unfold sy_step; rw [if_pos rfl, if_pos c5]
      rw [e]
      refine ⟨?_, h2, ?_, by simp only [List.length_cons]; omega⟩
      · intro t' h'
        rcases List.mem_cons.mp h' with h | h
        · exact Or.inr (Or.inr h)
        · exact h1 t' h
      · show sy_dp out = sy_nb (14 :: ops) + 0
        have : sy_nb (14 :: ops) = sy_nb ops := by
          show (if 4 ≤ 14 ∧ 14 ≤ 11 then sy_nb ops + 1 else sy_nb ops) = _
          rw [if_neg (by omega)]
        omega
    · by_cases c12 : t = 12
      · have e : sy_step (ops, out, true) t = (12 :: ops, out, true) := by
          unfold sy_step; rw [if_pos rfl, if_neg c5, if_pos c12]
        rw [e]
        refine ⟨?_, h2, ?_, by simp only [List.length_cons]; omega⟩
        · intro t' h'
          rcases List.mem_cons.mp h' with h | h
          · exact Or.inr (Or.inl h)
          · exact h1 t' h
        · show sy_dp out = sy_nb (12 :: ops) + 0
          have : sy_nb (12 :: ops) = sy_nb ops := by
            show (if 4 ≤ 12 ∧ 12 ≤ 11 then sy_nb ops + 1 else sy_nb ops) = _
            rw [if_neg (by omega)]
          omega
      · have e : sy_step (ops, out, true) t = (ops, t :: out, false) := by
          unfold sy_step; rw [if_pos rfl, if_neg c5, if_neg c12]
        rw [e]
        have e2 : sy_dp (t :: out) = sy_dp out + 1 := by
          show (if t = 14 then sy_dp out else if 4 ≤ t ∧ t ≤ 11 then sy_dp out - 1 else sy_dp out + 1) = _
          rw [if_neg (by omega), if_neg (by omega)]
        refine ⟨h1, ⟨h2, by omega, by omega, by omega⟩, ?_, by simp only [List.length_cons]; omega⟩
        show sy_dp (t :: out) = sy_nb ops + 1
        omega
  · dsimp only at o ho
    subst o
    rw [if_neg (by decide)] at h3
    by_cases c13 : t = 13
    · have e : sy_step (ops, out, false) t = ((sy_rel 1 ops out).1.tail, (sy_rel 1 ops out).2, false) := by
        unfold sy_step; rw [if_neg Bool.false_ne_true, if_pos c13]
      rw [e]
      obtain ⟨a, b, c, d, f⟩ := sy_rel_inv 1 (Nat.le_refl 1) ops out h1 h2 h3
      have hm : 12 ∈ ops := by
        rcases ho with ho | ho
        · exact ho.2
        · unfold sy_bin at ho; omega
      rcases sy_rel1 ops out h1 with ⟨_, hx⟩ | ⟨r, hr⟩
      · exact absurd hm hx
      · rw [hr] at a c d ⊢
        refine ⟨fun t' h' => a t' (List.mem_cons_of_mem _ h'), b, ?_, ?_⟩
        · show sy_dp _ = sy_nb r + 1
          rw [c]
          have : sy_nb (12 :: r) = sy_nb r := by
            show (if 4 ≤ 12 ∧ 12 ≤ 11 then sy_nb r + 1 else sy_nb r) = _
            rw [if_neg (by omega)]
          omega
        · show r.length + (sy_rel 1 ops out).2.length ≤ i + 1
          simp only [List.length_cons] at d
          omega
    · have e : sy_step (ops, out, false) t = (t :: (sy_rel (sy_str t) ops out).1, (sy_rel (sy_str t) ops out).2, true) := by
        unfold sy_step; rw [if_neg Bool.false_ne_true, if_neg c13]
      rw [e]
      have ht : 4 ≤ t ∧ t ≤ 11 := by
        rcases ho with ho | ho
        · exact absurd ho.1 c13
        · exact ho
      obtain ⟨a, b, c, d, f⟩ := sy_rel_inv (sy_str t) (sy_str_pos (Or.inl ht)) ops out h1 h2 h3
      refine ⟨?_, b, ?_, by show ((sy_rel (sy_str t) ops out).1.length + 1) + (sy_rel (sy_str t) ops out).2.length ≤ i + 1; omega⟩
      · intro t' h'
        rcases List.mem_cons.mp h' with h | h
        · subst h; exact Or.inl ht
        · exact a t' h
      · show sy_dp (sy_rel (sy_str t) ops out).2 = sy_nb (t :: (sy_rel (sy_str t) ops out).1) + 0
        have : sy_nb (t :: (sy_rel (sy_str t) ops out).1) = sy_nb (sy_rel (sy_str t) ops out).1 + 1 := by
          show (if 4 ≤ t ∧ t ≤ 11 then _ + 1 else _) = _
          rw [if_pos ht]
        omega
theorem sy_inv_run {tk : Nat → Nat} : ∀ i, (∀ j, j < i → sy_ok (sy_run tk j) (tk j)) → sy_inv (sy_run tk i) i
  | 0, _ => sy_inv0
  | i + 1, h => sy_inv_step (sy_inv_run i (fun j hj => h j (by omega))) (h i (by omega))
end
section
/-! pure: values of a postfix, and the folded code -/
def ev_join (t : Nat) (a b : Int32) : Int32 :=
  if t = 4 then a + b else if t = 5 then a - b else if t = 6 then a * b else if t = 7 then a / b else if t = 8 then a - a / b * b
  else if t = 9 then (if b ≤ a then 0 else 1) else if t = 10 then (if a = b then 1 else 0) else a &&& b
def ev_opv (t : Nat) (x y k : Int32) : Int32 := if t = 1 then x else if t = 2 then y else if t = 3 then k else nI t - 1000
def ev_div (t : Nat) (b : Int32) : Prop := (t = 7 ∨ t = 8) ∧ b = 0
noncomputable def ev_act (t : Nat) (x y k : Int32) (s : List Int32 × Bool) : List Int32 × Bool :=
  if t = 14 then (match s.1 with
    | a :: l => (-a :: l, s.2)
    | [] => s)
  else if 4 ≤ t ∧ t ≤ 11 then (match s.1 with
    | b :: a :: l => if (t = 7 ∨ t = 8) ∧ b = 0 then (ev_join t a 1 :: l, true) else (ev_join t a b :: l, s.2)
    | _ => s)
  else (ev_opv t x y k :: s.1, s.2)
noncomputable def ev_ex (x y k : Int32) : List Nat → List Int32 × Bool
  | [] => ([], false)
  | t :: o => ev_act t x y k (ev_ex x y k o)
theorem ev_len (x y k : Int32) : ∀ o, sy_wf o → (ev_ex x y k o).1.length = sy_dp o := by
  intro o
  induction o with
  | nil => intro _; rfl
  | cons t o ih =>
    intro h
    obtain ⟨h0, h1, h2, h3⟩ := h
    have i := ih h0
    show (ev_act t x y k (ev_ex x y k o)).1.length = (if t = 14 then sy_dp o else if 4 ≤ t ∧ t ≤ 11 then sy_dp o - 1 else sy_dp o + 1)
    unfold ev_act
    by_cases c : t = 14
    · rw [if_pos c, if_pos c]
      have := h1 c
      match e : (ev_ex x y k o).1 with
      | [] => rw [e] at i; simp at i; omega
      | a :: l => rw [e] at i; exact i
    · rw [if_neg c, if_neg c]
      by_cases c2 : 4 ≤ t ∧ t ≤ 11
      · rw [if_pos c2, if_pos c2]
        have := h2 c2
        match e : (ev_ex x y k o).1 with
        | [] => rw [e] at i; simp at i; omega
        | [a] => rw [e] at i; simp at i; omega
        | b :: a :: l =>
          rw [e] at i
          simp only [List.length_cons] at i
          dsimp only
          split
          · simp only [List.length_cons]; omega
          · simp only [List.length_cons]; omega
      · rw [if_neg c2, if_neg c2]
        simp only [List.length_cons]
        omega

/-- X's code, the last step first: (step, number) -/
noncomputable def cd_act (c : Nat) (n : Int32) (x y k : Int32) (l : List Int32) : Option (List Int32) :=
  if c = 15 then some (n :: l)
  else if c = 14 then (match l with
    | a :: l => some (-a :: l)
    | [] => none)
  else if c < 4 then some ((if c = 1 then x else if c = 2 then y else k) :: l)
  else (match l with
    | b :: a :: l => if (c = 7 ∨ c = 8) ∧ b = 0 then none else some (ev_join c a b :: l)
    | _ => none)
noncomputable def cd_run (x y k : Int32) : List (Nat × Int32) → Option (List Int32)
  | [] => some []
  | (c, n) :: cs => match cd_run x y k cs with
    | none => none
    | some l => cd_act c n x y k l
def cd_dp : List (Nat × Int32) → Nat
  | [] => 0
  | (c, _) :: cs => if c = 14 then cd_dp cs else if 4 ≤ c ∧ c ≤ 11 then cd_dp cs - 1 else cd_dp cs + 1
def cd_wf : List (Nat × Int32) → Prop
  | [] => True
  | (c, _) :: cs => cd_wf cs ∧ (c = 14 → 1 ≤ cd_dp cs) ∧ (4 ≤ c ∧ c ≤ 11 → 2 ≤ cd_dp cs) ∧ (c = 15 ∨ c = 14 ∨ (4 ≤ c ∧ c ≤ 11) ∨ c = 1 ∨ c = 2 ∨ c = 3)
theorem cd_dple : ∀ cs, cd_dp cs ≤ cs.length := by
  intro cs
  induction cs with
  | nil => exact Nat.le_refl 0
  | cons p cs ih =>
    obtain ⟨c, n⟩ := p
    show (if c = 14 then cd_dp cs else if 4 ≤ c ∧ c ≤ 11 then cd_dp cs - 1 else cd_dp cs + 1) ≤ cs.length + 1
    split
    · omega
    · split <;> omega
theorem cd_len (x y k : Int32) : ∀ cs l, cd_wf cs → cd_run x y k cs = some l → l.length = cd_dp cs := by
  intro cs
  induction cs with
  | nil => intro l _ h; cases h; rfl
  | cons p cs ih =>
    obtain ⟨c, n⟩ := p
    intro l hw h
    obtain ⟨h0, h1, h2, h3⟩ := hw
    show l.length = (if c = 14 then cd_dp cs else if 4 ≤ c ∧ c ≤ 11 then cd_dp cs - 1 else cd_dp cs + 1)
    have h' : (match cd_run x y k cs with | none => none | some l => cd_act c n x y k l) = some l := h
    match e : cd_run x y k cs with
    | none => rw [e] at h'; cases h'
    | some l0 =>
      rw [e] at h'
      have i := ih l0 h0 e
      have h'' : cd_act c n x y k l0 = some l := h'
      unfold cd_act at h''
      by_cases c15 : c = 15
      · rw [if_pos c15] at h''
        cases h''
        rw [if_neg (by omega), if_neg (by omega)]
        simp only [List.length_cons]; omega
      · rw [if_neg c15] at h''
        by_cases c14 : c = 14
        · rw [if_pos c14] at h''
          rw [if_pos c14]
          match l0, h'', i with
          | a :: l1, h'', i => cases h''; simp only [List.length_cons] at i ⊢; exact i
        · rw [if_neg c14] at h''
          rw [if_neg c14]
          by_cases c4 : c < 4
          · rw [if_pos c4] at h''
            cases h''
            rw [if_neg (show ¬ (4 ≤ c ∧ c ≤ 11) by omega)]
            simp only [List.length_cons]; omega
          · rw [if_neg c4] at h''
            rw [if_pos (by omega)]
            match l0, h'', i with
            | b :: a :: l1, h'', i =>
              dsimp only at h''
              split at h''
              · cases h''
              · cases h''
                simp only [List.length_cons] at i ⊢; omega

/-- one operator behind the code: numbers are joined -/
noncomputable def cd_emit (t : Nat) (cs : List (Nat × Int32)) : List (Nat × Int32) :=
  if t = 14 then (match cs with
    | (c, n) :: r => if c = 15 then (15, -n) :: r else (14, 0) :: (c, n) :: r
    | [] => [(14, 0)])
  else (match cs with
    | (c, b) :: (d, a) :: r => if c = 15 ∧ d = 15 ∧ ¬ ((t = 7 ∨ t = 8) ∧ b = 0) then (15, ev_join t a b) :: r else (t, 0) :: (c, b) :: (d, a) :: r
    | r => (t, 0) :: r)
def cd_of (t : Nat) : Nat × Int32 := if 1000 ≤ t then (15, nI t - 1000) else (t, 0)
/-- the code stands for the postfix -/
def cd_rel (cs : List (Nat × Int32)) (o : List Nat) : Prop :=
  cd_wf cs ∧ cd_dp cs = sy_dp o ∧ cs.length ≤ o.length ∧
  ∀ x y k, cd_run x y k cs = if (ev_ex x y k o).2 = true then none else some (ev_ex x y k o).1
theorem cd_rel0 : cd_rel [] [] := ⟨trivial, rfl, Nat.le_refl _, fun _ _ _ => rfl⟩
theorem cd_rel_opd {cs : List (Nat × Int32)} {o : List Nat} {t : Nat} (h : cd_rel cs o) (ht : t = 1 ∨ t = 2 ∨ t = 3 ∨ 1000 ≤ t) :
    cd_rel (cd_of t :: cs) (t :: o) := by
  obtain ⟨h1, h2, h3, h4⟩ := h
  have ed : sy_dp (t :: o) = sy_dp o + 1 := by
    show (if t = 14 then sy_dp o else if 4 ≤ t ∧ t ≤ 11 then sy_dp o - 1 else sy_dp o + 1) = _
    rw [if_neg (by omega), if_neg (by omega)]
  have ee : ∀ x y k, ev_ex x y k (t :: o) = (ev_opv t x y k :: (ev_ex x y k o).1, (ev_ex x y k o).2) := by
    intro x y k
    show ev_act t x y k (ev_ex x y k o) = _
    unfold ev_act
    rw [if_neg (by omega), if_neg (by omega)]
  by_cases c : 1000 ≤ t
  · have e : cd_of t = (15, nI t - 1000) := if_pos c
    rw [e]
    refine ⟨⟨h1, by omega, by omega, Or.inl rfl⟩, ?_, by simp only [List.length_cons]; omega, ?_⟩
    · rw [ed, ← h2]; rfl
    · intro x y k
      rw [ee]
      show (match cd_run x y k cs with | none => none | some l => cd_act 15 (nI t - 1000) x y k l) = _
      rw [h4 x y k]
      by_cases b : (ev_ex x y k o).2 = true
      · rw [if_pos b, if_pos b]
      · rw [if_neg b, if_neg b]
        show some ((nI t - 1000) :: (ev_ex x y k o).1) = some (ev_opv t x y k :: (ev_ex x y k o).1)
        unfold ev_opv
        rw [if_neg (by omega), if_neg (by omega), if_neg (by omega)]
  · have e : cd_of t = (t, 0) := if_neg c
    rw [e]
    have ht' : t = 1 ∨ t = 2 ∨ t = 3 := by omega
    refine ⟨⟨h1, by omega, by omega, by omega⟩, ?_, by simp only [List.length_cons]; omega, ?_⟩
    · rw [ed, ← h2]
      show (if t = 14 then cd_dp cs else if 4 ≤ t ∧ t ≤ 11 then cd_dp cs - 1 else cd_dp cs + 1) = _
      rw [if_neg (by omega), if_neg (by omega)]
    · intro x y k
      rw [ee]
      show (match cd_run x y k cs with | none => none | some l => cd_act t 0 x y k l) = _
      rw [h4 x y k]
      by_cases b : (ev_ex x y k o).2 = true
      · rw [if_pos b, if_pos b]
      · rw [if_neg b, if_neg b]
        show cd_act t 0 x y k (ev_ex x y k o).1 = some (ev_opv t x y k :: (ev_ex x y k o).1)
        unfold cd_act ev_opv
        rw [if_neg (by omega), if_neg (by omega), if_pos (by omega)]
        rcases ht' with h | h | h <;> subst h <;> rfl
theorem cd_rel_neg {cs : List (Nat × Int32)} {o : List Nat} (h : cd_rel cs o) (hw : sy_wf o) (hd : 1 ≤ sy_dp o) : cd_rel (cd_emit 14 cs) (14 :: o) := by
  obtain ⟨h1, h2, h3, h4⟩ := h
  have ed : sy_dp (14 :: o) = sy_dp o := rfl
  have ee : ∀ x y k, ∃ a l, (ev_ex x y k o).1 = a :: l ∧ ev_ex x y k (14 :: o) = (-a :: l, (ev_ex x y k o).2) := by
    intro x y k
    have hl := ev_len x y k o hw
    match e : (ev_ex x y k o).1 with
    | [] => rw [e] at hl; simp at hl; omega
    | a :: l =>
      refine ⟨a, l, rfl, ?_⟩
      show ev_act 14 x y k (ev_ex x y k o) = _
      unfold ev_act
      rw [if_pos rfl, e]
  match cs, h1, h2, h3, h4 with
  | [], h1, h2, h3, h4 => exact absurd h2 (by show ¬ 0 = _; omega)
  | (c, n) :: r, h1, h2, h3, h4 =>
    have e : cd_emit 14 ((c, n) :: r) = if c = 15 then (15, -n) :: r else (14, 0) :: (c, n) :: r := by
      unfold cd_emit; rw [if_pos rfl]
    rw [e]
    by_cases c15 : c = 15
    · subst c15
      rw [if_pos rfl]
      refine ⟨h1, by rw [ed, ← h2]; rfl, by simp only [List.length_cons] at h3 ⊢; omega, ?_⟩
      intro x y k
      obtain ⟨a, l, e1, e2⟩ := ee x y k
      have h := h4 x y k
      have u1 : cd_run x y k ((15, n) :: r) = (match cd_run x y k r with | none => none | some l => some (n :: l)) := by
        show (match cd_run x y k r with | none => none | some l => cd_act 15 n x y k l) = _
        rfl
      have u2 : cd_run x y k ((15, -n) :: r) = (match cd_run x y k r with | none => none | some l => some (-n :: l)) := by
        show (match cd_run x y k r with | none => none | some l => cd_act 15 (-n) x y k l) = _
        rfl
      rw [u1] at h
      rw [u2, e2]
      match er : cd_run x y k r with
      | none =>
        rw [er] at h
        by_cases b : (ev_ex x y k o).2 = true
        · rw [if_pos b]
        · rw [if_neg b] at h; cases h
      | some l0 =>
        rw [er] at h
        by_cases b : (ev_ex x y k o).2 = true
        · rw [if_pos b] at h; cases h
        · rw [if_neg b, e1] at h
          rw [if_neg b]
          cases h
          rfl
    · rw [if_neg c15]
      refine ⟨⟨h1, fun _ => by rw [h2]; exact hd, by omega, Or.inr (Or.inl rfl)⟩, by rw [ed, ← h2]; rfl, by simp only [List.length_cons] at h3 ⊢; omega, ?_⟩
      intro x y k
      obtain ⟨a, l, e1, e2⟩ := ee x y k
      show (match cd_run x y k ((c, n) :: r) with | none => none | some l => cd_act 14 0 x y k l) = _
      rw [h4 x y k, e2]
      by_cases b : (ev_ex x y k o).2 = true
      · rw [if_pos b, if_pos b]
      · rw [if_neg b, if_neg b, e1]
        rfl
theorem cd_rel_bin {cs : List (Nat × Int32)} {o : List Nat} {t : Nat} (h : cd_rel cs o) (hw : sy_wf o) (ht : 4 ≤ t ∧ t ≤ 11) (hd : 2 ≤ sy_dp o) :
    cd_rel (cd_emit t cs) (t :: o) := by
  obtain ⟨h1, h2, h3, h4⟩ := h
  have ed : sy_dp (t :: o) = sy_dp o - 1 := by
    show (if t = 14 then sy_dp o else if 4 ≤ t ∧ t ≤ 11 then sy_dp o - 1 else sy_dp o + 1) = _
    rw [if_neg (by omega), if_pos ht]
  have ee : ∀ x y k, ∃ a b l, (ev_ex x y k o).1 = b :: a :: l ∧ ev_ex x y k (t :: o) =
      if (t = 7 ∨ t = 8) ∧ b = 0 then (ev_join t a 1 :: l, true) else (ev_join t a b :: l, (ev_ex x y k o).2) := by
    intro x y k
    have hl := ev_len x y k o hw
    match e : (ev_ex x y k o).1 with
    | [] => rw [e] at hl; simp at hl; omega
    | [a] => rw [e] at hl; simp at hl; omega
    | b :: a :: l =>
      refine ⟨a, b, l, rfl, ?_⟩
      show ev_act t x y k (ev_ex x y k o) = _
      unfold ev_act
      rw [if_neg (by omega), if_pos ht, e]
  have plain : cd_rel ((t, 0) :: cs) (t :: o) := by
    refine ⟨⟨h1, by omega, fun _ => by rw [h2]; exact hd, Or.inr (Or.inr (Or.inl ht))⟩, ?_, by simp only [List.length_cons]; omega, ?_⟩
    · rw [ed, ← h2]
      show (if t = 14 then cd_dp cs else if 4 ≤ t ∧ t ≤ 11 then cd_dp cs - 1 else cd_dp cs + 1) = _
      rw [if_neg (by omega), if_pos ht]
    · intro x y k
      obtain ⟨a, b, l, e1, e2⟩ := ee x y k
      show (match cd_run x y k cs with | none => none | some l => cd_act t 0 x y k l) = _
      rw [h4 x y k, e2]
      by_cases br : (ev_ex x y k o).2 = true
      · rw [if_pos br]
        by_cases z : (t = 7 ∨ t = 8) ∧ b = 0
        · rw [if_pos z]; rfl
        · rw [if_neg z, if_pos br]
      · rw [if_neg br, e1]
        show cd_act t 0 x y k (b :: a :: l) = _
        unfold cd_act
        rw [if_neg (by omega), if_neg (by omega), if_neg (by omega)]
        by_cases z : (t = 7 ∨ t = 8) ∧ b = 0
        · rw [if_pos z]
          dsimp only
          rw [if_pos z]; rfl
        · rw [if_neg z]
          dsimp only
          rw [if_neg z, if_neg br]
  match cs, h1, h2, h3, h4, plain with
  | [], h1, h2, h3, h4, plain =>
    have e0 : cd_emit t [] = [(t, 0)] := by unfold cd_emit; rw [if_neg (by omega)]
    rw [e0]; exact plain
  | [p], h1, h2, h3, h4, plain =>
    have e0 : cd_emit t [p] = [(t, 0), p] := by unfold cd_emit; rw [if_neg (by omega)]
    rw [e0]; exact plain
  | (c, b) :: (d, a) :: r, h1, h2, h3, h4, plain =>
    have e0 : cd_emit t ((c, b) :: (d, a) :: r) = if c = 15 ∧ d = 15 ∧ ¬ ((t = 7 ∨ t = 8) ∧ b = 0) then (15, ev_join t a b) :: r else (t, 0) :: (c, b) :: (d, a) :: r := by
      unfold cd_emit; rw [if_neg (by omega)]
    rw [e0]
    by_cases z : c = 15 ∧ d = 15 ∧ ¬ ((t = 7 ∨ t = 8) ∧ b = 0)
    · rw [if_pos z]
      obtain ⟨z1, z2, z3⟩ := z
      subst z1
      subst z2
      refine ⟨⟨h1.1.1, by omega, by omega, Or.inl rfl⟩, ?_, by simp only [List.length_cons] at h3 ⊢; omega, ?_⟩
      · have q : cd_dp ((15, b) :: (15, a) :: r) = cd_dp r + 1 + 1 := rfl
        have q2 : cd_dp ((15, ev_join t a b) :: r) = cd_dp r + 1 := rfl
        rw [ed, ← h2, q, q2]; omega
      · intro x y k
        obtain ⟨a', b', l, e1, e2⟩ := ee x y k
        have h := h4 x y k
        have u1 : cd_run x y k ((15, b) :: (15, a) :: r) = (match cd_run x y k r with | none => none | some l => some (b :: a :: l)) := by
          show (match (match cd_run x y k r with | none => none | some l => cd_act 15 a x y k l) with | none => none | some l => cd_act 15 b x y k l) = _
          cases cd_run x y k r <;> rfl
        have u2 : cd_run x y k ((15, ev_join t a b) :: r) = (match cd_run x y k r with | none => none | some l => some (ev_join t a b :: l)) := rfl
        rw [u1] at h
        rw [u2, e2]
        match er : cd_run x y k r with
        | none =>
          rw [er] at h
          by_cases br : (ev_ex x y k o).2 = true
          · by_cases z : (t = 7 ∨ t = 8) ∧ b' = 0
            · rw [if_pos z]; rfl
            · rw [if_neg z, if_pos br]
          · rw [if_neg br] at h; cases h
        | some l0 =>
          rw [er] at h
          by_cases br : (ev_ex x y k o).2 = true
          · rw [if_pos br] at h; cases h
          · rw [if_neg br, e1] at h
            cases h
            rw [if_neg z3, if_neg br]
    · rw [if_neg z]; exact plain
end
section
/-! X: the value of a stage's code -/
def sk_ar (a : Nat → Int32) : List Int32 → Prop
  | [] => True
  | v :: l => a l.length = v ∧ sk_ar a l
theorem sk_upd {a : Nat → Int32} {k : Nat} {v : Int32} : ∀ l : List Int32, sk_ar a l → l.length ≤ k → sk_ar (upd a k v) l
  | [], _, _ => trivial
  | w :: l, h, hk => by
    simp only [List.length_cons] at hk
    exact ⟨(pk_un (by omega)).trans h.1, sk_upd l h.2 (by omega)⟩
theorem sk_push {a : Nat → Int32} {l : List Int32} {v : Int32} (h : sk_ar a l) : sk_ar (upd a l.length v) (v :: l) := ⟨pk_us, sk_upd l h (Nat.le_refl _)⟩
def cd_ar (sp nm : Nat → Int32) (b : Nat) : List (Nat × Int32) → Prop
  | [] => True
  | (c, n) :: cs => sp (b + cs.length) = nI c ∧ nm (b + cs.length) = n ∧ cd_ar sp nm b cs
theorem cd_ar_suf {sp nm : Nat → Int32} {b : Nat} {c1 : List (Nat × Int32)} : ∀ c2, cd_ar sp nm b (c2 ++ c1) → cd_ar sp nm b c1
  | [], h => h
  | (_, _) :: c2, h => cd_ar_suf c2 h.2.2
theorem cd_wf_suf {c1 : List (Nat × Int32)} : ∀ c2, cd_wf (c2 ++ c1) → cd_wf c1
  | [], h => h
  | (_, _) :: c2, h => cd_wf_suf c2 h.1
theorem cd_none {x y k : Int32} {c1 : List (Nat × Int32)} (h : cd_run x y k c1 = none) : ∀ c2, cd_run x y k (c2 ++ c1) = none
  | [] => h
  | (c, n) :: c2 => by
    show (match cd_run x y k (c2 ++ c1) with | none => none | some l => cd_act c n x y k l) = none
    rw [cd_none h c2]
theorem xw_join {post : Int32 → Prop} {t : Nat} {x y : Int32} (ht : 4 ≤ t ∧ t ≤ 11) (hz : t = 7 ∨ t = 8 → ¬ y = 0) (hp : post (ev_join t x y)) :
    wpX_join post (nI t) x y := by
  have h : t = 4 ∨ t = 5 ∨ t = 6 ∨ t = 7 ∨ t = 8 ∨ t = 9 ∨ t = 10 ∨ t = 11 := by omega
  unfold wpX_join
  rcases h with rfl | rfl | rfl | rfl | rfl | rfl | rfl | rfl
  · exact br_f (by decide) (br_f (by decide) (br_t (by decide) hp))
  · exact br_f (by decide) (br_f (by decide) (br_f (by decide) (br_t (by decide) hp)))
  · exact br_f (by decide) (br_f (by decide) (br_f (by decide) (br_f (by decide) (br_t (by decide) hp))))
  · exact br_f (by decide) (br_f (by decide) (br_f (by decide) (br_f (by decide) (br_f (by decide) (br_t (by decide) ⟨hz (Or.inl rfl), hp⟩)))))
  · exact br_f (by decide) (br_f (by decide) (br_f (by decide) (br_f (by decide) (br_f (by decide) (br_f (by decide) (br_t (by decide) ⟨hz (Or.inr rfl), hp⟩))))))
  · refine br_f (by decide) (br_f (by decide) (br_f (by decide) (br_f (by decide) (br_f (by decide) (br_f (by decide) (br_f (by decide) (br_t (by decide) ?_)))))))
    have e : ev_join 9 x y = if y ≤ x then 0 else 1 := rfl
    rw [e] at hp
    refine br_c (fun h => ?_) (fun h => ?_)
    · rw [if_pos h] at hp; exact hp
    · rw [if_neg h] at hp; exact hp
  · refine br_f (by decide) (br_f (by decide) (br_f (by decide) (br_f (by decide) (br_f (by decide) (br_f (by decide) (br_f (by decide) (br_f (by decide) (br_t (by decide) ?_))))))))
    have e : ev_join 10 x y = if x = y then 1 else 0 := rfl
    rw [e] at hp
    refine br_c (fun h => ?_) (fun h => ?_)
    · rw [if_pos h] at hp; exact hp
    · rw [if_neg h] at hp; exact hp
  · exact br_f (by decide) (br_t (by decide) hp)
theorem xw_both_no {post : Int32 → SX → Prop} {u : SX} {p x y : Int32} {t : Nat} (ht : t = 7 ∨ t = 8) (hy : y = 0)
    (hp : post 0 (xg_s u p 1)) : wpX_both post u p (nI t) x y := by
  rcases ht with rfl | rfl
  · exact br_t rfl (br_t hy hp)
  · exact br_f (by decide) (br_t rfl (br_t hy hp))
theorem xw_both_ok {post : Int32 → SX → Prop} {u : SX} {p x y : Int32} {t : Nat} (ht : 4 ≤ t ∧ t ≤ 11) (hz : ¬ ((t = 7 ∨ t = 8) ∧ y = 0))
    (hp : post (ev_join t x y) u) : wpX_both post u p (nI t) x y := by
  have hj : wpX_join (fun r => post r u) (nI t) x y := xw_join ht (fun h hy => hz ⟨h, hy⟩) hp
  by_cases c7 : t = 7
  · subst c7
    exact br_t rfl (br_f (fun h => hz ⟨Or.inl rfl, h⟩) hj)
  · by_cases c8 : t = 8
    · subst c8
      exact br_f (by decide) (br_t rfl (br_f (fun h => hz ⟨Or.inr rfl, h⟩) hj))
    · exact br_f (fun h => c7 ((nI_eq (b := 7) (by omega) (by omega)).mp h)) (br_f (fun h => c8 ((nI_eq (b := 8) (by omega) (by omega)).mp h)) hj)
end
section
/-! X: the loop over a stage's code -/
def xl_val (post : Int32 → SX → Prop) (s x y b : Int32) (n : Nat) (t q : Int32) (w : SX) : Prop := wX_value_47 post s x y b n t q (xa_limit w) (xa_source w) (xa_stages w) (xa_tokens w) (xa_wrongPlace w) (xa_waits w) (xa_parens w) (xa_opens w) (xa_from w) (xa_at w) (xa_ended w) (xa_spent w) (xa_stopped w) (xa_out w) (xa_lastStages w) (xa_failedStage w) (xa_shownCount w) (xa_element w) (xa_length w) (xa_kind w) (xa_constant w) (xa_step w) (xa_number w) (xa_steps w) (xa_quick w) (xa_token w) (xa_waiting w) (xa_compared w) (xa_operand w) (xa_memory w) (xa_begun w) (xa_place w) (xa_held w) (xa_keyOf w) (xa_next w) (xa_size w) (xa_head w) (xa_openStage w) (xa_openValue w) (xa_openLeft w) (xa_applications w) (xa_reads w) (xa_shown w)
section
variable {post : Int32 → SX → Prop} {w : SX} {s b t q f : Nat} {x y : Int32}
theorem xv_exit (hs : s < 8) (hx : nI b + xa_steps w s ≤ nI q) (hp : post (xa_operand w 0) w) : xl_val post (nI s) x y (nI b) (f + 1) (nI t) (nI q) w := by
  have ecl : (nI s).toNatClampNeg = s := nI_clamp (by omega)
  refine And.intro (vp_in_nI hs (by omega)) ?_
  rw [ecl]
  exact br_t hx hp
theorem xv_exit2 (hs : s < 8) (h0 : ¬ xa_stopped w = 0) (hp : post (xa_operand w 0) w) : xl_val post (nI s) x y (nI b) (f + 1) (nI t) (nI q) w := by
  refine And.intro (vp_in_nI hs (by omega)) (br_c (fun _ => hp) (fun _ => br_f h0 hp))
theorem xv_num (hs : s < 8) (hx : ¬ nI b + xa_steps w s ≤ nI q) (h0 : xa_stopped w = 0) (hq : q < 128) (ha : xa_step w q = nI 15) (ht : t < 16)
    (hp : xl_val post (nI s) x y (nI b) f (nI (t + 1)) (nI (q + 1)) (xs_operand w (upd (xa_operand w) t (xa_number w q)))) :
    xl_val post (nI s) x y (nI b) (f + 1) (nI t) (nI q) w := by
  have ecl : (nI s).toNatClampNeg = s := nI_clamp (by omega)
  have ecq : (nI q).toNatClampNeg = q := nI_clamp (by omega)
  have ect : (nI t).toNatClampNeg = t := nI_clamp (by omega)
  have hiq : vp_in (nI q) 128 := vp_in_nI hq (by omega)
  refine And.intro (vp_in_nI hs (by omega)) ?_
  rw [ecl]
  refine br_f hx (br_t h0 (And.intro hiq ?_))
  rw [ecq]
  refine nm_r ha (br_t rfl (nm_r (nI_1 _) ⟨hiq, vp_in_nI ht (by omega), ?_⟩))
  rw [ect]
  exact nm_e (nm_r (nI_1 q) hp)
theorem xv_neg (hs : s < 8) (hx : ¬ nI b + xa_steps w s ≤ nI q) (h0 : xa_stopped w = 0) (hq : q < 128) (ha : xa_step w q = nI 14) (ht : t < 16)
    (hp : xl_val post (nI s) x y (nI b) f (nI (t + 1)) (nI (q + 1)) (xs_operand w (upd (xa_operand w) t (-(xa_operand w t))))) :
    xl_val post (nI s) x y (nI b) (f + 1) (nI (t + 1)) (nI q) w := by
  have ecl : (nI s).toNatClampNeg = s := nI_clamp (by omega)
  have ecq : (nI q).toNatClampNeg = q := nI_clamp (by omega)
  have ect : (nI t).toNatClampNeg = t := nI_clamp (by omega)
  have hiq : vp_in (nI q) 128 := vp_in_nI hq (by omega)
  refine And.intro (vp_in_nI hs (by omega)) ?_
  rw [ecl]
  refine br_f hx (br_t h0 (And.intro hiq ?_))
  rw [ecq]
  refine nm_r ha (br_f (by decide) (br_t (by decide) (br_t rfl ?_)))
  rw [nI_pred]
  refine And.intro (vp_in_nI ht (by omega)) (And.intro (vp_in_nI ht (by omega)) ?_)
  rw [ect]
  exact nm_e (nm_r (nI_1 q) hp)
theorem xv_var {c : Nat} {z : Int32} (hs : s < 8) (hx : ¬ nI b + xa_steps w s ≤ nI q) (h0 : xa_stopped w = 0) (hq : q < 128) (ha : xa_step w q = nI c) (ht : t < 16)
    (hc : (c = 1 ∧ z = x) ∨ (c = 2 ∧ z = y) ∨ (c = 3 ∧ z = xa_applications w s - 1))
    (hp : xl_val post (nI s) x y (nI b) f (nI (t + 1)) (nI (q + 1)) (xs_operand w (upd (xa_operand w) t z))) :
    xl_val post (nI s) x y (nI b) (f + 1) (nI t) (nI q) w := by
  have ecl : (nI s).toNatClampNeg = s := nI_clamp (by omega)
  have ecq : (nI q).toNatClampNeg = q := nI_clamp (by omega)
  have ect : (nI t).toNatClampNeg = t := nI_clamp (by omega)
  have hiq : vp_in (nI q) 128 := vp_in_nI hq (by omega)
  have his : vp_in (nI s) 8 := vp_in_nI hs (by omega)
  have hit : vp_in (nI t) 16 := vp_in_nI ht (by omega)
  refine And.intro his ?_
  rw [ecl]
  refine br_f hx (br_t h0 (And.intro hiq ?_))
  rw [ecq]
  rcases hc with ⟨rfl, rfl⟩ | ⟨rfl, rfl⟩ | ⟨rfl, rfl⟩
  · refine nm_r ha (br_f (by decide) (br_f (by decide) (nm_r (nI_1 _) (br_t rfl (And.intro hit ?_)))))
    rw [ect]
    exact nm_e (nm_r (nI_1 q) hp)
  · refine nm_r ha (br_f (by decide) (br_f (by decide) (nm_r (nI_1 _) (br_f (by decide) (br_t rfl (And.intro hit ?_))))))
    rw [ect]
    exact nm_e (nm_r (nI_1 q) hp)
  · refine nm_r ha (br_f (by decide) (br_f (by decide) (nm_r (nI_1 _) (br_f (by decide) (br_f (by decide) (And.intro his (And.intro hit ?_)))))))
    rw [ect]
    exact nm_e (nm_r (nI_1 q) hp)
theorem xv_op {c : Nat} (hs : s < 8) (hx : ¬ nI b + xa_steps w s ≤ nI q) (h0 : xa_stopped w = 0) (hq : q < 128) (ha : xa_step w q = nI c) (ht : t + 1 < 16)
    (hc : 4 ≤ c ∧ c ≤ 11) (hz : ¬ ((c = 7 ∨ c = 8) ∧ xa_operand w (t + 1) = 0))
    (hp : xl_val post (nI s) x y (nI b) f (nI (t + 1)) (nI (q + 1)) (xs_operand w (upd (xa_operand w) t (ev_join c (xa_operand w t) (xa_operand w (t + 1)))))) :
    xl_val post (nI s) x y (nI b) (f + 1) (nI (t + 1 + 1)) (nI q) w := by
  have ecl : (nI s).toNatClampNeg = s := nI_clamp (by omega)
  have ecq : (nI q).toNatClampNeg = q := nI_clamp (by omega)
  have ect : (nI t).toNatClampNeg = t := nI_clamp (by omega)
  have ect1 : (nI (t + 1)).toNatClampNeg = t + 1 := nI_clamp (by omega)
  have hiq : vp_in (nI q) 128 := vp_in_nI hq (by omega)
  have hit : vp_in (nI t) 16 := vp_in_nI (by omega) (by omega)
  have hit1 : vp_in (nI (t + 1)) 16 := vp_in_nI (by omega) (by omega)
  have n15 : ¬ nI c = 15 := fun h => absurd ((nI_eq (b := 15) (by omega) (by omega)).mp h) (by omega)
  have n14 : ¬ nI c = 14 := fun h => absurd ((nI_eq (b := 14) (by omega) (by omega)).mp h) (by omega)
  refine And.intro (vp_in_nI hs (by omega)) ?_
  rw [ecl]
  refine br_f hx (br_t h0 (And.intro hiq ?_))
  rw [ecq]
  refine nm_r ha (br_f n15 (br_t (nI_le (a := 4) hc.1 (by omega)) (br_f n14 (nm_r (pk_m1 _) ?_))))
  rw [nI_pred]
  refine And.intro hit (And.intro hit1 ?_)
  rw [ect, ect1]
  exact xw_both_ok (u := w) hc hz (And.intro hit (nm_e (nm_r (nI_1 q) hp)))
theorem xv_div {c : Nat} (hs : s < 8) (hx : ¬ nI b + xa_steps w s ≤ nI q) (h0 : xa_stopped w = 0) (hq : q < 128) (ha : xa_step w q = nI c) (ht : t + 1 < 16)
    (hc : 4 ≤ c ∧ c ≤ 11) (hz : (c = 7 ∨ c = 8) ∧ xa_operand w (t + 1) = 0)
    (hp : xl_val post (nI s) x y (nI b) f (nI (t + 1)) (nI (q + 1)) (xf_s w (nI s) 1 (upd (xa_operand w) t 0))) :
    xl_val post (nI s) x y (nI b) (f + 1) (nI (t + 1 + 1)) (nI q) w := by
  have ecl : (nI s).toNatClampNeg = s := nI_clamp (by omega)
  have ecq : (nI q).toNatClampNeg = q := nI_clamp (by omega)
  have ect : (nI t).toNatClampNeg = t := nI_clamp (by omega)
  have ect1 : (nI (t + 1)).toNatClampNeg = t + 1 := nI_clamp (by omega)
  have hiq : vp_in (nI q) 128 := vp_in_nI hq (by omega)
  have hit : vp_in (nI t) 16 := vp_in_nI (by omega) (by omega)
  have hit1 : vp_in (nI (t + 1)) 16 := vp_in_nI (by omega) (by omega)
  have n15 : ¬ nI c = 15 := fun h => absurd ((nI_eq (b := 15) (by omega) (by omega)).mp h) (by omega)
  have n14 : ¬ nI c = 14 := fun h => absurd ((nI_eq (b := 14) (by omega) (by omega)).mp h) (by omega)
  refine And.intro (vp_in_nI hs (by omega)) ?_
  rw [ecl]
  refine br_f hx (br_t h0 (And.intro hiq ?_))
  rw [ecq]
  refine nm_r ha (br_f n15 (br_t (nI_le (a := 4) hc.1 (by omega)) (br_f n14 (nm_r (pk_m1 _) ?_))))
  rw [nI_pred]
  refine And.intro hit (And.intro hit1 ?_)
  rw [ect, ect1]
  exact xw_both_no (u := w) hz.1 hz.2 (And.intro hit (nm_e (nm_r (nI_1 q) hp)))
end
end
section
/-! X: the loop over a stage's code, whole -/
theorem xo_oo (u : SX) (o o' : Nat → Int32) : xs_operand (xs_operand u o) o' = xs_operand u o' := rfl
theorem xo_of (u : SX) (o o' : Nat → Int32) (a b : Int32) : xf_s (xs_operand u o) a b o' = xf_s u a b o' := rfl
section
variable {u : SX} {s : Nat} {x y k : Int32} {cs : List (Nat × Int32)}
theorem xv_loop (hs : s < 8) (hcs : cd_ar (xa_step u) (xa_number u) (16 * s) cs) (hwf : cd_wf cs) (hl : cs.length ≤ 16)
    (hst : xa_steps u s = nI cs.length) (hk : xa_applications u s - 1 = k) (h0 : xa_stopped u = 0) :
    ∀ (d : Nat) (c2 c1 : List (Nat × Int32)) (l : List Int32) (o : Nat → Int32), c2.length = d → cs = c2 ++ c1 → cd_run x y k c1 = some l → sk_ar o l →
    (∀ l', cd_run x y k cs = some l' → ∃ p, sk_ar p l' ∧ ∀ post : Int32 → SX → Prop, post (p 0) (xs_operand u p) →
      xl_val post (nI s) x y (nI (16 * s)) (d + 2) (nI l.length) (nI (16 * s + c1.length)) (xs_operand u o)) ∧
    (cd_run x y k cs = none → ∃ r p, ∀ post : Int32 → SX → Prop, post r (xf_s u (nI s) 1 p) →
      xl_val post (nI s) x y (nI (16 * s)) (d + 2) (nI l.length) (nI (16 * s + c1.length)) (xs_operand u o)) := by
  intro d
  induction d with
  | zero =>
    intro c2 c1 l o h2 e hr ho
    have e2 : c2 = [] := List.eq_nil_of_length_eq_zero h2
    subst e2
    have e' : cs = c1 := e
    subst e'
    have hx : nI (16 * s) + xa_steps u s ≤ nI (16 * s + cs.length) := by
      rw [hst, nI_add]; exact nI_le (Nat.le_refl _) (by omega)
    constructor
    · intro l' hl'
      rw [hr] at hl'
      cases hl'
      exact ⟨o, ho, fun post hp => xv_exit hs hx hp⟩
    · intro hn
      rw [hr] at hn
      cases hn
  | succ d ih =>
    intro c2 c1 l o h2 e hr ho
    have hne : c2 ≠ [] := by
      intro h; subst h; cases h2
    obtain ⟨c3, ⟨c, n⟩, e3⟩ : ∃ c3 p, c2 = c3 ++ [p] := ⟨c2.dropLast, c2.getLast hne, (List.dropLast_concat_getLast hne).symm⟩
    subst e3
    have h3 : c3.length = d := by
      simp only [List.length_append, List.length_cons, List.length_nil] at h2; omega
    have e4 : cs = c3 ++ (c, n) :: c1 := by rw [e, List.append_assoc]; rfl
    have har := cd_ar_suf (c1 := (c, n) :: c1) c3 (by rw [← e4]; exact hcs)
    have hw := cd_wf_suf (c1 := (c, n) :: c1) c3 (by rw [← e4]; exact hwf)
    obtain ⟨ha1, ha2, ha3⟩ := har
    obtain ⟨hw0, hw1, hw2, hw3⟩ := hw
    have hlen : cs.length = d + 1 + c1.length := by
      rw [e4, List.length_append, List.length_cons, h3]; omega
    have hll : l.length = cd_dp c1 := cd_len x y k c1 l hw0 hr
    have hdl := cd_dple c1
    have hx : ¬ nI (16 * s) + xa_steps u s ≤ nI (16 * s + c1.length) := by
      rw [hst, nI_add]; exact nI_ge (by omega) (by omega)
    have hq : 16 * s + c1.length < 128 := by omega
    -- what a step gives, from the rest
    have wrap : ∀ (l1 : List Int32) (o1 : Nat → Int32), cd_run x y k ((c, n) :: c1) = some l1 → sk_ar o1 l1 →
        (∀ post : Int32 → SX → Prop, xl_val post (nI s) x y (nI (16 * s)) (d + 2) (nI l1.length) (nI (16 * s + c1.length + 1)) (xs_operand u o1) →
          xl_val post (nI s) x y (nI (16 * s)) (d + 2 + 1) (nI l.length) (nI (16 * s + c1.length)) (xs_operand u o)) →
        (∀ l', cd_run x y k cs = some l' → ∃ p, sk_ar p l' ∧ ∀ post : Int32 → SX → Prop, post (p 0) (xs_operand u p) →
          xl_val post (nI s) x y (nI (16 * s)) (d + 1 + 2) (nI l.length) (nI (16 * s + c1.length)) (xs_operand u o)) ∧
        (cd_run x y k cs = none → ∃ r p, ∀ post : Int32 → SX → Prop, post r (xf_s u (nI s) 1 p) →
          xl_val post (nI s) x y (nI (16 * s)) (d + 1 + 2) (nI l.length) (nI (16 * s + c1.length)) (xs_operand u o)) := by
      intro l1 o1 hr1 ho1 step
      obtain ⟨i1, i2⟩ := ih c3 ((c, n) :: c1) l1 o1 h3 e4 hr1 ho1
      refine ⟨fun l' hl' => ?_, fun hn => ?_⟩
      · obtain ⟨p, hp1, hp2⟩ := i1 l' hl'
        exact ⟨p, hp1, fun post h => step post (hp2 post h)⟩
      · obtain ⟨r, p, hp2⟩ := i2 hn
        exact ⟨r, p, fun post h => step post (hp2 post h)⟩
    have er : cd_run x y k ((c, n) :: c1) = cd_act c n x y k l := by
      show (match cd_run x y k c1 with | none => none | some l => cd_act c n x y k l) = _
      rw [hr]
    by_cases c15 : c = 15
    · subst c15
      refine wrap (n :: l) (upd o l.length n) er (sk_push ho) (fun post hp => ?_)
      have := xv_num (post := post) (w := xs_operand u o) (x := x) (y := y) (b := 16 * s) (t := l.length) (q := 16 * s + c1.length) (f := d + 2) hs hx h0 hq ha1 (by omega)
      refine this ?_
      rw [xo_oo, show xa_number (xs_operand u o) (16 * s + c1.length) = n from ha2]
      exact hp
    · by_cases c14 : c = 14
      · subst c14
        match l, hr, ho, hll, er, wrap with
        | [], hr, ho, hll, er, wrap => exact absurd (hw1 rfl) (by simp at hll; omega)
        | a :: l1, hr, ho, hll, er, wrap =>
        refine wrap (-a :: l1) (upd o l1.length (-a)) er (sk_push ho.2) (fun post hp => ?_)
        simp only [List.length_cons] at hll
        have := xv_neg (post := post) (w := xs_operand u o) (x := x) (y := y) (b := 16 * s) (t := l1.length) (q := 16 * s + c1.length) (f := d + 2) hs hx h0 hq ha1 (by omega)
        refine this ?_
        rw [xo_oo, show xa_operand (xs_operand u o) l1.length = a from ho.1]
        exact hp
      · by_cases c4 : c < 4
        · have hc' : c = 1 ∨ c = 2 ∨ c = 3 := by omega
          have er' : cd_run x y k ((c, n) :: c1) = some ((if c = 1 then x else if c = 2 then y else k) :: l) := by
            rw [er]
            unfold cd_act
            rw [if_neg c15, if_neg c14, if_pos c4]
          refine wrap _ (upd o l.length (if c = 1 then x else if c = 2 then y else k)) er' (sk_push ho) (fun post hp => ?_)
          have := xv_var (post := post) (w := xs_operand u o) (x := x) (y := y) (b := 16 * s) (t := l.length) (q := 16 * s + c1.length) (f := d + 2)
            (z := if c = 1 then x else if c = 2 then y else k) hs hx h0 hq ha1 (by omega) (by
              rcases hc' with rfl | rfl | rfl
              · exact Or.inl ⟨rfl, rfl⟩
              · exact Or.inr (Or.inl ⟨rfl, rfl⟩)
              · exact Or.inr (Or.inr ⟨rfl, hk.symm⟩))
          exact this hp
        · have hb : 4 ≤ c ∧ c ≤ 11 := by omega
          match l, hr, ho, hll, er, wrap with
          | [], hr, ho, hll, er, wrap => exact absurd (hw2 hb) (by simp at hll; omega)
          | [_], hr, ho, hll, er, wrap => exact absurd (hw2 hb) (by simp at hll; omega)
          | b :: a :: l1, hr, ho, hll, er, wrap =>
          simp only [List.length_cons] at hll
          have er2 : cd_act c n x y k (b :: a :: l1) = if (c = 7 ∨ c = 8) ∧ b = 0 then none else some (ev_join c a b :: l1) := by
            unfold cd_act
            rw [if_neg c15, if_neg c14, if_neg c4]
          by_cases z : (c = 7 ∨ c = 8) ∧ b = 0
          · have hr' : cd_run x y k ((c, n) :: c1) = none := by rw [er, er2, if_pos z]
            have hnone : cd_run x y k cs = none := by rw [e4]; exact cd_none hr' c3
            refine ⟨fun l' hl' => (by rw [hnone] at hl'; cases hl'), fun _ => ?_⟩
            refine ⟨(upd o l1.length 0) 0, upd o l1.length 0, fun post hp => ?_⟩
            have := xv_div (post := post) (w := xs_operand u o) (x := x) (y := y) (b := 16 * s) (t := l1.length) (q := 16 * s + c1.length) (f := d + 2) hs hx h0 hq ha1 (by omega) hb
              ⟨z.1, (show o (l1.length + 1) = b from ho.1).trans z.2⟩
            refine this ?_
            rw [xo_of]
            exact xv_exit2 hs (by show ¬ (1 : Int32) = 0; decide) hp
          · rw [if_neg z] at er2
            refine wrap _ (upd o l1.length (ev_join c a b)) (er.trans er2) (sk_push ho.2.2) (fun post hp => ?_)
            have hb' : xa_operand (xs_operand u o) (l1.length + 1) = b := ho.1
            have ha' : xa_operand (xs_operand u o) l1.length = a := ho.2.1
            have := xv_op (post := post) (w := xs_operand u o) (x := x) (y := y) (b := 16 * s) (t := l1.length) (q := 16 * s + c1.length) (f := d + 2) hs hx h0 hq ha1 (by omega) hb
              (by rw [hb']; exact z)
            refine this ?_
            rw [xo_oo, ha', hb']
            exact hp
end
end
section
/-! Y: the value of an expression from its tokens -/
def yo_c (t : Nat) : Int32 := if t = 14 then 20 else nI t
def on_ar (f : Nat → Int32) (a : Nat → Int32) : List Nat → Prop
  | [] => True
  | t :: l => a l.length = f t ∧ on_ar f a l
theorem on_upd {f a : Nat → Int32} {k : Nat} {v : Int32} : ∀ l : List Nat, on_ar f a l → l.length ≤ k → on_ar f (upd a k v) l
  | [], _, _ => trivial
  | w :: l, h, hk => by
    simp only [List.length_cons] at hk
    exact ⟨(pk_un (by omega)).trans h.1, on_upd l h.2 (by omega)⟩
theorem on_push {f a : Nat → Int32} {l : List Nat} {t : Nat} (h : on_ar f a l) : on_ar f (upd a l.length (f t)) (t :: l) := ⟨pk_us, on_upd l h (Nat.le_refl _)⟩
def yb_i (b : Bool) : Int32 := if b = true then 1 else 0
theorem yo_ne {t c : Nat} (h : (4 ≤ t ∧ t ≤ 11) ∨ t = 12) (hc : c < 1000) (hn : t ≠ c) (h20 : c ≠ 20) : ¬ yo_c t = nI c := by
  unfold yo_c
  rw [if_neg (by omega)]
  exact fun e => hn ((nI_eq (by omega) (by omega)).mp e)
theorem yw_level {post : Int32 → Prop} {t : Nat} (h : (4 ≤ t ∧ t ≤ 11) ∨ t = 12 ∨ t = 14) (hp : post (nI (sy_str t))) : wpY_level post (yo_c t) := by
  have h' : t = 4 ∨ t = 5 ∨ t = 6 ∨ t = 7 ∨ t = 8 ∨ t = 9 ∨ t = 10 ∨ t = 11 ∨ t = 12 ∨ t = 14 := by omega
  unfold wpY_level
  rcases h' with rfl | rfl | rfl | rfl | rfl | rfl | rfl | rfl | rfl | rfl
  · exact br_f (by decide) (br_f (by decide) (br_t (by decide) (br_f (by decide) (br_f (by decide) hp))))
  · exact br_f (by decide) (br_f (by decide) (br_t (by decide) (br_f (by decide) (br_f (by decide) hp))))
  · exact br_f (by decide) (br_f (by decide) (br_f (by decide) (br_f (by decide) hp)))
  · exact br_f (by decide) (br_f (by decide) (br_f (by decide) (br_f (by decide) hp)))
  · exact br_f (by decide) (br_f (by decide) (br_f (by decide) (br_f (by decide) hp)))
  · exact br_f (by decide) (br_f (by decide) (br_f (by decide) (br_t (by decide) (br_t (by decide) hp))))
  · exact br_f (by decide) (br_f (by decide) (br_f (by decide) (br_t (by decide) (br_f (by decide) (br_t (by decide) hp)))))
  · exact br_f (by decide) (br_f (by decide) (br_f (by decide) (br_t (by decide) (br_f (by decide) (br_f (by decide) hp)))))
  · exact br_f (by decide) (br_t (by decide) hp)
  · exact br_t (by decide) hp
/-- the joined value is stored -/
theorem yw_w94 {post : SY → Prop} {v : SY} {t : Nat} {a b : Int32} {j : Nat} (ht : 4 ≤ t ∧ t ≤ 11) (hz : t = 7 ∨ t = 8 → ¬ b = 0)
    (e : ya_valTop v - 1 = nI j) (hj : j < 20) (hp : post (ys_vals v (upd (ya_vals v) j (ev_join t a b)))) :
    wY_work_94 post (nI t) b a (ya_limit v) (ya_source v) (ya_stages v) (ya_wrongAt v) (ya_paid v) (ya_at v) (ya_seenCount v) (ya_failedAt v) (ya_v v) (ya_valTop v) (ya_opTop v) (ya_ran v) (ya_broken v) (ya_outcome v) (ya_lists v) (ya_sizes v) (ya_tokens v) (ya_counts v) (ya_kinds v) (ya_numbers v) (ya_left v) (ya_last v) (ya_place v) (ya_begun v) (ya_held v) (ya_keys v) (ya_holds v) (ya_applied v) (ya_reads v) (ya_seen v) (ya_vals v) (ya_ops v) := by
  have h : t = 4 ∨ t = 5 ∨ t = 6 ∨ t = 7 ∨ t = 8 ∨ t = 9 ∨ t = 10 ∨ t = 11 := by omega
  have hi : vp_in (ya_valTop v - 1) 20 := by rw [e]; exact vp_in_nI hj (by omega)
  have ej : j = (ya_valTop v - 1).toNatClampNeg := by rw [e, nI_clamp (by omega)]
  subst ej
  unfold wY_work_94
  rcases h with rfl | rfl | rfl | rfl | rfl | rfl | rfl | rfl
  · exact br_t (by decide) ⟨hi, nm_e hp⟩
  · exact br_f (by decide) (br_t (by decide) ⟨hi, nm_e hp⟩)
  · exact br_f (by decide) (br_f (by decide) (br_t (by decide) ⟨hi, nm_e hp⟩))
  · exact br_f (by decide) (br_f (by decide) (br_f (by decide) (br_t (by decide) ⟨hz (Or.inl rfl), hi, nm_e hp⟩)))
  · exact br_f (by decide) (br_f (by decide) (br_f (by decide) (br_f (by decide) (br_t (by decide) ⟨hz (Or.inr rfl), hi, nm_e hp⟩))))
  · refine br_f (by decide) (br_f (by decide) (br_f (by decide) (br_f (by decide) (br_f (by decide) (br_t (by decide) ?_)))))
    have e9 : ev_join 9 a b = if b ≤ a then 0 else 1 := rfl
    rw [e9] at hp
    refine br_c (fun h => ⟨hi, nm_e ?_⟩) (fun h => ⟨hi, nm_e ?_⟩)
    · rw [if_pos h] at hp; exact hp
    · rw [if_neg h] at hp; exact hp
  · refine br_f (by decide) (br_f (by decide) (br_f (by decide) (br_f (by decide) (br_f (by decide) (br_f (by decide) (br_t (by decide) ?_))))))
    have e9 : ev_join 10 a b = if a = b then 1 else 0 := rfl
    rw [e9] at hp
    refine br_c (fun h => ⟨hi, nm_e ?_⟩) (fun h => ⟨hi, nm_e ?_⟩)
    · rw [if_pos h] at hp; exact hp
    · rw [if_neg h] at hp; exact hp
  · exact br_f (by decide) (br_f (by decide) (br_f (by decide) (br_f (by decide) (br_f (by decide) (br_f (by decide) (br_f (by decide) ⟨hi, nm_e hp⟩))))))
/-- one operator is worked out -/
theorem yw_work {v : SY} {x y k : Int32} {t : Nat} {ops : List Nat} {vl : List Int32} {b : Bool} {va oa : Nat → Int32}
    (ht : (4 ≤ t ∧ t ≤ 11) ∨ t = 14) (h1 : t = 14 → 1 ≤ vl.length) (h2 : 4 ≤ t ∧ t ≤ 11 → 2 ≤ vl.length) (hl : vl.length ≤ 16) (hl2 : ops.length ≤ 16)
    (ho : on_ar yo_c oa (t :: ops)) (hv : sk_ar va vl) :
    ∃ va', sk_ar va' (ev_act t x y k (vl, b)).1 ∧ ∀ post : SY → Prop,
      post (yz_s v (nI (ev_act t x y k (vl, b)).1.length) (nI ops.length) (yb_i (ev_act t x y k (vl, b)).2) va' oa) →
      wpY_work post (yz_s v (nI vl.length) (nI (t :: ops).length) (yb_i b) va oa) := by
  have eo : nI (t :: ops).length - 1 = nI ops.length := nI_pred _
  have hio : vp_in (nI (t :: ops).length - 1) 20 := by rw [eo]; exact vp_in_nI (by omega) (by omega)
  have clo : (nI (t :: ops).length - 1).toNatClampNeg = ops.length := by rw [eo]; exact nI_clamp (by omega)
  have hop : oa (nI (t :: ops).length - 1).toNatClampNeg = yo_c t := by rw [clo]; exact ho.1
  by_cases c14 : t = 14
  · subst c14
    match vl, h1 rfl, hl, hv with
    | a :: l, _, hl, hv =>
    have ev : nI (a :: l).length - 1 = nI l.length := nI_pred _
    simp only [List.length_cons] at hl
    have hiv : vp_in (nI (a :: l).length - 1) 20 := by rw [ev]; exact vp_in_nI (by omega) (by omega)
    have clv : (nI (a :: l).length - 1).toNatClampNeg = l.length := by rw [ev]; exact nI_clamp (by omega)
    have e : ev_act 14 x y k (a :: l, b) = (-a :: l, b) := rfl
    rw [e]
    refine ⟨upd va l.length (-a), sk_push hv.2, fun post hp => ?_⟩
    refine nm_e (And.intro hio (nm_r hop (nm_e (And.intro hiv (nm_r (e' := a) ?_ (br_t rfl (nm_r (e' := nI (-a :: l).length) ?_ ⟨hiv, ?_⟩)))))))
    · show va (nI (a :: l).length - 1).toNatClampNeg = a
      rw [clv]; exact hv.1
    · show nI (a :: l).length - 1 + 1 = nI (-a :: l).length
      rw [ev, nI_1]; rfl
    · rw [clv, eo]
      exact nm_e hp
  · have hb : 4 ≤ t ∧ t ≤ 11 := by omega
    match vl, h2 hb, hl, hv with
    | b0 :: a :: l, _, hl, hv =>
    have ev : nI (b0 :: a :: l).length - 1 = nI (a :: l).length := nI_pred _
    have ev2 : nI (a :: l).length - 1 = nI l.length := nI_pred _
    simp only [List.length_cons] at hl
    have hiv : vp_in (nI (b0 :: a :: l).length - 1) 20 := by rw [ev]; exact vp_in_nI (by simp only [List.length_cons]; omega) (by omega)
    have hiv2 : vp_in (nI (b0 :: a :: l).length - 1 - 1) 20 := by rw [ev, ev2]; exact vp_in_nI (by omega) (by omega)
    have clv : (nI (b0 :: a :: l).length - 1).toNatClampNeg = (a :: l).length := by rw [ev]; exact nI_clamp (by simp only [List.length_cons]; omega)
    have clv2 : (nI (b0 :: a :: l).length - 1 - 1).toNatClampNeg = l.length := by rw [ev, ev2]; exact nI_clamp (by omega)
    have vb : va (nI (b0 :: a :: l).length - 1).toNatClampNeg = b0 := by rw [clv]; exact hv.1
    have va2 : va (nI (b0 :: a :: l).length - 1 - 1).toNatClampNeg = a := by rw [clv2]; exact hv.2.1
    have yo : yo_c t = nI t := if_neg c14
    have n20 : ¬ nI t = 20 := fun h => absurd ((nI_eq (b := 20) (by omega) (by omega)).mp h) (by omega)
    have e : ev_act t x y k (b0 :: a :: l, b) = if (t = 7 ∨ t = 8) ∧ b0 = 0 then (ev_join t a 1 :: l, true) else (ev_join t a b0 :: l, b) := by
      unfold ev_act; rw [if_neg c14, if_pos hb]
    rw [e]
    by_cases z : (t = 7 ∨ t = 8) ∧ b0 = 0
    · rw [if_pos z]
      refine ⟨upd va l.length (ev_join t a 1), sk_push hv.2.2, fun post hp => ?_⟩
      have w83 : wY_work_83 post (nI t) b0 a (ya_limit (yz_s v (nI (a :: l).length) (nI ops.length) (yb_i b) va oa)) (ya_source (yz_s v (nI (a :: l).length) (nI ops.length) (yb_i b) va oa)) (ya_stages (yz_s v (nI (a :: l).length) (nI ops.length) (yb_i b) va oa)) (ya_wrongAt (yz_s v (nI (a :: l).length) (nI ops.length) (yb_i b) va oa)) (ya_paid (yz_s v (nI (a :: l).length) (nI ops.length) (yb_i b) va oa)) (ya_at (yz_s v (nI (a :: l).length) (nI ops.length) (yb_i b) va oa)) (ya_seenCount (yz_s v (nI (a :: l).length) (nI ops.length) (yb_i b) va oa)) (ya_failedAt (yz_s v (nI (a :: l).length) (nI ops.length) (yb_i b) va oa)) (ya_v (yz_s v (nI (a :: l).length) (nI ops.length) (yb_i b) va oa)) (ya_valTop (yz_s v (nI (a :: l).length) (nI ops.length) (yb_i b) va oa)) (ya_opTop (yz_s v (nI (a :: l).length) (nI ops.length) (yb_i b) va oa)) (ya_ran (yz_s v (nI (a :: l).length) (nI ops.length) (yb_i b) va oa)) (ya_broken (yz_s v (nI (a :: l).length) (nI ops.length) (yb_i b) va oa)) (ya_outcome (yz_s v (nI (a :: l).length) (nI ops.length) (yb_i b) va oa)) (ya_lists (yz_s v (nI (a :: l).length) (nI ops.length) (yb_i b) va oa)) (ya_sizes (yz_s v (nI (a :: l).length) (nI ops.length) (yb_i b) va oa)) (ya_tokens (yz_s v (nI (a :: l).length) (nI ops.length) (yb_i b) va oa)) (ya_counts (yz_s v (nI (a :: l).length) (nI ops.length) (yb_i b) va oa)) (ya_kinds (yz_s v (nI (a :: l).length) (nI ops.length) (yb_i b) va oa)) (ya_numbers (yz_s v (nI (a :: l).length) (nI ops.length) (yb_i b) va oa)) (ya_left (yz_s v (nI (a :: l).length) (nI ops.length) (yb_i b) va oa)) (ya_last (yz_s v (nI (a :: l).length) (nI ops.length) (yb_i b) va oa)) (ya_place (yz_s v (nI (a :: l).length) (nI ops.length) (yb_i b) va oa)) (ya_begun (yz_s v (nI (a :: l).length) (nI ops.length) (yb_i b) va oa)) (ya_held (yz_s v (nI (a :: l).length) (nI ops.length) (yb_i b) va oa)) (ya_keys (yz_s v (nI (a :: l).length) (nI ops.length) (yb_i b) va oa)) (ya_holds (yz_s v (nI (a :: l).length) (nI ops.length) (yb_i b) va oa)) (ya_applied (yz_s v (nI (a :: l).length) (nI ops.length) (yb_i b) va oa)) (ya_reads (yz_s v (nI (a :: l).length) (nI ops.length) (yb_i b) va oa)) (ya_seen (yz_s v (nI (a :: l).length) (nI ops.length) (yb_i b) va oa)) (ya_vals (yz_s v (nI (a :: l).length) (nI ops.length) (yb_i b) va oa)) (ya_ops (yz_s v (nI (a :: l).length) (nI ops.length) (yb_i b) va oa)) :=
        br_t z.2 (yw_w94 (v := yz_s v (nI (a :: l).length) (nI ops.length) 1 va oa) (j := l.length) hb (fun _ => by decide) ev2 (by omega) hp)
      refine nm_r (e' := nI ops.length) eo (And.intro hio (nm_r (e' := nI t) (hop.trans yo) (nm_r (e' := nI (a :: l).length) ev (And.intro hiv (nm_r (e' := b0) vb (br_f n20 ⟨?_, nm_r (e' := a) ?_ ?_⟩))))))
      · rw [ev2]; exact vp_in_nI (by omega) (by omega)
      · rw [ev2, nI_clamp (by omega)]; exact hv.2.1
      · rcases z.1 with rfl | rfl
        · exact br_t rfl w83
        · exact br_f (by decide) (br_t rfl w83)
    · rw [if_neg z]
      refine ⟨upd va l.length (ev_join t a b0), sk_push hv.2.2, fun post hp => ?_⟩
      have w94 : wY_work_94 post (nI t) b0 a (ya_limit (yz_s v (nI (a :: l).length) (nI ops.length) (yb_i b) va oa)) (ya_source (yz_s v (nI (a :: l).length) (nI ops.length) (yb_i b) va oa)) (ya_stages (yz_s v (nI (a :: l).length) (nI ops.length) (yb_i b) va oa)) (ya_wrongAt (yz_s v (nI (a :: l).length) (nI ops.length) (yb_i b) va oa)) (ya_paid (yz_s v (nI (a :: l).length) (nI ops.length) (yb_i b) va oa)) (ya_at (yz_s v (nI (a :: l).length) (nI ops.length) (yb_i b) va oa)) (ya_seenCount (yz_s v (nI (a :: l).length) (nI ops.length) (yb_i b) va oa)) (ya_failedAt (yz_s v (nI (a :: l).length) (nI ops.length) (yb_i b) va oa)) (ya_v (yz_s v (nI (a :: l).length) (nI ops.length) (yb_i b) va oa)) (ya_valTop (yz_s v (nI (a :: l).length) (nI ops.length) (yb_i b) va oa)) (ya_opTop (yz_s v (nI (a :: l).length) (nI ops.length) (yb_i b) va oa)) (ya_ran (yz_s v (nI (a :: l).length) (nI ops.length) (yb_i b) va oa)) (ya_broken (yz_s v (nI (a :: l).length) (nI ops.length) (yb_i b) va oa)) (ya_outcome (yz_s v (nI (a :: l).length) (nI ops.length) (yb_i b) va oa)) (ya_lists (yz_s v (nI (a :: l).length) (nI ops.length) (yb_i b) va oa)) (ya_sizes (yz_s v (nI (a :: l).length) (nI ops.length) (yb_i b) va oa)) (ya_tokens (yz_s v (nI (a :: l).length) (nI ops.length) (yb_i b) va oa)) (ya_counts (yz_s v (nI (a :: l).length) (nI ops.length) (yb_i b) va oa)) (ya_kinds (yz_s v (nI (a :: l).length) (nI ops.length) (yb_i b) va oa)) (ya_numbers (yz_s v (nI (a :: l).length) (nI ops.length) (yb_i b) va oa)) (ya_left (yz_s v (nI (a :: l).length) (nI ops.length) (yb_i b) va oa)) (ya_last (yz_s v (nI (a :: l).length) (nI ops.length) (yb_i b) va oa)) (ya_place (yz_s v (nI (a :: l).length) (nI ops.length) (yb_i b) va oa)) (ya_begun (yz_s v (nI (a :: l).length) (nI ops.length) (yb_i b) va oa)) (ya_held (yz_s v (nI (a :: l).length) (nI ops.length) (yb_i b) va oa)) (ya_keys (yz_s v (nI (a :: l).length) (nI ops.length) (yb_i b) va oa)) (ya_holds (yz_s v (nI (a :: l).length) (nI ops.length) (yb_i b) va oa)) (ya_applied (yz_s v (nI (a :: l).length) (nI ops.length) (yb_i b) va oa)) (ya_reads (yz_s v (nI (a :: l).length) (nI ops.length) (yb_i b) va oa)) (ya_seen (yz_s v (nI (a :: l).length) (nI ops.length) (yb_i b) va oa)) (ya_vals (yz_s v (nI (a :: l).length) (nI ops.length) (yb_i b) va oa)) (ya_ops (yz_s v (nI (a :: l).length) (nI ops.length) (yb_i b) va oa)) :=
        yw_w94 (v := yz_s v (nI (a :: l).length) (nI ops.length) (yb_i b) va oa) (j := l.length) hb (fun h h' => z ⟨h, h'⟩) ev2 (by omega) hp
      refine nm_r (e' := nI ops.length) eo (And.intro hio (nm_r (e' := nI t) (hop.trans yo) (nm_r (e' := nI (a :: l).length) ev (And.intro hiv (nm_r (e' := b0) vb (br_f n20 ⟨?_, nm_r (e' := a) ?_ ?_⟩))))))
      · rw [ev2]; exact vp_in_nI (by omega) (by omega)
      · rw [ev2, nI_clamp (by omega)]; exact hv.2.1
      · by_cases c7 : t = 7
        · subst c7
          exact br_t rfl (br_f (fun h => z ⟨Or.inl rfl, h⟩) w94)
        · by_cases c8 : t = 8
          · subst c8
            exact br_f (by decide) (br_t rfl (br_f (fun h => z ⟨Or.inr rfl, h⟩) w94))
          · exact br_f (fun h => c7 ((nI_eq (b := 7) (by omega) (by omega)).mp h)) (br_f (fun h => c8 ((nI_eq (b := 8) (by omega) (by omega)).mp h)) w94)
end
section
/-! Y: the loops that work operators out -/
noncomputable def yE_s (v : SY) (x y k : Int32) (ops out : List Nat) (va oa : Nat → Int32) : SY :=
  yz_s v (nI (ev_ex x y k out).1.length) (nI ops.length) (yb_i (ev_ex x y k out).2) va oa
theorem sy_rel_pos {l t : Nat} {ops out : List Nat} (c : l ≤ sy_str t) : sy_rel l (t :: ops) out = sy_rel l ops (t :: out) := by
  show (if l ≤ sy_str t then sy_rel l ops (t :: out) else (t :: ops, out)) = _
  rw [if_pos c]
theorem sy_rel_neg {l t : Nat} {ops out : List Nat} (c : ¬ l ≤ sy_str t) : sy_rel l (t :: ops) out = (t :: ops, out) := by
  show (if l ≤ sy_str t then sy_rel l ops (t :: out) else (t :: ops, out)) = _
  rw [if_neg c]
/-- the balance behind one operator more -/
theorem sy_bal {t : Nat} {ops out : List Nat} (h1 : sy_opsOK (t :: ops)) (h2 : sy_wf out) (h3 : sy_dp out = sy_nb (t :: ops) + 1) (hn : t ≠ 12) :
    ((4 ≤ t ∧ t ≤ 11) ∨ t = 14) ∧ sy_opsOK ops ∧ sy_wf (t :: out) ∧ sy_dp (t :: out) = sy_nb ops + 1 ∧ (t = 14 → 1 ≤ sy_dp out) ∧ (4 ≤ t ∧ t ≤ 11 → 2 ≤ sy_dp out) := by
  have ht : (4 ≤ t ∧ t ≤ 11) ∨ t = 14 := by
    rcases h1 t (List.mem_cons_self ..) with h | h | h
    · exact Or.inl h
    · exact absurd h hn
    · exact Or.inr h
  have h1' : sy_opsOK ops := fun t' h' => h1 t' (List.mem_cons_of_mem _ h')
  rcases ht with ht | ht
  · have e1 : sy_nb (t :: ops) = sy_nb ops + 1 := by
      show (if 4 ≤ t ∧ t ≤ 11 then sy_nb ops + 1 else sy_nb ops) = _
      rw [if_pos ht]
    have e2 : sy_dp (t :: out) = sy_dp out - 1 := by
      show (if t = 14 then sy_dp out else if 4 ≤ t ∧ t ≤ 11 then sy_dp out - 1 else sy_dp out + 1) = _
      rw [if_neg (by omega), if_pos ht]
    exact ⟨Or.inl ht, h1', ⟨h2, by omega, by omega, by omega⟩, by omega, by omega, by omega⟩
  · have e1 : sy_nb (t :: ops) = sy_nb ops := by
      show (if 4 ≤ t ∧ t ≤ 11 then sy_nb ops + 1 else sy_nb ops) = _
      rw [if_neg (by omega)]
    have e2 : sy_dp (t :: out) = sy_dp out := by
      show (if t = 14 then sy_dp out else if 4 ≤ t ∧ t ≤ 11 then sy_dp out - 1 else sy_dp out + 1) = _
      rw [if_pos ht]
    exact ⟨Or.inr ht, h1', ⟨h2, by omega, by omega, by omega⟩, by omega, by omega, by omega⟩
theorem sy_dple : ∀ o, sy_dp o ≤ o.length := by
  intro o
  induction o with
  | nil => exact Nat.le_refl 0
  | cons t o ih =>
    show (if t = 14 then sy_dp o else if 4 ≤ t ∧ t ≤ 11 then sy_dp o - 1 else sy_dp o + 1) ≤ o.length + 1
    split
    · omega
    · split <;> omega
theorem yE_work {v : SY} {x y k : Int32} {t : Nat} {ops out : List Nat} {va oa : Nat → Int32} (h1 : sy_opsOK (t :: ops)) (h2 : sy_wf out)
    (h3 : sy_dp out = sy_nb (t :: ops) + 1) (hn : t ≠ 12) (hl : (t :: ops).length + out.length ≤ 16) (ho : on_ar yo_c oa (t :: ops)) (hv : sk_ar va (ev_ex x y k out).1) :
    ∃ va', sk_ar va' (ev_ex x y k (t :: out)).1 ∧ ∀ post : SY → Prop, post (yE_s v x y k ops (t :: out) va' oa) → wpY_work post (yE_s v x y k (t :: ops) out va oa) := by
  obtain ⟨b1, b2, b3, b4, b5, b6⟩ := sy_bal h1 h2 h3 hn
  have hlen := ev_len x y k out h2
  have hd := sy_dple out
  simp only [List.length_cons] at hl
  exact yw_work (b := (ev_ex x y k out).2) b1 (fun h => by rw [hlen]; exact b5 h) (fun h => by rw [hlen]; exact b6 h) (by omega) (by omega) ho hv
theorem sy_str_lt' (t : Nat) : sy_str t < 5 := by
  unfold sy_str; split; omega; split; omega; split; omega; split <;> omega
abbrev yJ_t : Type := Int32 → Int32 → Int32 → Int32 → Int32 → Int32 → Int32 → Int32 → Int32 → Int32 → Int32 → Int32 → Int32 → Int32 → Int32 → Int64 → (Nat → Int32) → (Nat → Int32) → (Nat → Int32) → (Nat → Int32) → (Nat → Int32) → (Nat → Int32) → (Nat → Int32) → (Nat → Int32) → (Nat → Int32) → (Nat → Int32) → (Nat → Int32) → (Nat → Int32) → (Nat → Int32) → (Nat → Int32) → (Nat → Int32) → (Nat → Int32) → (Nat → Int32) → (Nat → Int32) → Prop
def yl_253 (post : Int32 → SY → Prop) (J : yJ_t) (x1 x2 x3 x4 x6 x7 : Int32) (w : SY) : Prop := wY_value_253 post J x1 x2 x3 x4 x6 x7 (ya_limit w) (ya_source w) (ya_stages w) (ya_wrongAt w) (ya_paid w) (ya_at w) (ya_seenCount w) (ya_failedAt w) (ya_v w) (ya_valTop w) (ya_opTop w) (ya_ran w) (ya_broken w) (ya_outcome w) (ya_lists w) (ya_sizes w) (ya_tokens w) (ya_counts w) (ya_kinds w) (ya_numbers w) (ya_left w) (ya_last w) (ya_place w) (ya_begun w) (ya_held w) (ya_keys w) (ya_holds w) (ya_applied w) (ya_reads w) (ya_seen w) (ya_vals w) (ya_ops w)
def yl_217 (post : Int32 → SY → Prop) (J : yJ_t) (x1 x2 x3 x4 x6 x7 : Int32) (n : Nat) (w : SY) : Prop := wY_value_217 post J x1 x2 x3 x4 x6 x7 n (ya_limit w) (ya_source w) (ya_stages w) (ya_wrongAt w) (ya_paid w) (ya_at w) (ya_seenCount w) (ya_failedAt w) (ya_v w) (ya_valTop w) (ya_opTop w) (ya_ran w) (ya_broken w) (ya_outcome w) (ya_lists w) (ya_sizes w) (ya_tokens w) (ya_counts w) (ya_kinds w) (ya_numbers w) (ya_left w) (ya_last w) (ya_place w) (ya_begun w) (ya_held w) (ya_keys w) (ya_holds w) (ya_applied w) (ya_reads w) (ya_seen w) (ya_vals w) (ya_ops w)
def yl_181 (post : Int32 → SY → Prop) (J : yJ_t) (x1 x2 x3 x4 x5 x6 : Int32) (n : Nat) (w : SY) : Prop := wY_value_181 post J x1 x2 x3 x4 x5 x6 n (ya_limit w) (ya_source w) (ya_stages w) (ya_wrongAt w) (ya_paid w) (ya_at w) (ya_seenCount w) (ya_failedAt w) (ya_v w) (ya_valTop w) (ya_opTop w) (ya_ran w) (ya_broken w) (ya_outcome w) (ya_lists w) (ya_sizes w) (ya_tokens w) (ya_counts w) (ya_kinds w) (ya_numbers w) (ya_left w) (ya_last w) (ya_place w) (ya_begun w) (ya_held w) (ya_keys w) (ya_holds w) (ya_applied w) (ya_reads w) (ya_seen w) (ya_vals w) (ya_ops w)
def yl_280 (post : Int32 → SY → Prop) (n : Nat) (w : SY) : Prop := wY_value_280 post n (ya_limit w) (ya_source w) (ya_stages w) (ya_wrongAt w) (ya_paid w) (ya_at w) (ya_seenCount w) (ya_failedAt w) (ya_v w) (ya_valTop w) (ya_opTop w) (ya_ran w) (ya_broken w) (ya_outcome w) (ya_lists w) (ya_sizes w) (ya_tokens w) (ya_counts w) (ya_kinds w) (ya_numbers w) (ya_left w) (ya_last w) (ya_place w) (ya_begun w) (ya_held w) (ya_keys w) (ya_holds w) (ya_applied w) (ya_reads w) (ya_seen w) (ya_vals w) (ya_ops w)
def yl_J (J : yJ_t) (x5 x6 : Int32) (w : SY) : Prop := J x5 x6 (ya_limit w) (ya_source w) (ya_stages w) (ya_wrongAt w) (ya_paid w) (ya_at w) (ya_seenCount w) (ya_failedAt w) (ya_v w) (ya_valTop w) (ya_opTop w) (ya_ran w) (ya_broken w) (ya_outcome w) (ya_lists w) (ya_sizes w) (ya_tokens w) (ya_counts w) (ya_kinds w) (ya_numbers w) (ya_left w) (ya_last w) (ya_place w) (ya_begun w) (ya_held w) (ya_keys w) (ya_holds w) (ya_applied w) (ya_reads w) (ya_seen w) (ya_vals w) (ya_ops w)
section
variable {post : Int32 → SY → Prop} {J : yJ_t} {x1 x2 x3 x4 x5 x6 : Int32} {w : SY} {m t t0 f : Nat}
theorem y2_stop (h : ya_opTop w = 0) (hp : yl_253 post J x1 x2 x3 x4 x6 (nI t) w) : yl_217 post J x1 x2 x3 x4 x6 (nI t) (f + 1) w :=
  br_t (by rw [h]; decide) hp
theorem y2_pre (hm : ya_opTop w = nI (m + 1)) (hl : m < 20) (ho : ya_ops w m = yo_c t0) : ya_ops w (ya_opTop w - 1).toNatClampNeg = yo_c t0 ∧ vp_in (ya_opTop w - 1) 20 ∧ ¬ ya_opTop w ≤ 0 := by
  rw [hm, nI_pred, nI_clamp (by omega)]
  exact ⟨ho, vp_in_nI hl (by omega), nI_nle (by omega) (by omega)⟩
theorem y2_go (hm : ya_opTop w = nI (m + 1)) (hl : m < 20) (ho : ya_ops w m = yo_c t0) (h0 : (4 ≤ t0 ∧ t0 ≤ 11) ∨ t0 = 12 ∨ t0 = 14) (ht : 4 ≤ t ∧ t ≤ 11)
    (c : sy_str t ≤ sy_str t0) (hw : wpY_work (fun w' => yl_217 post J x1 x2 x3 x4 x6 (nI t) f w') w) : yl_217 post J x1 x2 x3 x4 x6 (nI t) (f + 1) w := by
  obtain ⟨p1, p2, p3⟩ := y2_pre hm hl ho
  have hs := sy_str_lt' t0
  have yo : yo_c t = nI t := if_neg (by omega)
  refine br_f p3 (And.intro p2 ?_)
  rw [p1]
  refine yw_level h0 ?_
  have hl2 : wpY_level (fun r_50 => (nI (sy_str t0) < r_50 → yl_253 post J x1 x2 x3 x4 x6 (nI t) w) ∧ (¬ nI (sy_str t0) < r_50 → wpY_work (fun w' => yl_217 post J x1 x2 x3 x4 x6 (nI t) f w') w)) (yo_c t) :=
    yw_level (Or.inl ht) (br_f (nI_nlt c (by omega)) hw)
  rw [yo] at hl2
  exact hl2
theorem y2_low (hm : ya_opTop w = nI (m + 1)) (hl : m < 20) (ho : ya_ops w m = yo_c t0) (h0 : (4 ≤ t0 ∧ t0 ≤ 11) ∨ t0 = 12 ∨ t0 = 14) (ht : 4 ≤ t ∧ t ≤ 11)
    (c : ¬ sy_str t ≤ sy_str t0) (hp : yl_253 post J x1 x2 x3 x4 x6 (nI t) w) : yl_217 post J x1 x2 x3 x4 x6 (nI t) (f + 1) w := by
  obtain ⟨p1, p2, p3⟩ := y2_pre hm hl ho
  have hs := sy_str_lt' t
  have yo : yo_c t = nI t := if_neg (by omega)
  refine br_f p3 (And.intro p2 ?_)
  rw [p1]
  refine yw_level h0 ?_
  have hl2 : wpY_level (fun r_50 => (nI (sy_str t0) < r_50 → yl_253 post J x1 x2 x3 x4 x6 (nI t) w) ∧ (¬ nI (sy_str t0) < r_50 → wpY_work (fun w' => yl_217 post J x1 x2 x3 x4 x6 (nI t) f w') w)) (yo_c t) :=
    yw_level (Or.inl ht) (br_t (nI_lt (by omega) (by omega)) hp)
  rw [yo] at hl2
  exact hl2
theorem y2_cl (hm : ya_opTop w = nI (m + 1)) (hl : m < 20) (ho : ya_ops w m = nI 12) (hp : yl_J J x5 (x6 + 1) (ys_opTop w (nI m))) :
    yl_181 post J x1 x2 x3 x4 x5 x6 (f + 1) w := by
  have p1 : ya_opTop w - 1 = nI m := by rw [hm, nI_pred]
  have p2 : vp_in (ya_opTop w - 1) 20 := by rw [p1]; exact vp_in_nI hl (by omega)
  have p3 : ya_ops w (ya_opTop w - 1).toNatClampNeg = 12 := by rw [p1, nI_clamp (by omega)]; exact ho
  exact And.intro p2 (br_t p3 (nm_r p1 (nm_e hp)))
theorem y2_cg (hm : ya_opTop w = nI (m + 1)) (hl : m < 20) (ho : ya_ops w m = yo_c t0) (h0 : (4 ≤ t0 ∧ t0 ≤ 11) ∨ t0 = 14)
    (hw : wpY_work (fun w' => yl_181 post J x1 x2 x3 x4 x5 x6 f w') w) : yl_181 post J x1 x2 x3 x4 x5 x6 (f + 1) w := by
  obtain ⟨p1, p2, p3⟩ := y2_pre hm hl ho
  refine And.intro p2 (br_f ?_ hw)
  rw [p1]
  rcases h0 with h | h
  · exact yo_ne (c := 12) (Or.inl h) (by omega) (by omega) (by omega)
  · subst h; decide
theorem y2_end (h : ya_opTop w = 0) (hp : post (ya_vals w 0) w) : yl_280 post (f + 1) w := br_t (by rw [h]; decide) hp
theorem y2_eg (hm : ya_opTop w = nI (m + 1)) (hl : m < 20) (hw : wpY_work (fun w' => yl_280 post f w') w) : yl_280 post (f + 1) w :=
  br_f (by rw [hm]; exact nI_nle (by omega) (by omega)) hw
end
section
variable {v : SY} {x y k : Int32} {oa : Nat → Int32}
theorem yv_217 {t : Nat} (ht : 4 ≤ t ∧ t ≤ 11) : ∀ (ops out : List Nat) (va : Nat → Int32), on_ar yo_c oa ops → sy_opsOK ops → sy_wf out →
    sy_dp out = sy_nb ops + 1 → ops.length + out.length ≤ 16 → sk_ar va (ev_ex x y k out).1 →
    ∃ va', sk_ar va' (ev_ex x y k (sy_rel (sy_str t) ops out).2).1 ∧ on_ar yo_c oa (sy_rel (sy_str t) ops out).1 ∧
      ∀ (post : Int32 → SY → Prop) (J : yJ_t) (x1 x2 x3 x4 x6 : Int32),
        yl_253 post J x1 x2 x3 x4 x6 (nI t) (yE_s v x y k (sy_rel (sy_str t) ops out).1 (sy_rel (sy_str t) ops out).2 va' oa) →
        yl_217 post J x1 x2 x3 x4 x6 (nI t) (ops.length + 1) (yE_s v x y k ops out va oa) := by
  intro ops
  induction ops with
  | nil =>
    intro out va ho h1 h2 h3 hl hv
    exact ⟨va, hv, ho, fun post J x1 x2 x3 x4 x6 hp => y2_stop rfl hp⟩
  | cons t0 ops ih =>
    intro out va ho h1 h2 h3 hl hv
    have hl' := hl
    simp only [List.length_cons] at hl'
    by_cases c : sy_str t ≤ sy_str t0
    · rw [sy_rel_pos c]
      have hn : t0 ≠ 12 := by
        intro h; subst h
        have := sy_str_pos (Or.inl ht)
        rw [sy_str_12] at c; omega
      obtain ⟨va1, hv1, hw⟩ := yE_work (v := v) (x := x) (y := y) (k := k) h1 h2 h3 hn hl ho hv
      obtain ⟨b1, b2, b3, b4, b5, b6⟩ := sy_bal h1 h2 h3 hn
      obtain ⟨va', hv', ho', hw'⟩ := ih (t0 :: out) va1 ho.2 b2 b3 b4 (by simp only [List.length_cons]; omega) hv1
      exact ⟨va', hv', ho', fun post J x1 x2 x3 x4 x6 hp => y2_go (m := ops.length) rfl (by omega) ho.1 (h1 t0 (List.mem_cons_self ..)) ht c (hw _ (hw' post J x1 x2 x3 x4 x6 hp))⟩
    · rw [sy_rel_neg c]
      exact ⟨va, hv, ho, fun post J x1 x2 x3 x4 x6 hp => y2_low (m := ops.length) rfl (by omega) ho.1 (h1 t0 (List.mem_cons_self ..)) ht c hp⟩
theorem yE_op (v : SY) (x y k : Int32) (t : Nat) (ops out : List Nat) (va oa : Nat → Int32) : ys_opTop (yE_s v x y k (t :: ops) out va oa) (nI ops.length) = yE_s v x y k ops out va oa := rfl
theorem yv_181 : ∀ (ops out : List Nat) (va : Nat → Int32), on_ar yo_c oa ops → sy_opsOK ops → sy_wf out →
    sy_dp out = sy_nb ops + 1 → ops.length + out.length ≤ 16 → 12 ∈ ops → sk_ar va (ev_ex x y k out).1 →
    ∃ va', sk_ar va' (ev_ex x y k (sy_rel 1 ops out).2).1 ∧ on_ar yo_c oa (sy_rel 1 ops out).1.tail ∧
      ∀ (post : Int32 → SY → Prop) (J : yJ_t) (x1 x2 x3 x4 x5 x6 : Int32),
        yl_J J x5 (x6 + 1) (yE_s v x y k (sy_rel 1 ops out).1.tail (sy_rel 1 ops out).2 va' oa) →
        yl_181 post J x1 x2 x3 x4 x5 x6 (ops.length + 1) (yE_s v x y k ops out va oa) := by
  intro ops
  induction ops with
  | nil =>
    intro out va ho h1 h2 h3 hl hm hv
    cases hm
  | cons t0 ops ih =>
    intro out va ho h1 h2 h3 hl hm hv
    have hl' := hl
    simp only [List.length_cons] at hl'
    by_cases hn : t0 = 12
    · subst hn
      rw [sy_rel_neg (by rw [sy_str_12]; omega)]
      exact ⟨va, hv, ho.2, fun post J x1 x2 x3 x4 x5 x6 hp => y2_cl (m := ops.length) rfl (by omega) ho.1 hp⟩
    · have c : 1 ≤ sy_str t0 := by
        rcases h1 t0 (List.mem_cons_self ..) with h | h | h
        · exact sy_str_pos (Or.inl h)
        · exact absurd h hn
        · exact sy_str_pos (Or.inr h)
      rw [sy_rel_pos c]
      obtain ⟨va1, hv1, hw⟩ := yE_work (v := v) (x := x) (y := y) (k := k) h1 h2 h3 hn hl ho hv
      obtain ⟨b1, b2, b3, b4, b5, b6⟩ := sy_bal h1 h2 h3 hn
      have hm' : 12 ∈ ops := by
        rcases List.mem_cons.mp hm with h | h
        · exact absurd h.symm hn
        · exact h
      obtain ⟨va', hv', ho', hw'⟩ := ih (t0 :: out) va1 ho.2 b2 b3 b4 (by simp only [List.length_cons]; omega) hm' hv1
      exact ⟨va', hv', ho', fun post J x1 x2 x3 x4 x5 x6 hp => y2_cg (m := ops.length) rfl (by omega) ho.1 b1 (hw _ (hw' post J x1 x2 x3 x4 x5 x6 hp))⟩
theorem yv_280 : ∀ (ops out : List Nat) (va : Nat → Int32), on_ar yo_c oa ops → sy_opsOK ops → sy_wf out →
    sy_dp out = sy_nb ops + 1 → ops.length + out.length ≤ 16 → ¬ 12 ∈ ops → sk_ar va (ev_ex x y k out).1 →
    ∃ va', sk_ar va' (ev_ex x y k (sy_rel 1 ops out).2).1 ∧
      ∀ (post : Int32 → SY → Prop), post (va' 0) (yE_s v x y k [] (sy_rel 1 ops out).2 va' oa) →
        yl_280 post (ops.length + 1) (yE_s v x y k ops out va oa) := by
  intro ops
  induction ops with
  | nil =>
    intro out va ho h1 h2 h3 hl hm hv
    exact ⟨va, hv, fun post hp => y2_end rfl hp⟩
  | cons t0 ops ih =>
    intro out va ho h1 h2 h3 hl hm hv
    have hl' := hl
    simp only [List.length_cons] at hl'
    have hn : t0 ≠ 12 := fun h => hm (by rw [h]; exact List.mem_cons_self ..)
    have c : 1 ≤ sy_str t0 := by
      rcases h1 t0 (List.mem_cons_self ..) with h | h | h
      · exact sy_str_pos (Or.inl h)
      · exact absurd h hn
      · exact sy_str_pos (Or.inr h)
    rw [sy_rel_pos c]
    obtain ⟨va1, hv1, hw⟩ := yE_work (v := v) (x := x) (y := y) (k := k) h1 h2 h3 hn hl ho hv
    obtain ⟨b1, b2, b3, b4, b5, b6⟩ := sy_bal h1 h2 h3 hn
    obtain ⟨va', hv', hw'⟩ := ih (t0 :: out) va1 ho.2 b2 b3 b4 (by simp only [List.length_cons]; omega) (fun h => hm (List.mem_cons_of_mem _ h)) hv1
    exact ⟨va', hv', fun post hp => y2_eg (m := ops.length) rfl (by omega) (hw _ (hw' post hp))⟩
end
end
section
/-! Y: the loop over the tokens -/
def yl_21 (post : Int32 → SY → Prop) (x1 x2 x3 x4 : Int32) (n : Nat) (x5 x6 : Int32) (w : SY) : Prop := wY_value_21 post x1 x2 x3 x4 n x5 x6 (ya_limit w) (ya_source w) (ya_stages w) (ya_wrongAt w) (ya_paid w) (ya_at w) (ya_seenCount w) (ya_failedAt w) (ya_v w) (ya_valTop w) (ya_opTop w) (ya_ran w) (ya_broken w) (ya_outcome w) (ya_lists w) (ya_sizes w) (ya_tokens w) (ya_counts w) (ya_kinds w) (ya_numbers w) (ya_left w) (ya_last w) (ya_place w) (ya_begun w) (ya_held w) (ya_keys w) (ya_holds w) (ya_applied w) (ya_reads w) (ya_seen w) (ya_vals w) (ya_ops w)
section
variable {post : Int32 → SY → Prop} {w : SY} {x y k o : Int32} {s n i t m f : Nat}
theorem y3_end (hs : s < 8) (hc : ya_counts w (s + 1) = nI i) (hi : i < 100) (hp : ∃ f', yl_280 post f' w) : yl_21 post (nI s) x y k (f + 1) o (nI i) w := by
  have hin : vp_in (nI s + 1) 9 := by rw [nI_1]; exact vp_in_nI (by omega) (by omega)
  have ecl : (nI s + 1).toNatClampNeg = s + 1 := by rw [nI_1]; exact nI_clamp (by omega)
  refine And.intro hin ?_
  rw [ecl]
  exact br_t (by rw [hc]; exact nI_le (Nat.le_refl _) (by omega)) hp
/-- a token is read -/
theorem y3_in (hs : s < 8) (hc : ya_counts w (s + 1) = nI n) (hn : n ≤ 16) (hi : i < n) (ht : ya_tokens w (16 * (s + 1) + i) = nI t) (htb : t < 1000000)
    (h12 : t = 12 → vp_in (ya_opTop w) 20 ∧ yl_21 post (nI s) x y k f o (nI (i + 1)) (ym_po w (ya_opTop w + 1) (upd (ya_ops w) (ya_opTop w).toNatClampNeg 12)))
    (h5 : t = 5 → ¬ o = 0 → vp_in (ya_opTop w) 20 ∧ yl_21 post (nI s) x y k f o (nI (i + 1)) (ym_po w (ya_opTop w + 1) (upd (ya_ops w) (ya_opTop w).toNatClampNeg 20)))
    (h110 : t ≠ 12 → (o = 0 ∨ t ≠ 5) → wY_value_110 post (wY_value_21 post (nI s) x y k f) (nI s) x y k o (nI i) (nI t) (ya_limit w) (ya_source w) (ya_stages w) (ya_wrongAt w) (ya_paid w) (ya_at w) (ya_seenCount w) (ya_failedAt w) (ya_v w) (ya_valTop w) (ya_opTop w) (ya_ran w) (ya_broken w) (ya_outcome w) (ya_lists w) (ya_sizes w) (ya_tokens w) (ya_counts w) (ya_kinds w) (ya_numbers w) (ya_left w) (ya_last w) (ya_place w) (ya_begun w) (ya_held w) (ya_keys w) (ya_holds w) (ya_applied w) (ya_reads w) (ya_seen w) (ya_vals w) (ya_ops w)) :
    yl_21 post (nI s) x y k (f + 1) o (nI i) w := by
  have hin : vp_in (nI s + 1) 9 := by rw [nI_1]; exact vp_in_nI (by omega) (by omega)
  have ecl : (nI s + 1).toNatClampNeg = s + 1 := by rw [nI_1]; exact nI_clamp (by omega)
  have hx : ¬ ya_counts w (s + 1) ≤ nI i := by rw [hc]; exact nI_ge (by omega) (by omega)
  have eix : (16 : Int32) * (nI s + 1) + nI i = nI (16 * (s + 1) + i) := by rw [nI_1]; exact zn_16 _ _
  have ecx : (nI (16 * (s + 1) + i)).toNatClampNeg = 16 * (s + 1) + i := nI_clamp (by omega)
  refine And.intro hin ?_
  rw [ecl]
  refine br_f hx ?_
  rw [eix]
  refine And.intro (vp_in_nI (by omega) (by omega)) ?_
  rw [ecx]
  refine nm_r ht (br_c (fun e12 => ?_) (fun n12 => ?_))
  · have h := h12 ((nI_eq (b := 12) (by omega) (by omega)).mp e12)
    exact nm_e (And.intro h.1 (nm_e (nm_r (nI_1 i) h.2)))
  · have n12' : t ≠ 12 := fun z => n12 (by rw [z]; rfl)
    refine br_c (fun o0 => h110 n12' (Or.inl o0)) (fun o0 => br_c (fun e5 => ?_) (fun n5 => h110 n12' (Or.inr (fun z => n5 (by rw [z]; rfl)))))
    have h := h5 ((nI_eq (b := 5) (by omega) (by omega)).mp e5) o0
    exact nm_e (And.intro h.1 (nm_e (nm_r (nI_1 i) h.2)))
theorem y3_var (hop : t = 1 ∨ t = 2 ∨ t = 3 ∨ 1000 ≤ t) (htb : t < 1000000) (hm : ya_valTop w = nI m) (hl : m < 20)
    (hp : yl_21 post (nI s) x y k f 0 (nI (i + 1)) (ym_pv w (nI (m + 1)) (upd (ya_vals w) m (ev_opv t x y k)))) :
    wY_value_110 post (wY_value_21 post (nI s) x y k f) (nI s) x y k 1 (nI i) (nI t) (ya_limit w) (ya_source w) (ya_stages w) (ya_wrongAt w) (ya_paid w) (ya_at w) (ya_seenCount w) (ya_failedAt w) (ya_v w) (ya_valTop w) (ya_opTop w) (ya_ran w) (ya_broken w) (ya_outcome w) (ya_lists w) (ya_sizes w) (ya_tokens w) (ya_counts w) (ya_kinds w) (ya_numbers w) (ya_left w) (ya_last w) (ya_place w) (ya_begun w) (ya_held w) (ya_keys w) (ya_holds w) (ya_applied w) (ya_reads w) (ya_seen w) (ya_vals w) (ya_ops w) := by
  have hi : vp_in (ya_valTop w) 20 := by rw [hm]; exact vp_in_nI hl (by omega)
  have cl : (ya_valTop w).toNatClampNeg = m := by rw [hm]; exact nI_clamp (by omega)
  have e1 : ya_valTop w + 1 = nI (m + 1) := by rw [hm, nI_1]
  refine br_f (by decide) (nm_r e1 ?_)
  rw [cl]
  by_cases t1 : t = 1
  · subst t1
    exact br_t rfl (And.intro hi (nm_e (nm_r (nI_1 i) hp)))
  · refine br_f (fun h => t1 ((nI_eq (b := 1) (by omega) (by omega)).mp h)) ?_
    by_cases t2 : t = 2
    · subst t2
      exact br_t rfl (And.intro hi (nm_e (nm_r (nI_1 i) hp)))
    · refine br_f (fun h => t2 ((nI_eq (b := 2) (by omega) (by omega)).mp h)) ?_
      by_cases t3 : t = 3
      · subst t3
        exact br_t rfl (And.intro hi (nm_e (nm_r (nI_1 i) hp)))
      · refine br_f (fun h => t3 ((nI_eq (b := 3) (by omega) (by omega)).mp h)) ?_
        have eo : ev_opv t x y k = nI t - 1000 := by
          unfold ev_opv
          rw [if_neg t1, if_neg t2, if_neg t3]
        rw [eo] at hp
        exact And.intro hi (nm_e (nm_r (nI_1 i) hp))
theorem y3_cl {f' : Nat} (hp : yl_181 post (wY_value_21 post (nI s) x y k f) (nI s) x y k 0 (nI i) f' w) :
    wY_value_110 post (wY_value_21 post (nI s) x y k f) (nI s) x y k 0 (nI i) (nI 13) (ya_limit w) (ya_source w) (ya_stages w) (ya_wrongAt w) (ya_paid w) (ya_at w) (ya_seenCount w) (ya_failedAt w) (ya_v w) (ya_valTop w) (ya_opTop w) (ya_ran w) (ya_broken w) (ya_outcome w) (ya_lists w) (ya_sizes w) (ya_tokens w) (ya_counts w) (ya_kinds w) (ya_numbers w) (ya_left w) (ya_last w) (ya_place w) (ya_begun w) (ya_held w) (ya_keys w) (ya_holds w) (ya_applied w) (ya_reads w) (ya_seen w) (ya_vals w) (ya_ops w) := br_t rfl (br_t rfl (Exists.intro f' hp))
theorem y3_bin {f' : Nat} (ht : 4 ≤ t ∧ t ≤ 11) (hp : yl_217 post (wY_value_21 post (nI s) x y k f) (nI s) x y k (nI i) (nI t) f' w) :
    wY_value_110 post (wY_value_21 post (nI s) x y k f) (nI s) x y k 0 (nI i) (nI t) (ya_limit w) (ya_source w) (ya_stages w) (ya_wrongAt w) (ya_paid w) (ya_at w) (ya_seenCount w) (ya_failedAt w) (ya_v w) (ya_valTop w) (ya_opTop w) (ya_ran w) (ya_broken w) (ya_outcome w) (ya_lists w) (ya_sizes w) (ya_tokens w) (ya_counts w) (ya_kinds w) (ya_numbers w) (ya_left w) (ya_last w) (ya_place w) (ya_begun w) (ya_held w) (ya_keys w) (ya_holds w) (ya_applied w) (ya_reads w) (ya_seen w) (ya_vals w) (ya_ops w) :=
  br_t rfl (br_f (fun h => absurd ((nI_eq (b := 13) (by omega) (by omega)).mp h) (by omega)) (Exists.intro f' hp))
theorem y3_push (hm : ya_opTop w = nI m) (hl : m < 20) (hp : yl_21 post (nI s) x y k f 1 (nI (i + 1)) (ym_po w (nI (m + 1)) (upd (ya_ops w) m (nI t)))) :
    yl_253 post (wY_value_21 post (nI s) x y k f) (nI s) x y k (nI i) (nI t) w := by
  have hi : vp_in (ya_opTop w) 20 := by rw [hm]; exact vp_in_nI hl (by omega)
  have cl : (ya_opTop w).toNatClampNeg = m := by rw [hm]; exact nI_clamp (by omega)
  have e1 : ya_opTop w + 1 = nI (m + 1) := by rw [hm, nI_1]
  unfold yl_253 wY_value_253
  refine nm_r e1 (And.intro hi ?_)
  rw [cl]
  exact nm_e (nm_r (nI_1 i) hp)
end
section
variable {v : SY} {x y k : Int32} {s n : Nat} {tk : Nat → Nat}
theorem yE_po (v : SY) (x y k : Int32) (t : Nat) (ops out : List Nat) (va oa oa' : Nat → Int32) : ym_po (yE_s v x y k ops out va oa) (nI (ops.length + 1)) oa' = yE_s v x y k (t :: ops) out va oa' := rfl
theorem yv_21 (hs : s < 8) (hn : n ≤ 16) (hc : ya_counts v (s + 1) = nI n) (ht : ∀ i, i < n → ya_tokens v (16 * (s + 1) + i) = nI (tk i))
    (htk : ∀ i, i < n → tk i < 1000000) (hok : sy_valid tk n) :
    ∀ (d i : Nat), i + d = n → ∀ (va oa : Nat → Int32), on_ar yo_c oa (sy_run tk i).1 → sk_ar va (ev_ex x y k (sy_run tk i).2.1).1 →
    ∃ va' oa', sk_ar va' (ev_ex x y k (sy_out tk n)).1 ∧ ∀ post : Int32 → SY → Prop, post (va' 0) (yE_s v x y k [] (sy_out tk n) va' oa') →
      yl_21 post (nI s) x y k (d + 1) (yb_i (sy_run tk i).2.2) (nI i) (yE_s v x y k (sy_run tk i).1 (sy_run tk i).2.1 va oa) := by
  obtain ⟨hv1, hv2, hv3⟩ := hok
  intro d
  induction d with
  | zero =>
    intro i e va oa ho hv
    have e' : i = n := by omega
    subst e'
    have inv := sy_inv_run i hv1
    obtain ⟨i1, i2, i3, i4⟩ := inv
    rw [hv2, if_neg (by decide)] at i3
    obtain ⟨va', hv', hw⟩ := yv_280 (v := v) (x := x) (y := y) (k := k) (oa := oa) _ _ va ho i1 i2 i3 (by omega) hv3 hv
    exact ⟨va', oa, hv', fun post hp => y3_end hs hc (by omega) ⟨_, hw post hp⟩⟩
  | succ d ih =>
    intro i e va oa ho hv
    have inv := sy_inv_run (tk := tk) i (fun j hj => hv1 j (by omega))
    have hok := hv1 i (by omega)
    have htok := ht i (by omega)
    have hb := htk i (by omega)
    have ih' := ih (i + 1) (by omega)
    have hstep : sy_run tk (i + 1) = sy_step (sy_run tk i) (tk i) := rfl
    rw [hstep] at ih'
    generalize sy_run tk i = st at ih' hok inv ho hv ⊢
    generalize tk i = t at ih' hok htok hb
    obtain ⟨ops, out, opd⟩ := st
    obtain ⟨i1, i2, i3, i4⟩ := inv
    dsimp only at i1 i2 i3 i4 ho hv
    have hlen := ev_len x y k out i2
    have hdp := sy_dple out
    have hin : i < n := by omega
    have hio : vp_in (nI ops.length) 20 := vp_in_nI (by omega) (by omega)
    have clo : (nI ops.length).toNatClampNeg = ops.length := nI_clamp (by omega)
    rcases hok with ⟨o, hok⟩ | ⟨o, hok⟩
    · dsimp only at o
      subst o
      by_cases c5 : t = 5
      · have es : sy_step (ops, out, true) t = (14 :: ops, out, true) := by
          unfold sy_step; rw [if_pos rfl, if_pos c5]
        rw [es] at ih'
        obtain ⟨va', oa', hv', hw⟩ := ih' va (upd oa ops.length 20) (on_push (f := yo_c) (t := 14) ho) hv
        refine ⟨va', oa', hv', fun post hp => y3_in (w := yE_s v x y k ops out va oa) hs hc hn hin htok hb (fun h => absurd h (by omega)) (fun _ _ => ⟨hio, ?_⟩) (fun _ h => absurd c5 (h.resolve_left (show ¬ (1 : Int32) = 0 by decide)))⟩
        rw [show (ya_opTop (yE_s v x y k ops out va oa)).toNatClampNeg = ops.length from clo, show ya_opTop (yE_s v x y k ops out va oa) + 1 = nI (ops.length + 1) from nI_1 _]
        exact hw post hp
      · by_cases c12 : t = 12
        · have es : sy_step (ops, out, true) t = (12 :: ops, out, true) := by
            unfold sy_step; rw [if_pos rfl, if_neg c5, if_pos c12]
          rw [es] at ih'
          obtain ⟨va', oa', hv', hw⟩ := ih' va (upd oa ops.length 12) (on_push (f := yo_c) (t := 12) ho) hv
          refine ⟨va', oa', hv', fun post hp => y3_in (w := yE_s v x y k ops out va oa) hs hc hn hin htok hb (fun _ => ⟨hio, ?_⟩) (fun h => absurd h c5) (fun h _ => absurd c12 h)⟩
          rw [show (ya_opTop (yE_s v x y k ops out va oa)).toNatClampNeg = ops.length from clo, show ya_opTop (yE_s v x y k ops out va oa) + 1 = nI (ops.length + 1) from nI_1 _]
          exact hw post hp
        · have es : sy_step (ops, out, true) t = (ops, t :: out, false) := by
            unfold sy_step; rw [if_pos rfl, if_neg c5, if_neg c12]
          rw [es] at ih'
          have ee : ev_ex x y k (t :: out) = (ev_opv t x y k :: (ev_ex x y k out).1, (ev_ex x y k out).2) := by
            show ev_act t x y k (ev_ex x y k out) = _
            unfold ev_act
            rw [if_neg (by omega), if_neg (by omega)]
          have hpush : sk_ar (upd va (ev_ex x y k out).1.length (ev_opv t x y k)) (ev_ex x y k (t :: out)).1 := by
            rw [ee]; exact sk_push hv
          obtain ⟨va', oa', hv', hw⟩ := ih' (upd va (ev_ex x y k out).1.length (ev_opv t x y k)) oa ho hpush
          have e3 : ym_pv (yE_s v x y k ops out va oa) (nI ((ev_ex x y k out).1.length + 1)) (upd va (ev_ex x y k out).1.length (ev_opv t x y k)) =
              yE_s v x y k ops (t :: out) (upd va (ev_ex x y k out).1.length (ev_opv t x y k)) oa := by
            have e1 : (ev_ex x y k (t :: out)).1.length = (ev_ex x y k out).1.length + 1 := by rw [ee]; rfl
            have e2 : yb_i (ev_ex x y k (t :: out)).2 = yb_i (ev_ex x y k out).2 := by rw [ee]
            unfold yE_s
            rw [e1, e2]
            rfl
          refine ⟨va', oa', hv', fun post hp => y3_in (w := yE_s v x y k ops out va oa) hs hc hn hin htok hb (fun h => absurd h c12) (fun h => absurd h c5) (fun _ _ => ?_)⟩
          refine y3_var (w := yE_s v x y k ops out va oa) (m := (ev_ex x y k out).1.length) (by omega) hb rfl (by omega) ?_
          rw [show ya_vals (yE_s v x y k ops out va oa) = va from rfl, e3]
          exact hw post hp
    · dsimp only at o
      subst o
      rw [if_neg (by decide)] at i3
      by_cases c13 : t = 13
      · have es : sy_step (ops, out, false) t = ((sy_rel 1 ops out).1.tail, (sy_rel 1 ops out).2, false) := by
          unfold sy_step; rw [if_neg Bool.false_ne_true, if_pos c13]
        rw [es] at ih'
        have hm : 12 ∈ ops := by
          rcases hok with ho | ho
          · exact ho.2
          · unfold sy_bin at ho; omega
        obtain ⟨va1, hv1', ho1, hw1⟩ := yv_181 (v := v) (x := x) (y := y) (k := k) (oa := oa) ops out va ho i1 i2 i3 (by omega) hm hv
        obtain ⟨va', oa', hv', hw⟩ := ih' va1 oa ho1 hv1'
        refine ⟨va', oa', hv', fun post hp => y3_in (w := yE_s v x y k ops out va oa) hs hc hn hin htok hb (fun h => absurd h (by omega)) (fun h => absurd h (by omega)) (fun _ _ => ?_)⟩
        subst c13
        refine y3_cl (hw1 post _ _ _ _ _ _ _ ?_)
        rw [nI_1]
        exact hw post hp
      · have es : sy_step (ops, out, false) t = (t :: (sy_rel (sy_str t) ops out).1, (sy_rel (sy_str t) ops out).2, true) := by
          unfold sy_step; rw [if_neg Bool.false_ne_true, if_neg c13]
        rw [es] at ih'
        have hbt : 4 ≤ t ∧ t ≤ 11 := by
          rcases hok with ho | ho
          · exact absurd ho.1 c13
          · exact ho
        obtain ⟨va1, hv1', ho1, hw1⟩ := yv_217 (v := v) (x := x) (y := y) (k := k) (oa := oa) hbt ops out va ho i1 i2 i3 (by omega) hv
        have hr := sy_rel_inv (sy_str t) (sy_str_pos (Or.inl hbt)) ops out i1 i2 i3
        have hrl : (sy_rel (sy_str t) ops out).1.length ≤ 16 := by omega
        have yo : yo_c t = nI t := if_neg (by omega)
        obtain ⟨va', oa', hv', hw⟩ := ih' va1 (upd oa (sy_rel (sy_str t) ops out).1.length (nI t)) (by rw [← yo]; exact on_push ho1) hv1'
        refine ⟨va', oa', hv', fun post hp => y3_in (w := yE_s v x y k ops out va oa) hs hc hn hin htok hb (fun h => absurd h (by omega)) (fun _ h => absurd rfl h) (fun _ _ => ?_)⟩
        exact y3_bin hbt (hw1 post _ _ _ _ _ _ (y3_push (m := (sy_rel (sy_str t) ops out).1.length) rfl (by omega) (hw post hp)))
noncomputable def ev_val (x y k : Int32) (o : List Nat) : Int32 := (ev_ex x y k o).1.headD 0
/-- what the tokens of a stage say -/
def yt_rel (v : SY) (s n : Nat) (tk : Nat → Nat) : Prop :=
  n ≤ 16 ∧ ya_counts v (s + 1) = nI n ∧ (∀ i, i < n → ya_tokens v (16 * (s + 1) + i) = nI (tk i)) ∧ (∀ i, i < n → tk i < 1000000) ∧ sy_valid tk n
theorem sy_out_ok (hok : sy_valid tk n) : sy_wf (sy_out tk n) ∧ sy_dp (sy_out tk n) = 1 := by
  obtain ⟨hv1, hv2, hv3⟩ := hok
  obtain ⟨i1, i2, i3, i4⟩ := sy_inv_run n hv1
  rw [hv2, if_neg (by decide)] at i3
  obtain ⟨a, b, c, d, f⟩ := sy_rel_inv 1 (Nat.le_refl 1) _ _ i1 i2 i3
  refine ⟨b, ?_⟩
  rcases sy_rel1 _ (sy_run tk n).2.1 i1 with ⟨h1, _⟩ | ⟨r, hr⟩
  · unfold sy_out
    rw [c, h1]
    rfl
  · rw [hr] at f
    exact absurd (f.mp (List.mem_cons_self ..)) hv3
theorem yw_value (hs : s < 8) (h : yt_rel v s n tk) :
    ∃ vt ot va oa, ∀ post : Int32 → SY → Prop, post (ev_val x y k (sy_out tk n)) (yz_s v vt ot (yb_i (ev_ex x y k (sy_out tk n)).2) va oa) → wpY_value post v (nI s) x y k := by
  obtain ⟨hn, hc, ht, htk, hok⟩ := h
  obtain ⟨va', oa', hv', hw⟩ := yv_21 (v := v) (x := x) (y := y) (k := k) hs hn hc ht htk hok n 0 (by omega) (ya_vals v) (ya_ops v) trivial trivial
  obtain ⟨w1, w2⟩ := sy_out_ok hok
  have hl := ev_len x y k _ w1
  rw [w2] at hl
  refine ⟨nI (ev_ex x y k (sy_out tk n)).1.length, nI 0, va', oa', fun post hp => Exists.intro (n + 1) (hw post ?_)⟩
  have e : va' 0 = ev_val x y k (sy_out tk n) := by
    unfold ev_val
    match hm : (ev_ex x y k (sy_out tk n)).1 with
    | [] => rw [hm] at hl; simp at hl
    | [a] => rw [hm] at hv'; exact hv'.1
    | _ :: _ :: _ => rw [hm] at hl; simp at hl
  rw [e]
  exact hp
end
end
section
/-! X: value of a stage; Y: apply -/
section
variable {u : SX} {v : SY} {s : Nat} {x y k : Int32} {o : List Nat}
def xc_rel (u : SX) (s : Nat) (o : List Nat) : Prop :=
  ∃ cs, cd_rel cs o ∧ cs.length ≤ 16 ∧ xa_steps u s = nI cs.length ∧ cd_ar (xa_step u) (xa_number u) (16 * s) cs ∧
    (xa_quick u s = 0 ∨ (xa_quick u s = 1 ∧ ∃ c m n m', cs = [(c, m), (15, n), (1, m')]))
theorem ev_one (hw : sy_wf o) (hd : sy_dp o = 1) : (ev_ex x y k o).1 = [ev_val x y k o] := by
  have hl := ev_len x y k _ hw
  rw [hd] at hl
  unfold ev_val
  match hm : (ev_ex x y k o).1 with
  | [] => rw [hm] at hl; simp at hl
  | [a] => rfl
  | _ :: _ :: _ => rw [hm] at hl; simp at hl
theorem xv_quick {c : Nat} {m n m' : Int32} (h : cd_rel [(c, m), (15, n), (1, m')] o) (hd : sy_dp o = 1) :
    (4 ≤ c ∧ c ≤ 11) ∧ cd_run x y k [(c, m), (15, n), (1, m')] = if (c = 7 ∨ c = 8) ∧ n = 0 then none else some [ev_join c x n] := by
  obtain ⟨h1, h2, h3, h4⟩ := h
  have hc : 4 ≤ c ∧ c ≤ 11 := by
    obtain ⟨_, w1, w2, w3⟩ := h1
    rw [hd] at h2
    have h2' : (if c = 14 then 2 else if 4 ≤ c ∧ c ≤ 11 then 2 - 1 else 2 + 1) = 1 := h2
    by_cases c14 : c = 14
    · rw [if_pos c14] at h2'; omega
    · rw [if_neg c14] at h2'
      by_cases hb : 4 ≤ c ∧ c ≤ 11
      · exact hb
      · rw [if_neg hb] at h2'; omega
  refine ⟨hc, ?_⟩
  show cd_act c m x y k [n, x] = _
  unfold cd_act
  rw [if_neg (by omega), if_neg (by omega), if_neg (by omega)]
theorem xw_val_q0 {post : Int32 → SX → Prop} {p b : Int32} {S a2 a1 : Nat} (eS : p.toNatClampNeg = S) (hi : vp_in p 8) (hb : 16 * p = b) (hq : ¬ xa_quick u S = 0)
    (h2 : vp_in (b + 2) 128) (h1 : vp_in (b + 1) 128) (e2 : (b + 2).toNatClampNeg = a2) (e1 : (b + 1).toNatClampNeg = a1)
    (hp : wpX_both post u p (xa_step u a2) x (xa_number u a1)) : wpX_value post u p x y := by
  subst eS
  subst hb
  subst e2
  subst e1
  exact nm_e (And.intro hi (br_f hq ⟨h2, h1, hp⟩))
theorem xw_val_s0 {post : Int32 → SX → Prop} {p b : Int32} {S f : Nat} (eS : p.toNatClampNeg = S) (hi : vp_in p 8) (hb : 16 * p = b) (hq : xa_quick u S = 0)
    (hp : xl_val post p x y b f 0 b u) : wpX_value post u p x y := by
  subst eS
  subst hb
  exact nm_e (And.intro hi (br_t hq (Exists.intro f hp)))
theorem xw_val_q {post : Int32 → SX → Prop} {t n : Int32} (hs : s < 8) (hq : xa_quick u s = 1) (h2 : xa_step u (16 * s + 2) = t) (h1 : xa_number u (16 * s + 1) = n)
    (hp : wpX_both post u (nI s) t x n) : wpX_value post u (nI s) x y := by
  subst h2
  subst h1
  have e2 : nI (16 * s) + 2 = nI (16 * s + 2) := nI_add _ 2
  have e1 : nI (16 * s) + 1 = nI (16 * s + 1) := nI_add _ 1
  exact xw_val_q0 (S := s) (nI_clamp (by omega)) (vp_in_nI hs (by omega)) (pk_mul 16 s) (by rw [hq]; decide) (by rw [e2]; exact vp_in_nI (by omega) (by omega))
    (by rw [e1]; exact vp_in_nI (by omega) (by omega)) (by rw [e2]; exact nI_clamp (by omega)) (by rw [e1]; exact nI_clamp (by omega)) hp
theorem xw_val_s {post : Int32 → SX → Prop} {f : Nat} (hs : s < 8) (hq : xa_quick u s = 0) (hp : xl_val post (nI s) x y (nI (16 * s)) f 0 (nI (16 * s)) u) : wpX_value post u (nI s) x y :=
  xw_val_s0 (S := s) (nI_clamp (by omega)) (vp_in_nI hs (by omega)) (pk_mul 16 s) hq hp
theorem xo_self (u : SX) : xs_operand u (xa_operand u) = u := rfl
theorem xo_selff (u : SX) (a b : Int32) : xf_s u a b (xa_operand u) = xg_s u a b := rfl
theorem xw_value_ok (hs : s < 8) (hc : xc_rel u s o) (hw : sy_wf o) (hd : sy_dp o = 1) (hk : xa_applications u s - 1 = k) (h0 : xa_stopped u = 0)
    (hb : (ev_ex x y k o).2 = false) : ∃ p, ∀ post : Int32 → SX → Prop, post (ev_val x y k o) (xs_operand u p) → wpX_value post u (nI s) x y := by
  obtain ⟨cs, hr, hl, hst, har, hq⟩ := hc
  have hrun : cd_run x y k cs = some [ev_val x y k o] := by
    rw [hr.2.2.2 x y k, if_neg (by rw [hb]; decide), ev_one hw hd]
  rcases hq with hq | ⟨hq, c, m, n, m', hcs⟩
  · obtain ⟨i1, _⟩ := xv_loop (u := u) (s := s) (x := x) (y := y) (k := k) (cs := cs) hs har hr.1 hl hst hk h0 cs.length cs [] [] (xa_operand u) rfl (List.append_nil cs).symm rfl trivial
    obtain ⟨p, hp1, hp2⟩ := i1 _ hrun
    refine ⟨p, fun post hp => xw_val_s hs hq (hp2 post ?_)⟩
    rw [show p 0 = ev_val x y k o from hp1.1]
    exact hp
  · subst hcs
    obtain ⟨q1, q2⟩ := xv_quick (x := x) (y := y) (k := k) hr hd
    rw [q2] at hrun
    have hz : ¬ ((c = 7 ∨ c = 8) ∧ n = 0) := fun z => by rw [if_pos z] at hrun; cases hrun
    rw [if_neg hz] at hrun
    have ev : ev_join c x n = ev_val x y k o := (List.cons.inj (Option.some.inj hrun)).1
    refine ⟨xa_operand u, fun post hp => xw_val_q hs hq har.1 har.2.2.2.1 (xw_both_ok q1 hz ?_)⟩
    rw [ev]
    exact hp
theorem xw_value_no (hs : s < 8) (hc : xc_rel u s o) (hd : sy_dp o = 1) (hk : xa_applications u s - 1 = k) (h0 : xa_stopped u = 0)
    (hb : (ev_ex x y k o).2 = true) : ∃ r p, ∀ post : Int32 → SX → Prop, post r (xf_s u (nI s) 1 p) → wpX_value post u (nI s) x y := by
  obtain ⟨cs, hr, hl, hst, har, hq⟩ := hc
  have hrun : cd_run x y k cs = none := by
    rw [hr.2.2.2 x y k, if_pos hb]
  rcases hq with hq | ⟨hq, c, m, n, m', hcs⟩
  · obtain ⟨_, i2⟩ := xv_loop (u := u) (s := s) (x := x) (y := y) (k := k) (cs := cs) hs har hr.1 hl hst hk h0 cs.length cs [] [] (xa_operand u) rfl (List.append_nil cs).symm rfl trivial
    obtain ⟨r, p, hp2⟩ := i2 hrun
    exact ⟨r, p, fun post hp => xw_val_s hs hq (hp2 post hp)⟩
  · subst hcs
    obtain ⟨q1, q2⟩ := xv_quick (x := x) (y := y) (k := k) hr hd
    rw [q2] at hrun
    have hz : (c = 7 ∨ c = 8) ∧ n = 0 := by
      by_cases z : (c = 7 ∨ c = 8) ∧ n = 0
      · exact z
      · rw [if_neg z] at hrun; cases hrun
    exact ⟨0, xa_operand u, fun post hp => xw_val_q hs hq har.1 har.2.2.2.1 (xw_both_no hz.1 hz.2 hp)⟩
def yq_s (v : SY) (s : Nat) (r vt ot : Int32) (va oa : Nat → Int32) : SY :=
  yq_m v (ya_paid v + 1) (upd (ya_applied v) s (ya_applied v s + 1)) vt ot 0 va oa r
def yq_x (v : SY) (s : Nat) (r vt ot : Int32) (va oa : Nat → Int32) : SY :=
  yq_f v (ya_paid v + 1) (upd (ya_applied v) s (ya_applied v s + 1)) vt ot 1 va oa r (nI s) 9000000000000000002
theorem yw_apply_no {post : Int32 → SY → Prop} {p : Int32} (h : ya_paid v = ya_limit v) (hp : post 0 (ys_outcome v 9000000000000000001)) : wpY_apply post v p x y := by
  unfold wpY_apply
  exact yw_pay_no (v := v) h (br_t rfl hp)
theorem yw_apply_w {post : Int32 → SY → Prop} (hs : s < 8) (h : ¬ ya_paid v = ya_limit v)
    (hw : wpY_value (fun r w => (ya_broken w = 0 → (ya_broken w = 0 → post 1 (ys_v w r)) ∧ (¬ ya_broken w = 0 → post 0 (ys_v w r))) ∧
      (¬ ya_broken w = 0 → (ya_broken w = 0 → post 1 (ym_fl w (nI s) r 9000000000000000002)) ∧ (¬ ya_broken w = 0 → post 0 (ym_fl w (nI s) r 9000000000000000002))))
      (ym_pa v (ya_paid v + 1) (upd (ya_applied v) s (ya_applied v s + 1))) (nI s) x y (ya_applied v s)) : wpY_apply post v (nI s) x y := by
  have hin : vp_in (nI s) 8 := vp_in_nI hs (by omega)
  have ecl : (nI s).toNatClampNeg = s := nI_clamp (by omega)
  unfold wpY_apply
  refine yw_pay_ok (v := v) h (br_f (by decide) ⟨hin, hin, ?_⟩)
  rw [ecl]
  exact nm_e (nm_e hw)
theorem yq_e1 (v : SY) (a : Int32) (b : Nat → Int32) (vt ot br r : Int32) (va oa : Nat → Int32) : ys_v (yz_s (ym_pa v a b) vt ot br va oa) r = yq_m v a b vt ot br va oa r := rfl
theorem yq_e2 (v : SY) (a : Int32) (b : Nat → Int32) (vt ot br r f : Int32) (va oa : Nat → Int32) (z : Int64) : ym_fl (yz_s (ym_pa v a b) vt ot br va oa) f r z = yq_f v a b vt ot br va oa r f z := rfl
theorem yt_pa {v : SY} {a : Int32} {b : Nat → Int32} {s n : Nat} {tk : Nat → Nat} (h : yt_rel v s n tk) : yt_rel (ym_pa v a b) s n tk := h
theorem yw_apply_ok {n : Nat} {tk : Nat → Nat} (hs : s < 8) (ht : yt_rel v s n tk) (h : ¬ ya_paid v = ya_limit v) (hk : ya_applied v s = k)
    (hb : (ev_ex x y k (sy_out tk n)).2 = false) : ∃ vt ot va oa, ∀ post : Int32 → SY → Prop,
      post 1 (yq_s v s (ev_val x y k (sy_out tk n)) vt ot va oa) → wpY_apply post v (nI s) x y := by
  subst hk
  obtain ⟨vt, ot, va, oa, hw⟩ := yw_value (v := ym_pa v (ya_paid v + 1) (upd (ya_applied v) s (ya_applied v s + 1))) (x := x) (y := y) (k := ya_applied v s) (tk := tk) (n := n) hs (yt_pa ht)
  rw [hb] at hw
  refine ⟨vt, ot, va, oa, fun post hp => yw_apply_w hs h ?_⟩
  refine hw _ ?_
  refine br_t rfl (br_t rfl ?_)
  rw [yq_e1]
  exact hp
theorem yw_apply_fail {n : Nat} {tk : Nat → Nat} (hs : s < 8) (ht : yt_rel v s n tk) (h : ¬ ya_paid v = ya_limit v) (hk : ya_applied v s = k)
    (hb : (ev_ex x y k (sy_out tk n)).2 = true) : ∃ r vt ot va oa, ∀ post : Int32 → SY → Prop,
      post 0 (yq_x v s r vt ot va oa) → wpY_apply post v (nI s) x y := by
  subst hk
  obtain ⟨vt, ot, va, oa, hw⟩ := yw_value (v := ym_pa v (ya_paid v + 1) (upd (ya_applied v) s (ya_applied v s + 1))) (x := x) (y := y) (k := ya_applied v s) (tk := tk) (n := n) hs (yt_pa ht)
  rw [hb] at hw
  refine ⟨ev_val x y (ya_applied v s) (sy_out tk n), vt, ot, va, oa, fun post hp => yw_apply_w hs h ?_⟩
  refine hw _ ?_
  refine br_f (show ¬ (1 : Int32) = 0 by decide) (br_f (show ¬ (1 : Int32) = 0 by decide) ?_)
  rw [yq_e2]
  exact hp
end
end
section
/-! X: add, emit, release -/
def xk_fr (S : Nat) (sp nm ss sp0 nm0 ss0 : Nat → Int32) : Prop :=
  (∀ j, j ≠ S → ss j = ss0 j) ∧ (∀ j, (j < 16 * S ∨ 16 * S + 16 ≤ j) → sp j = sp0 j ∧ nm j = nm0 j)
theorem xk_fr0 {S : Nat} {sp nm ss : Nat → Int32} : xk_fr S sp nm ss sp nm ss := ⟨fun _ _ => rfl, fun _ _ => ⟨rfl, rfl⟩⟩
theorem xk_frt {S : Nat} {sp nm ss sp1 nm1 ss1 sp0 nm0 ss0 : Nat → Int32} (h : xk_fr S sp nm ss sp1 nm1 ss1) (g : xk_fr S sp1 nm1 ss1 sp0 nm0 ss0) :
    xk_fr S sp nm ss sp0 nm0 ss0 :=
  ⟨fun j hj => (h.1 j hj).trans (g.1 j hj), fun j hj => ⟨(h.2 j hj).1.trans (g.2 j hj).1, (h.2 j hj).2.trans (g.2 j hj).2⟩⟩
theorem cd_ar_upd {sp nm : Nat → Int32} {b q : Nat} {a c : Int32} : ∀ cs, cd_ar sp nm b cs → b + cs.length ≤ q → cd_ar (upd sp q a) (upd nm q c) b cs
  | [], _, _ => trivial
  | (_, _) :: cs, h, hq => by
    simp only [List.length_cons] at hq
    exact ⟨(pk_un (by omega)).trans h.1, (pk_un (by omega)).trans h.2.1, cd_ar_upd cs h.2.2 (by omega)⟩
theorem cd_ar_updn {sp nm : Nat → Int32} {b q : Nat} {c : Int32} : ∀ cs, cd_ar sp nm b cs → b + cs.length ≤ q → cd_ar sp (upd nm q c) b cs
  | [], _, _ => trivial
  | (_, _) :: cs, h, hq => by
    simp only [List.length_cons] at hq
    exact ⟨h.1, (pk_un (by omega)).trans h.2.1, cd_ar_updn cs h.2.2 (by omega)⟩
section
variable {u : SX} {S : Nat} {sp nm ss : Nat → Int32} {cs : List (Nat × Int32)}
theorem xw_add0 {post : SX → Prop} {p n c' m' : Int32} {S q : Nat} (eS : (xa_stages u).toNatClampNeg = S) (h8 : vp_in (xa_stages u) 8)
    (eq : (16 * xa_stages u + xa_steps u S).toNatClampNeg = q) (hq : vp_in (16 * xa_stages u + xa_steps u S) 128)
    (ec : vp_nar .byte p.toInt8.toInt32 = c') (em : vp_nar .byte (xa_steps u S + 1).toInt8.toInt32 = m')
    (hp : post (xk_s u (upd (xa_step u) q c') (upd (xa_number u) q n) (upd (xa_steps u) S m'))) : wpX_add post u p n := by
  subst eS
  subst eq
  subst ec
  subst em
  exact And.intro h8 (nm_e ⟨hq, nm_e ⟨hq, nm_e ⟨h8, h8, nm_e hp⟩⟩⟩)
theorem xw_add {post : SX → Prop} {c : Nat} {n : Int32} (hS : xa_stages u = nI S) (h8 : S < 8) (hm : ss S = nI cs.length) (hl : cs.length < 16) (hc : c < 128)
    (hp : post (xk_s u (upd sp (16 * S + cs.length) (nI c)) (upd nm (16 * S + cs.length) n) (upd ss S (nI (cs.length + 1))))) :
    wpX_add post (xk_s u sp nm ss) (nI c) n := by
  have e1 : (xa_stages (xk_s u sp nm ss)) = nI S := hS
  have e2 : xa_steps (xk_s u sp nm ss) S = nI cs.length := hm
  have e3 : (16 : Int32) * xa_stages (xk_s u sp nm ss) + xa_steps (xk_s u sp nm ss) S = nI (16 * S + cs.length) := by rw [e1, e2]; exact zn_16 _ _
  exact xw_add0 (u := xk_s u sp nm ss) (S := S) (q := 16 * S + cs.length) (by rw [e1]; exact nI_clamp (by omega)) (by rw [e1]; exact vp_in_nI h8 (by omega))
    (by rw [e3]; exact nI_clamp (by omega)) (by rw [e3]; exact vp_in_nI (by omega) (by omega)) (zn_vb hc)
    (by rw [e2, nI_1]; exact zn_vb (by omega)) hp
/-- the code behind one more step -/
def xk_ok (S : Nat) (sp nm ss : Nat → Int32) (cs : List (Nat × Int32)) : Prop := cs.length ≤ 16 ∧ ss S = nI cs.length ∧ cd_ar sp nm (16 * S) cs
theorem xk_add {c : Nat} {n : Int32} (h : xk_ok S sp nm ss cs) (hl : cs.length < 16) :
    xk_ok S (upd sp (16 * S + cs.length) (nI c)) (upd nm (16 * S + cs.length) n) (upd ss S (nI (cs.length + 1))) ((c, n) :: cs) ∧
    xk_fr S (upd sp (16 * S + cs.length) (nI c)) (upd nm (16 * S + cs.length) n) (upd ss S (nI (cs.length + 1))) sp nm ss :=
  ⟨⟨by simp only [List.length_cons]; omega, pk_us, pk_us, pk_us, cd_ar_upd cs h.2.2 (Nat.le_refl _)⟩,
   fun j hj => pk_un hj, fun j hj => ⟨pk_un (by omega), pk_un (by omega)⟩⟩
/-! emit, over any state -/
def xl_36 (post : SX → Prop) (t q z : Int32) (w : SX) : Prop := wX_emit_36 post t q z (xa_limit w) (xa_source w) (xa_stages w) (xa_tokens w) (xa_wrongPlace w) (xa_waits w) (xa_parens w) (xa_opens w) (xa_from w) (xa_at w) (xa_ended w) (xa_spent w) (xa_stopped w) (xa_out w) (xa_lastStages w) (xa_failedStage w) (xa_shownCount w) (xa_element w) (xa_length w) (xa_kind w) (xa_constant w) (xa_step w) (xa_number w) (xa_steps w) (xa_quick w) (xa_token w) (xa_waiting w) (xa_compared w) (xa_operand w) (xa_memory w) (xa_begun w) (xa_place w) (xa_held w) (xa_keyOf w) (xa_next w) (xa_size w) (xa_head w) (xa_openStage w) (xa_openValue w) (xa_openLeft w) (xa_applications w) (xa_reads w) (xa_shown w)
def xl_105 (post : SX → Prop) (t q z : Int32) (w : SX) : Prop := wX_emit_105 post t q z (xa_limit w) (xa_source w) (xa_stages w) (xa_tokens w) (xa_wrongPlace w) (xa_waits w) (xa_parens w) (xa_opens w) (xa_from w) (xa_at w) (xa_ended w) (xa_spent w) (xa_stopped w) (xa_out w) (xa_lastStages w) (xa_failedStage w) (xa_shownCount w) (xa_element w) (xa_length w) (xa_kind w) (xa_constant w) (xa_step w) (xa_number w) (xa_steps w) (xa_quick w) (xa_token w) (xa_waiting w) (xa_compared w) (xa_operand w) (xa_memory w) (xa_begun w) (xa_place w) (xa_held w) (xa_keyOf w) (xa_next w) (xa_size w) (xa_head w) (xa_openStage w) (xa_openValue w) (xa_openLeft w) (xa_applications w) (xa_reads w) (xa_shown w)
def xl_133 (post : SX → Prop) (t q y z : Int32) (w : SX) : Prop := wX_emit_133 post t q y z (xa_limit w) (xa_source w) (xa_stages w) (xa_tokens w) (xa_wrongPlace w) (xa_waits w) (xa_parens w) (xa_opens w) (xa_from w) (xa_at w) (xa_ended w) (xa_spent w) (xa_stopped w) (xa_out w) (xa_lastStages w) (xa_failedStage w) (xa_shownCount w) (xa_element w) (xa_length w) (xa_kind w) (xa_constant w) (xa_step w) (xa_number w) (xa_steps w) (xa_quick w) (xa_token w) (xa_waiting w) (xa_compared w) (xa_operand w) (xa_memory w) (xa_begun w) (xa_place w) (xa_held w) (xa_keyOf w) (xa_next w) (xa_size w) (xa_head w) (xa_openStage w) (xa_openValue w) (xa_openLeft w) (xa_applications w) (xa_reads w) (xa_shown w)
theorem xe_in {post : SX → Prop} {w : SX} {t ql : Int32} {S q : Nat} (eS : (xa_stages w).toNatClampNeg = S) (h8 : vp_in (xa_stages w) 8)
    (el : 16 * xa_stages w + xa_steps w S - 1 = ql) (hq : vp_in ql 128) (eq : ql.toNatClampNeg = q)
    (h : (xa_step w q = 15 → xl_36 post t ql 1 w) ∧ (¬ xa_step w q = 15 → xl_36 post t ql 0 w)) : wpX_emit post w t := by
  subst eS
  subst el
  subst eq
  exact And.intro h8 (nm_e (And.intro hq h))
theorem xe_neg0 {post : SX → Prop} {w : SX} {q : Int32} (h : wpX_add post w 14 0) : xl_36 post 14 q 0 w := br_t rfl (br_t rfl h)
theorem xe_neg1 {post : SX → Prop} {w : SX} {ql : Int32} {q : Nat} (hq : vp_in ql 128) (eq : ql.toNatClampNeg = q)
    (h : post (xs_number w (upd (xa_number w) q (-(xa_number w q))))) : xl_36 post 14 ql 1 w := by
  subst eq
  exact br_t rfl (br_f (by decide) (And.intro hq (And.intro hq (nm_e h))))
theorem xe_b0 {post : SX → Prop} {w : SX} {t q : Int32} (ht : ¬ t = 14) (h : xl_105 post t q 0 w) : xl_36 post t q 0 w := br_f ht (br_t rfl h)
theorem xe_b1 {post : SX → Prop} {w : SX} {t ql q2 : Int32} {S q : Nat} (ht : ¬ t = 14) (eS : (xa_stages w).toNatClampNeg = S) (h8 : vp_in (xa_stages w) 8)
    (hs : ¬ xa_steps w S ≤ 1) (e2 : ql - 1 = q2) (hq : vp_in q2 128) (eq : q2.toNatClampNeg = q)
    (h : (xa_step w q = 15 → xl_105 post t ql 1 w) ∧ (¬ xa_step w q = 15 → xl_105 post t ql 0 w)) : xl_36 post t ql 1 w := by
  subst eS
  subst e2
  subst eq
  exact br_f ht (br_f (by decide) (And.intro h8 (br_f hs (And.intro hq h))))
theorem xe_105 {post : SX → Prop} {w : SX} {t q : Int32} (hq : vp_in q 128) (h : wpX_add post w t 0) : xl_105 post t q 0 w := by
  have h133 : ∀ z, wX_emit_133 post t q 0 z (xa_limit w) (xa_source w) (xa_stages w) (xa_tokens w) (xa_wrongPlace w) (xa_waits w) (xa_parens w) (xa_opens w) (xa_from w) (xa_at w) (xa_ended w) (xa_spent w) (xa_stopped w) (xa_out w) (xa_lastStages w) (xa_failedStage w) (xa_shownCount w) (xa_element w) (xa_length w) (xa_kind w) (xa_constant w) (xa_step w) (xa_number w) (xa_steps w) (xa_quick w) (xa_token w) (xa_waiting w) (xa_compared w) (xa_operand w) (xa_memory w) (xa_begun w) (xa_place w) (xa_held w) (xa_keyOf w) (xa_next w) (xa_size w) (xa_head w) (xa_openStage w) (xa_openValue w) (xa_openLeft w) (xa_applications w) (xa_reads w) (xa_shown w) := fun z => br_t rfl h
  have h119 : wX_emit_119 post t q 0 (xa_limit w) (xa_source w) (xa_stages w) (xa_tokens w) (xa_wrongPlace w) (xa_waits w) (xa_parens w) (xa_opens w) (xa_from w) (xa_at w) (xa_ended w) (xa_spent w) (xa_stopped w) (xa_out w) (xa_lastStages w) (xa_failedStage w) (xa_shownCount w) (xa_element w) (xa_length w) (xa_kind w) (xa_constant w) (xa_step w) (xa_number w) (xa_steps w) (xa_quick w) (xa_token w) (xa_waiting w) (xa_compared w) (xa_operand w) (xa_memory w) (xa_begun w) (xa_place w) (xa_held w) (xa_keyOf w) (xa_next w) (xa_size w) (xa_head w) (xa_openStage w) (xa_openValue w) (xa_openLeft w) (xa_applications w) (xa_reads w) (xa_shown w) := And.intro hq (br_c (fun _ => h133 1) (fun _ => h133 0))
  exact br_c (fun _ => h119) (fun _ => br_c (fun _ => h119) (fun _ => h133 0))
theorem xe_div {post : SX → Prop} {w : SX} {t ql : Int32} {q : Nat} (ht : t = 7 ∨ t = 8) (hq : vp_in ql 128) (eq : ql.toNatClampNeg = q) (hz : xa_number w q = 0) (h : wpX_add post w t 0) :
    xl_105 post t ql 1 w := by
  subst eq
  have h133 : wX_emit_133 post t ql 1 1 (xa_limit w) (xa_source w) (xa_stages w) (xa_tokens w) (xa_wrongPlace w) (xa_waits w) (xa_parens w) (xa_opens w) (xa_from w) (xa_at w) (xa_ended w) (xa_spent w) (xa_stopped w) (xa_out w) (xa_lastStages w) (xa_failedStage w) (xa_shownCount w) (xa_element w) (xa_length w) (xa_kind w) (xa_constant w) (xa_step w) (xa_number w) (xa_steps w) (xa_quick w) (xa_token w) (xa_waiting w) (xa_compared w) (xa_operand w) (xa_memory w) (xa_begun w) (xa_place w) (xa_held w) (xa_keyOf w) (xa_next w) (xa_size w) (xa_head w) (xa_openStage w) (xa_openValue w) (xa_openLeft w) (xa_applications w) (xa_reads w) (xa_shown w) := br_f (by decide) (br_f (by decide) h)
  have h119 : wX_emit_119 post t ql 1 (xa_limit w) (xa_source w) (xa_stages w) (xa_tokens w) (xa_wrongPlace w) (xa_waits w) (xa_parens w) (xa_opens w) (xa_from w) (xa_at w) (xa_ended w) (xa_spent w) (xa_stopped w) (xa_out w) (xa_lastStages w) (xa_failedStage w) (xa_shownCount w) (xa_element w) (xa_length w) (xa_kind w) (xa_constant w) (xa_step w) (xa_number w) (xa_steps w) (xa_quick w) (xa_token w) (xa_waiting w) (xa_compared w) (xa_operand w) (xa_memory w) (xa_begun w) (xa_place w) (xa_held w) (xa_keyOf w) (xa_next w) (xa_size w) (xa_head w) (xa_openStage w) (xa_openValue w) (xa_openLeft w) (xa_applications w) (xa_reads w) (xa_shown w) := And.intro hq (br_t hz h133)
  by_cases c : t = 7
  · exact br_t c h119
  · exact br_f c (br_t (ht.resolve_left c) h119)
theorem xe_fold {post : SX → Prop} {w : SX} {ql q2 m' : Int32} {t q q' S : Nat} (hb : 4 ≤ t ∧ t ≤ 11) (hq : vp_in ql 128) (eq : ql.toNatClampNeg = q)
    (e2 : ql - 1 = q2) (hq2 : vp_in q2 128) (eq2 : q2.toNatClampNeg = q') (eS : (xa_stages w).toNatClampNeg = S) (h8 : vp_in (xa_stages w) 8)
    (em : vp_nar .byte (xa_steps w S - 1).toInt8.toInt32 = m') (hz : ¬ ((t = 7 ∨ t = 8) ∧ xa_number w q = 0))
    (h : post (xm_nk w (upd (xa_number w) q' (ev_join t (xa_number w q') (xa_number w q))) (upd (xa_steps w) S m'))) : xl_105 post (nI t) ql 1 w := by
  subst eq
  subst e2
  subst eq2
  subst eS
  subst em
  have h133 : wX_emit_133 post (nI t) ql 1 0 (xa_limit w) (xa_source w) (xa_stages w) (xa_tokens w) (xa_wrongPlace w) (xa_waits w) (xa_parens w) (xa_opens w) (xa_from w) (xa_at w) (xa_ended w) (xa_spent w) (xa_stopped w) (xa_out w) (xa_lastStages w) (xa_failedStage w) (xa_shownCount w) (xa_element w) (xa_length w) (xa_kind w) (xa_constant w) (xa_step w) (xa_number w) (xa_steps w) (xa_quick w) (xa_token w) (xa_waiting w) (xa_compared w) (xa_operand w) (xa_memory w) (xa_begun w) (xa_place w) (xa_held w) (xa_keyOf w) (xa_next w) (xa_size w) (xa_head w) (xa_openStage w) (xa_openValue w) (xa_openLeft w) (xa_applications w) (xa_reads w) (xa_shown w) :=
    br_f (by decide) (br_t rfl (And.intro hq2 (And.intro hq (xw_join hb (fun h hz' => hz ⟨h, hz'⟩) (And.intro hq2 (nm_e (And.intro h8 (And.intro h8 (nm_e h)))))))))
  have h119 : (t = 7 ∨ t = 8) → wX_emit_119 post (nI t) ql 1 (xa_limit w) (xa_source w) (xa_stages w) (xa_tokens w) (xa_wrongPlace w) (xa_waits w) (xa_parens w) (xa_opens w) (xa_from w) (xa_at w) (xa_ended w) (xa_spent w) (xa_stopped w) (xa_out w) (xa_lastStages w) (xa_failedStage w) (xa_shownCount w) (xa_element w) (xa_length w) (xa_kind w) (xa_constant w) (xa_step w) (xa_number w) (xa_steps w) (xa_quick w) (xa_token w) (xa_waiting w) (xa_compared w) (xa_operand w) (xa_memory w) (xa_begun w) (xa_place w) (xa_held w) (xa_keyOf w) (xa_next w) (xa_size w) (xa_head w) (xa_openStage w) (xa_openValue w) (xa_openLeft w) (xa_applications w) (xa_reads w) (xa_shown w) := fun ht => And.intro hq (br_f (fun h => hz ⟨ht, h⟩) h133)
  refine br_c (fun c => h119 (Or.inl ((nI_eq (b := 7) (by omega) (by omega)).mp c))) (fun c => br_c (fun c => h119 (Or.inr ((nI_eq (b := 8) (by omega) (by omega)).mp c))) (fun c => h133))
theorem xw_emit {t : Nat} (hS : xa_stages u = nI S) (h8 : S < 8) (hk : xk_ok S sp nm ss cs) (ht : (4 ≤ t ∧ t ≤ 11) ∨ t = 14)
    (h1 : t = 14 → 1 ≤ cs.length) (h2 : 4 ≤ t ∧ t ≤ 11 → 2 ≤ cs.length) (hl : cs.length < 16) (hw : cd_wf cs) :
    ∃ sp' nm' ss', xk_ok S sp' nm' ss' (cd_emit t cs) ∧ xk_fr S sp' nm' ss' sp nm ss ∧
      ∀ post : SX → Prop, post (xk_s u sp' nm' ss') → wpX_emit post (xk_s u sp nm ss) (nI t) := by
  obtain ⟨hl16, hss, har⟩ := hk
  have e1 : (xa_stages (xk_s u sp nm ss)) = nI S := hS
  have cS : (xa_stages (xk_s u sp nm ss)).toNatClampNeg = S := by rw [e1]; exact nI_clamp (by omega)
  have hi8 : vp_in (xa_stages (xk_s u sp nm ss)) 8 := by rw [e1]; exact vp_in_nI h8 (by omega)
  have plain : ∃ sp' nm' ss', xk_ok S sp' nm' ss' ((t, 0) :: cs) ∧ xk_fr S sp' nm' ss' sp nm ss ∧
      ∀ post : SX → Prop, post (xk_s u sp' nm' ss') → wpX_add post (xk_s u sp nm ss) (nI t) 0 := by
    obtain ⟨a, b⟩ := xk_add (S := S) (sp := sp) (nm := nm) (ss := ss) (cs := cs) (c := t) (n := 0) ⟨hl16, hss, har⟩ hl
    exact ⟨_, _, _, a, b, fun post hp => xw_add (cs := cs) hS h8 hss hl (by omega) hp⟩
  match cs, hl16, hss, har, h1, h2, hl, hw, plain with
  | [], _, _, _, h1, h2, _, _, _ =>
    exfalso
    rcases ht with ht | ht
    · exact absurd (h2 ht) (by simp)
    · exact absurd (h1 ht) (by simp)
  | (c, b) :: r, hl16, hss, har, h1, h2, hl, hw, plain =>
  have hcb : c < 100 := by have := hw.2.2.2; omega
  simp only [List.length_cons] at hl16 hl
  have elast : (16 : Int32) * xa_stages (xk_s u sp nm ss) + xa_steps (xk_s u sp nm ss) S - 1 = nI (16 * S + r.length) := by
    rw [e1, show xa_steps (xk_s u sp nm ss) S = nI ((c, b) :: r).length from hss]
    rw [show (16 : Int32) * nI S + nI ((c, b) :: r).length = nI (16 * S + r.length + 1) from zn_16 _ _]
    exact nI_pred _
  have hil : vp_in (nI (16 * S + r.length)) 128 := vp_in_nI (by omega) (by omega)
  have ecl : (nI (16 * S + r.length)).toNatClampNeg = 16 * S + r.length := nI_clamp (by omega)
  obtain ⟨a1, a2, a3⟩ := har
  have a1' : xa_step (xk_s u sp nm ss) (16 * S + r.length) = nI c := a1
  have a2' : xa_number (xk_s u sp nm ss) (16 * S + r.length) = b := a2
  have enter : ∀ post : SX → Prop, ((c = 15 → xl_36 post (nI t) (nI (16 * S + r.length)) 1 (xk_s u sp nm ss)) ∧
      (c ≠ 15 → xl_36 post (nI t) (nI (16 * S + r.length)) 0 (xk_s u sp nm ss))) → wpX_emit post (xk_s u sp nm ss) (nI t) := by
    intro post h
    refine xe_in cS hi8 elast hil ecl ?_
    rw [a1']
    exact br_c (fun e => h.1 ((nI_eq (b := 15) (by omega) (by omega)).mp e)) (fun e => h.2 (fun z => e (by rw [z]; rfl)))
  rcases ht with ht | ht
  · have n14 : ¬ nI t = 14 := fun h => absurd ((nI_eq (b := 14) (by omega) (by omega)).mp h) (by omega)
    match r, h2 ht, hl16, hl, hss, a1, a2', a3, hil, ecl, enter, plain, hw with
    | (d, a) :: r', _, hl16, hl, hss, a1, a2', a3, hil, ecl, enter, plain, hw =>
    have hdb : d < 100 := by have := hw.1.2.2.2; omega
    simp only [List.length_cons] at hl16 hl hil ecl
    have e0 : cd_emit t ((c, b) :: (d, a) :: r') = if c = 15 ∧ d = 15 ∧ ¬ ((t = 7 ∨ t = 8) ∧ b = 0) then (15, ev_join t a b) :: r' else (t, 0) :: (c, b) :: (d, a) :: r' := by
      unfold cd_emit; rw [if_neg (by omega)]
    rw [e0]
    have a3' : xa_step (xk_s u sp nm ss) (16 * S + r'.length) = nI d := a3.1
    have a4' : xa_number (xk_s u sp nm ss) (16 * S + r'.length) = a := a3.2.1
    by_cases c15 : c = 15
    · subst c15
      have e5 : nI (16 * S + (r'.length + 1)) - 1 = nI (16 * S + r'.length) := nI_pred _
      have hi5 : vp_in (nI (16 * S + r'.length)) 128 := vp_in_nI (by omega) (by omega)
      have ecl5 : (nI (16 * S + r'.length)).toNatClampNeg = 16 * S + r'.length := nI_clamp (by omega)
      have hst : ¬ xa_steps (xk_s u sp nm ss) S ≤ 1 := by
        rw [show xa_steps (xk_s u sp nm ss) S = nI ((15, b) :: (d, a) :: r').length from hss]
        exact nI_ge (a := 1) (by simp only [List.length_cons]; omega) (by simp only [List.length_cons]; omega)
      have enter2 : ∀ post : SX → Prop, ((d = 15 → xl_105 post (nI t) (nI (16 * S + (r'.length + 1))) 1 (xk_s u sp nm ss)) ∧
          (d ≠ 15 → xl_105 post (nI t) (nI (16 * S + (r'.length + 1))) 0 (xk_s u sp nm ss))) → wpX_emit post (xk_s u sp nm ss) (nI t) := by
        intro post h
        refine enter post ⟨fun _ => xe_b1 n14 cS hi8 hst e5 hi5 ecl5 ?_, fun h => absurd rfl h⟩
        rw [a3']
        exact br_c (fun e => h.1 ((nI_eq (b := 15) (by omega) (by omega)).mp e)) (fun e => h.2 (fun z => e (by rw [z]; rfl)))
      by_cases d15 : d = 15
      · subst d15
        by_cases z : (t = 7 ∨ t = 8) ∧ b = 0
        · rw [if_neg (fun h => h.2.2 z)]
          obtain ⟨sp', nm', ss', p1, p2, p3⟩ := plain
          refine ⟨sp', nm', ss', p1, p2, fun post hp => enter2 post ⟨fun _ => xe_div ?_ hil ecl (a2'.trans z.2) (p3 post hp), fun h => absurd rfl h⟩⟩
          rcases z.1 with rfl | rfl
          · exact Or.inl rfl
          · exact Or.inr rfl
        · rw [if_pos ⟨rfl, rfl, z⟩]
          refine ⟨sp, upd nm (16 * S + r'.length) (ev_join t a b), upd ss S (nI (r'.length + 1)), ?_, ?_, ?_⟩
          · exact ⟨by simp only [List.length_cons]; omega, pk_us, a3.1, pk_us, cd_ar_updn r' a3.2.2 (Nat.le_refl _)⟩
          · exact ⟨fun j hj => pk_un hj, fun j hj => ⟨rfl, pk_un (by omega)⟩⟩
          · intro post hp
            refine enter2 post ⟨fun _ => xe_fold (S := S) (m' := nI (r'.length + 1)) ht hil ecl e5 hi5 ecl5 cS hi8 ?_ (by rw [show xa_number (xk_s u sp nm ss) (16 * S + (r'.length + 1)) = b from a2']; exact z) ?_, fun h => absurd rfl h⟩
            · rw [show xa_steps (xk_s u sp nm ss) S = nI (r'.length + 1 + 1) from hss, nI_pred, zn_vb (by omega)]
            · rw [a4', show xa_number (xk_s u sp nm ss) (16 * S + (r'.length + 1)) = b from a2']
              exact hp
      · rw [if_neg (fun h => d15 h.2.1)]
        obtain ⟨sp', nm', ss', p1, p2, p3⟩ := plain
        exact ⟨sp', nm', ss', p1, p2, fun post hp => enter2 post ⟨fun h => absurd h d15, fun _ => xe_105 hil (p3 post hp)⟩⟩
    · rw [if_neg (fun h => c15 h.1)]
      obtain ⟨sp', nm', ss', p1, p2, p3⟩ := plain
      exact ⟨sp', nm', ss', p1, p2, fun post hp => enter post ⟨fun h => absurd h c15, fun _ => xe_b0 n14 (xe_105 hil (p3 post hp))⟩⟩
  · subst ht
    have e0 : cd_emit 14 ((c, b) :: r) = if c = 15 then (15, -b) :: r else (14, 0) :: (c, b) :: r := by
      unfold cd_emit; rw [if_pos rfl]
    rw [e0]
    by_cases c15 : c = 15
    · subst c15
      rw [if_pos rfl]
      refine ⟨sp, upd nm (16 * S + r.length) (-b), ss, ?_, ?_, ?_⟩
      · exact ⟨by simp only [List.length_cons]; omega, hss, a1, pk_us, cd_ar_updn r a3 (Nat.le_refl _)⟩
      · exact ⟨fun j hj => rfl, fun j hj => ⟨rfl, pk_un (by omega)⟩⟩
      · intro post hp
        refine enter post ⟨fun _ => xe_neg1 hil ecl ?_, fun h => absurd rfl h⟩
        rw [a2']
        exact hp
    · rw [if_neg c15]
      obtain ⟨sp', nm', ss', p1, p2, p3⟩ := plain
      exact ⟨sp', nm', ss', p1, p2, fun post hp => enter post ⟨fun h => absurd h c15, fun _ => xe_neg0 (p3 post hp)⟩⟩
end
end
section
/-! X: strength, release -/
theorem xw_strength {post : Int32 → Prop} {t : Nat} (h : t < 2000000) (hp : post (nI (sy_str t))) : wpX_strength post (nI t) := by
  unfold wpX_strength
  by_cases h4 : t < 4
  · have e : sy_str t = 0 := by
      unfold sy_str
      rw [if_neg (by omega), if_neg (by omega), if_neg (by omega), if_neg (by omega)]
    rw [e] at hp
    exact br_t (nI_lt (b := 4) h4 (by omega)) hp
  · refine br_f (nI_nlt (b := 4) (by omega) (by omega)) ?_
    by_cases h14 : 14 < t
    · have e : sy_str t = 0 := by
        unfold sy_str
        rw [if_neg (by omega), if_neg (by omega), if_neg (by omega), if_neg (by omega)]
      rw [e] at hp
      exact br_t (nI_lt (a := 14) h14 (by omega)) hp
    · refine br_f (nI_nlt (a := 14) (by omega) (by omega)) ?_
      have hc : t = 4 ∨ t = 5 ∨ t = 6 ∨ t = 7 ∨ t = 8 ∨ t = 9 ∨ t = 10 ∨ t = 11 ∨ t = 12 ∨ t = 13 ∨ t = 14 := by omega
      rcases hc with rfl | rfl | rfl | rfl | rfl | rfl | rfl | rfl | rfl | rfl | rfl
      · exact br_t rfl hp
      · exact br_f (by decide) (br_t rfl hp)
      · exact br_f (by decide) (br_f (by decide) (br_t rfl hp))
      · exact br_f (by decide) (br_f (by decide) (br_f (by decide) (br_t rfl hp)))
      · exact br_f (by decide) (br_f (by decide) (br_f (by decide) (br_f (by decide) (br_t rfl hp))))
      · exact br_f (by decide) (br_f (by decide) (br_f (by decide) (br_f (by decide) (br_f (by decide) (br_t rfl hp)))))
      · exact br_f (by decide) (br_f (by decide) (br_f (by decide) (br_f (by decide) (br_f (by decide) (br_f (by decide) (br_t rfl hp))))))
      · exact br_f (by decide) (br_f (by decide) (br_f (by decide) (br_f (by decide) (br_f (by decide) (br_f (by decide) (br_f (by decide) (br_t rfl hp)))))))
      · exact br_f (by decide) (br_f (by decide) (br_f (by decide) (br_f (by decide) (br_f (by decide) (br_f (by decide) (br_f (by decide) (br_f (by decide) (br_t rfl hp))))))))
      · exact br_f (by decide) (br_f (by decide) (br_f (by decide) (br_f (by decide) (br_f (by decide) (br_f (by decide) (br_f (by decide) (br_f (by decide) (br_f (by decide) (br_t rfl hp)))))))))
      · exact br_f (by decide) (br_f (by decide) (br_f (by decide) (br_f (by decide) (br_f (by decide) (br_f (by decide) (br_f (by decide) (br_f (by decide) (br_f (by decide) (br_f (by decide) (br_t rfl hp))))))))))
theorem sy_str_lt (t : Nat) : sy_str t < 5 := by
  unfold sy_str; split; omega; split; omega; split; omega; split <;> omega
def xr_m : List Nat → Int32
  | [] => 0
  | _ :: _ => 1
def xl_13 (post : SX → Prop) (l : Int32) (n : Nat) (z : Int32) (w : SX) : Prop := wX_release_13 post l n z (xa_limit w) (xa_source w) (xa_stages w) (xa_tokens w) (xa_wrongPlace w) (xa_waits w) (xa_parens w) (xa_opens w) (xa_from w) (xa_at w) (xa_ended w) (xa_spent w) (xa_stopped w) (xa_out w) (xa_lastStages w) (xa_failedStage w) (xa_shownCount w) (xa_element w) (xa_length w) (xa_kind w) (xa_constant w) (xa_step w) (xa_number w) (xa_steps w) (xa_quick w) (xa_token w) (xa_waiting w) (xa_compared w) (xa_operand w) (xa_memory w) (xa_begun w) (xa_place w) (xa_held w) (xa_keyOf w) (xa_next w) (xa_size w) (xa_head w) (xa_openStage w) (xa_openValue w) (xa_openLeft w) (xa_applications w) (xa_reads w) (xa_shown w)
section
variable {post : SX → Prop} {w : SX} {l : Nat} {f m t : Nat}
theorem r3_exit {l : Int32} (hp : post w) : xl_13 post l (f + 1) 0 w := br_t rfl hp
theorem r3_pre {p : Int32} {q : Nat} (hm : xa_waits w = nI (m + 1)) (hl : m < 16) (ho : xa_waiting w m = nI t) : vp_in (xa_waits w - 1) 16 ∧ xa_waiting w (xa_waits w - 1).toNatClampNeg = nI t ∧ xa_waits w - 1 = nI m := by
  rw [hm, nI_pred, nI_clamp (by omega)]
  exact ⟨vp_in_nI hl (by omega), ho, rfl⟩
theorem r3_go (hm : xa_waits w = nI (m + 1)) (hl : m < 16) (ho : xa_waiting w m = nI t) (ht : t < 2000000) (c : l ≤ sy_str t)
    (hw : wpX_emit (fun w' => (xa_waits w' ≤ 0 → xl_13 post (nI l) f 0 w') ∧ (¬ xa_waits w' ≤ 0 → xl_13 post (nI l) f 1 w')) (xs_waits w (nI m)) (nI t)) :
    xl_13 post (nI l) (f + 1) 1 w := by
  obtain ⟨p1, p2, p3⟩ := r3_pre (p := 0) (q := 0) hm hl ho
  have hs := sy_str_lt t
  exact br_f (by decide) (And.intro p1 (nm_r p2 (xw_strength ht (br_f (nI_nlt c (by omega)) (br_f (by decide) (nm_r p3 hw))))))
theorem r3_stop (hm : xa_waits w = nI (m + 1)) (hl : m < 16) (ho : xa_waiting w m = nI t) (ht : t < 2000000) (c : ¬ l ≤ sy_str t) (hl5 : l < 5)
    (hp : xl_13 post (nI l) f 0 w) : xl_13 post (nI l) (f + 1) 1 w := by
  obtain ⟨p1, p2, p3⟩ := r3_pre (p := 0) (q := 0) hm hl ho
  exact br_f (by decide) (And.intro p1 (nm_r p2 (xw_strength ht (br_t (nI_lt (by omega) (by omega)) (br_t rfl hp)))))
theorem r3_rel0 {l : Int32} (h : xa_waits w = 0) (hp : xl_13 post l f 0 w) : wpX_release post w l := br_t (show xa_waits w ≤ 0 by rw [h]; decide) (Exists.intro f hp)
theorem r3_rel1 {l : Int32} (h : ¬ xa_waits w ≤ 0) (hp : xl_13 post l f 1 w) : wpX_release post w l := br_f h (Exists.intro f hp)
end
theorem xr_k (u : SX) (ws : Int32) (sp nm ss : Nat → Int32) : xk_s (xs_waits u ws) sp nm ss = xr_s u ws sp nm ss := rfl
theorem xr_w (u : SX) (ws ws' : Int32) (sp nm ss : Nat → Int32) : xs_waits (xr_s u ws sp nm ss) ws' = xr_s u ws' sp nm ss := rfl
section
variable {u : SX} {S : Nat}
theorem xr_loop {l : Nat} (hS : xa_stages u = nI S) (h8 : S < 8) (hl1 : 1 ≤ l) (hl5 : l < 5) : ∀ (ops out : List Nat) (cs : List (Nat × Int32)) (sp nm ss : Nat → Int32),
    on_ar nI (xa_waiting u) ops → sy_opsOK ops → sy_wf out → sy_dp out = sy_nb ops + 1 → cd_rel cs out → xk_ok S sp nm ss cs → ops.length + out.length ≤ 16 →
    ∃ cs' sp' nm' ss', cd_rel cs' (sy_rel l ops out).2 ∧ xk_ok S sp' nm' ss' cs' ∧ xk_fr S sp' nm' ss' sp nm ss ∧
      on_ar nI (xa_waiting u) (sy_rel l ops out).1 ∧
      ∀ post : SX → Prop, post (xr_s u (nI (sy_rel l ops out).1.length) sp' nm' ss') →
        xl_13 post (nI l) (ops.length + 2) (xr_m ops) (xr_s u (nI ops.length) sp nm ss) := by
  intro ops
  induction ops with
  | nil =>
    intro out cs sp nm ss ho h1 h2 h3 hr hk hl
    exact ⟨cs, sp, nm, ss, hr, hk, xk_fr0, ho, fun post hp => r3_exit hp⟩
  | cons t ops ih =>
    intro out cs sp nm ss ho h1 h2 h3 hr hk hl
    have hl' := hl
    simp only [List.length_cons] at hl'
    have ht : t < 1000 := by
      rcases h1 t (List.mem_cons_self ..) with h | h | h <;> omega
    by_cases c : l ≤ sy_str t
    · have hn : t ≠ 12 := by
        intro h; subst h; rw [sy_str_12] at c; omega
      obtain ⟨b1, b2, b3, b4, b5, b6⟩ := sy_bal h1 h2 h3 hn
      have hcl := hr.2.2.1
      have hcd := cd_dple cs
      have hcd2 := hr.2.1
      obtain ⟨sp1, nm1, ss1, k1, k2, k3⟩ := xw_emit (u := xs_waits u (nI ops.length)) (t := t) hS h8 hk b1 (fun h => by have := b5 h; omega) (fun h => by have := b6 h; omega) (by omega) hr.1
      have hr1 : cd_rel (cd_emit t cs) (t :: out) := by
        rcases b1 with h | h
        · exact cd_rel_bin hr h2 h (b6 h)
        · subst h; exact cd_rel_neg hr h2 (b5 rfl)
      rw [sy_rel_pos c]
      obtain ⟨cs', sp', nm', ss', q1, q2, q3, q4, q5⟩ := ih (t :: out) (cd_emit t cs) sp1 nm1 ss1 ho.2 b2 b3 b4 hr1 k1 (by simp only [List.length_cons]; omega)
      refine ⟨cs', sp', nm', ss', q1, q2, xk_frt q3 k2, q4, fun post hp => ?_⟩
      refine r3_go (m := ops.length) (t := t) rfl (by omega) ho.1 (by omega) c ?_
      rw [xr_w, ← xr_k]
      refine k3 _ ?_
      rw [xr_k]
      have hq := q5 post hp
      match ops, hl', hq with
      | [], _, hq => exact br_t (show nI 0 ≤ 0 by decide) hq
      | _ :: _, hl', hq =>
        simp only [List.length_cons] at hl'
        exact br_f (show ¬ nI _ ≤ 0 from nI_nle (by simp) (by simp only [List.length_cons]; omega)) hq
    · rw [sy_rel_neg c]
      exact ⟨cs, sp, nm, ss, hr, hk, xk_fr0, ho, fun post hp => r3_stop (m := ops.length) (t := t) rfl (by omega) ho.1 (by omega) c hl5 (r3_exit hp)⟩
theorem xw_release {l : Nat} {ops out : List Nat} {cs : List (Nat × Int32)} {sp nm ss : Nat → Int32} (hS : xa_stages u = nI S) (h8 : S < 8) (hl1 : 1 ≤ l) (hl5 : l < 5)
    (ho : on_ar nI (xa_waiting u) ops) (h1 : sy_opsOK ops) (h2 : sy_wf out) (h3 : sy_dp out = sy_nb ops + 1) (hr : cd_rel cs out) (hk : xk_ok S sp nm ss cs)
    (hl : ops.length + out.length ≤ 16) :
    ∃ cs' sp' nm' ss', cd_rel cs' (sy_rel l ops out).2 ∧ xk_ok S sp' nm' ss' cs' ∧ xk_fr S sp' nm' ss' sp nm ss ∧
      on_ar nI (xa_waiting u) (sy_rel l ops out).1 ∧
      ∀ post : SX → Prop, post (xr_s u (nI (sy_rel l ops out).1.length) sp' nm' ss') →
        wpX_release post (xr_s u (nI ops.length) sp nm ss) (nI l) := by
  obtain ⟨cs', sp', nm', ss', q1, q2, q3, q4, q5⟩ := xr_loop hS h8 hl1 hl5 ops out cs sp nm ss ho h1 h2 h3 hr hk hl
  refine ⟨cs', sp', nm', ss', q1, q2, q3, q4, fun post hp => ?_⟩
  have hq := q5 post hp
  match ops, hl, hq with
  | [], _, hq => exact r3_rel0 rfl hq
  | _ :: _, hl, hq =>
    simp only [List.length_cons] at hl
    exact r3_rel1 (show ¬ nI _ ≤ 0 from nI_nle (by simp) (by simp only [List.length_cons]; omega)) hq
end
end
section
/-! pure: the scan of the tokens -/
def sc_step (opd : Bool) (cf : List Bool) (t : Nat) : List Bool :=
  if opd = true then (if t = 12 then false :: cf else cf) else if t = 13 then cf.tail else if sy_str t = 1 then true :: cf.tail else cf
def sc_run (tk : Nat → Nat) : Nat → List Bool
  | 0 => [false]
  | i + 1 => sc_step (sy_run tk i).2.2 (sc_run tk i) (tk i)
def sc_ok (J : Bool) (opd : Bool) (cf : List Bool) (t : Nat) : Prop :=
  (opd = true ∧ (t = 5 ∨ t = 12 ∨ 1000 ≤ t ∨ t = 1 ∨ t = 3 ∨ (t = 2 ∧ J = true))) ∨
  (opd = false ∧ ((t = 13 ∧ 1 < cf.length) ∨ ((4 ≤ t ∧ t ≤ 11) ∧ ¬ (sy_str t = 1 ∧ cf.headD false = true))))
def bo_ar (a : Nat → Int32) : List Bool → Prop
  | [] => True
  | b :: l => a l.length = yb_i b ∧ bo_ar a l
theorem bo_upd {a : Nat → Int32} {k : Nat} {v : Int32} : ∀ l : List Bool, bo_ar a l → l.length ≤ k → bo_ar (upd a k v) l
  | [], _, _ => trivial
  | w :: l, h, hk => by
    simp only [List.length_cons] at hk
    exact ⟨(pk_un (by omega)).trans h.1, bo_upd l h.2 (by omega)⟩
theorem sc_cnt_rel (l : Nat) (hl : 1 ≤ l) : ∀ ops out, (sy_rel l ops out).1.count 12 = ops.count 12 := by
  intro ops
  induction ops with
  | nil => intro out; rfl
  | cons t ops ih =>
    intro out
    by_cases c : l ≤ sy_str t
    · rw [sy_rel_pos c, ih]
      have hn : t ≠ 12 := by
        intro h; subst h; rw [sy_str_12] at c; omega
      rw [List.count_cons_of_ne hn]
    · rw [sy_rel_neg c]
/-- what a scan keeps: one flag a level -/
def sc_inv (st : List Nat × List Nat × Bool) (cf : List Bool) (i : Nat) : Prop := sy_inv st i ∧ cf.length = st.1.count 12 + 1 ∧ cf.length ≤ i + 1
theorem sc_okk {J : Bool} {st : List Nat × List Nat × Bool} {cf : List Bool} {t i : Nat} (h : sc_inv st cf i) (hk : sc_ok J st.2.2 cf t) : sy_ok st t := by
  rcases hk with ⟨a, b⟩ | ⟨a, b⟩
  · exact Or.inl ⟨a, by omega⟩
  · refine Or.inr ⟨a, ?_⟩
    rcases b with ⟨b, c⟩ | ⟨b, c⟩
    · refine Or.inl ⟨b, ?_⟩
      have := h.2.1
      exact List.count_pos_iff.mp (by omega)
    · exact Or.inr b
theorem sc_inv_step {J : Bool} {st : List Nat × List Nat × Bool} {cf : List Bool} {t i : Nat} (h : sc_inv st cf i) (hk : sc_ok J st.2.2 cf t) :
    sc_inv (sy_step st t) (sc_step st.2.2 cf t) (i + 1) := by
  have ho := sc_okk h hk
  refine ⟨sy_inv_step h.1 ho, ?_⟩
  obtain ⟨ops, out, opd⟩ := st
  obtain ⟨⟨i1, i2, i3, i4⟩, h2, h3⟩ := h
  dsimp only at i1 i2 i3 i4 h2 h3 hk ⊢
  rcases hk with ⟨a, b⟩ | ⟨a, b⟩
  · subst a
    by_cases c5 : t = 5
    · have e : sy_step (ops, out, true) t = (14 :: ops, out, true) := by
        unfold sy_step; rw [if_pos rfl, if_pos c5]
      have e2 : sc_step true cf t = cf := by
        unfold sc_step; rw [if_pos rfl, if_neg (by omega)]
      rw [e, e2]
      dsimp only
      rw [List.count_cons_of_ne (by decide)]
      omega
    · by_cases c12 : t = 12
      · have e : sy_step (ops, out, true) t = (12 :: ops, out, true) := by
          unfold sy_step; rw [if_pos rfl, if_neg c5, if_pos c12]
        have e2 : sc_step true cf t = false :: cf := by
          unfold sc_step; rw [if_pos rfl, if_pos c12]
        rw [e, e2]
        dsimp only
        rw [List.count_cons_self, List.length_cons]
        omega
      · have e : sy_step (ops, out, true) t = (ops, t :: out, false) := by
          unfold sy_step; rw [if_pos rfl, if_neg c5, if_neg c12]
        have e2 : sc_step true cf t = cf := by
          unfold sc_step; rw [if_pos rfl, if_neg c12]
        rw [e, e2]
        dsimp only
        omega
  · subst a
    rw [if_neg (by decide)] at i3
    by_cases c13 : t = 13
    · have e : sy_step (ops, out, false) t = ((sy_rel 1 ops out).1.tail, (sy_rel 1 ops out).2, false) := by
        unfold sy_step; rw [if_neg Bool.false_ne_true, if_pos c13]
      have e2 : sc_step false cf t = cf.tail := by
        unfold sc_step; rw [if_neg Bool.false_ne_true, if_pos c13]
      rw [e, e2]
      dsimp only
      have hc := sc_cnt_rel 1 (Nat.le_refl 1) ops out
      rcases sy_rel1 ops out i1 with ⟨ha, hb⟩ | ⟨r, hr⟩
      · exfalso
        have := List.count_eq_zero.mpr hb
        omega
      · rw [hr] at hc ⊢
        rw [List.count_cons_self] at hc
        rw [List.tail_cons, List.length_tail]
        omega
    · have e : sy_step (ops, out, false) t = (t :: (sy_rel (sy_str t) ops out).1, (sy_rel (sy_str t) ops out).2, true) := by
        unfold sy_step; rw [if_neg Bool.false_ne_true, if_neg c13]
      have hbt : 4 ≤ t ∧ t ≤ 11 := by omega
      rw [e]
      dsimp only
      rw [List.count_cons_of_ne (by omega), sc_cnt_rel (sy_str t) (sy_str_pos (Or.inl hbt)) ops out]
      have e2 : (sc_step false cf t).length = cf.length := by
        unfold sc_step; rw [if_neg Bool.false_ne_true, if_neg c13]
        split
        · rw [List.length_cons, List.length_tail]; omega
        · rfl
      omega
theorem sc_inv_run {J : Bool} {tk : Nat → Nat} : ∀ i, (∀ j, j < i → sc_ok J (sy_run tk j).2.2 (sc_run tk j) (tk j)) → sc_inv (sy_run tk i) (sc_run tk i) i
  | 0, _ => ⟨sy_inv0, rfl, Nat.le_refl 1⟩
  | i + 1, h => sc_inv_step (sc_inv_run i (fun j hj => h j (by omega))) (h i (by omega))
/-- the tokens are an expression -/
def sc_good (J : Bool) (tk : Nat → Nat) (n : Nat) : Prop :=
  (∀ j, j < n → sc_ok J (sy_run tk j).2.2 (sc_run tk j) (tk j)) ∧ (sy_run tk n).2.2 = false ∧ (sc_run tk n).length = 1
theorem sc_valid {J : Bool} {tk : Nat → Nat} {n : Nat} (h : sc_good J tk n) : sy_valid tk n := by
  refine ⟨fun j hj => sc_okk (sc_inv_run j (fun i hi => h.1 i (by omega))) (h.1 j hj), h.2.1, ?_⟩
  have hi := sc_inv_run n h.1
  have := hi.2.1
  have h3 := h.2.2
  exact List.count_eq_zero.mp (by omega)
end
section
/-! X: one token of translate -/
def xm_ww (u : SX) (z_waits : Int32) (z_waiting : Nat → Int32) : SX := (u.1, u.2.1, u.2.2.1, u.2.2.2.1, u.2.2.2.2.1, z_waits, u.2.2.2.2.2.2.1, u.2.2.2.2.2.2.2.1, u.2.2.2.2.2.2.2.2.1, u.2.2.2.2.2.2.2.2.2.1, u.2.2.2.2.2.2.2.2.2.2.1, u.2.2.2.2.2.2.2.2.2.2.2.1, u.2.2.2.2.2.2.2.2.2.2.2.2.1, u.2.2.2.2.2.2.2.2.2.2.2.2.2.1, u.2.2.2.2.2.2.2.2.2.2.2.2.2.2.1, u.2.2.2.2.2.2.2.2.2.2.2.2.2.2.2.1, u.2.2.2.2.2.2.2.2.2.2.2.2.2.2.2.2.1, u.2.2.2.2.2.2.2.2.2.2.2.2.2.2.2.2.2.1, u.2.2.2.2.2.2.2.2.2.2.2.2.2.2.2.2.2.2.1, u.2.2.2.2.2.2.2.2.2.2.2.2.2.2.2.2.2.2.2.1, u.2.2.2.2.2.2.2.2.2.2.2.2.2.2.2.2.2.2.2.2.1, u.2.2.2.2.2.2.2.2.2.2.2.2.2.2.2.2.2.2.2.2.2.1, u.2.2.2.2.2.2.2.2.2.2.2.2.2.2.2.2.2.2.2.2.2.2.1, u.2.2.2.2.2.2.2.2.2.2.2.2.2.2.2.2.2.2.2.2.2.2.2.1, u.2.2.2.2.2.2.2.2.2.2.2.2.2.2.2.2.2.2.2.2.2.2.2.2.1, u.2.2.2.2.2.2.2.2.2.2.2.2.2.2.2.2.2.2.2.2.2.2.2.2.2.1, z_waiting, u.2.2.2.2.2.2.2.2.2.2.2.2.2.2.2.2.2.2.2.2.2.2.2.2.2.2.2)
def xm_wp (u : SX) (z_waits : Int32) (z_parens : Int32) (z_waiting : Nat → Int32) (z_compared : Nat → Int32) : SX := (u.1, u.2.1, u.2.2.1, u.2.2.2.1, u.2.2.2.2.1, z_waits, z_parens, u.2.2.2.2.2.2.2.1, u.2.2.2.2.2.2.2.2.1, u.2.2.2.2.2.2.2.2.2.1, u.2.2.2.2.2.2.2.2.2.2.1, u.2.2.2.2.2.2.2.2.2.2.2.1, u.2.2.2.2.2.2.2.2.2.2.2.2.1, u.2.2.2.2.2.2.2.2.2.2.2.2.2.1, u.2.2.2.2.2.2.2.2.2.2.2.2.2.2.1, u.2.2.2.2.2.2.2.2.2.2.2.2.2.2.2.1, u.2.2.2.2.2.2.2.2.2.2.2.2.2.2.2.2.1, u.2.2.2.2.2.2.2.2.2.2.2.2.2.2.2.2.2.1, u.2.2.2.2.2.2.2.2.2.2.2.2.2.2.2.2.2.2.1, u.2.2.2.2.2.2.2.2.2.2.2.2.2.2.2.2.2.2.2.1, u.2.2.2.2.2.2.2.2.2.2.2.2.2.2.2.2.2.2.2.2.1, u.2.2.2.2.2.2.2.2.2.2.2.2.2.2.2.2.2.2.2.2.2.1, u.2.2.2.2.2.2.2.2.2.2.2.2.2.2.2.2.2.2.2.2.2.2.1, u.2.2.2.2.2.2.2.2.2.2.2.2.2.2.2.2.2.2.2.2.2.2.2.1, u.2.2.2.2.2.2.2.2.2.2.2.2.2.2.2.2.2.2.2.2.2.2.2.2.1, u.2.2.2.2.2.2.2.2.2.2.2.2.2.2.2.2.2.2.2.2.2.2.2.2.2.1, z_waiting, z_compared, u.2.2.2.2.2.2.2.2.2.2.2.2.2.2.2.2.2.2.2.2.2.2.2.2.2.2.2.2)
def xm_w2 (u : SX) (z_waits : Int32) (z_parens : Int32) : SX := (u.1, u.2.1, u.2.2.1, u.2.2.2.1, u.2.2.2.2.1, z_waits, z_parens, u.2.2.2.2.2.2.2)
section
variable {post : Int32 → SX → Prop} {w : SX} {j : Int32} {t q r : Nat}
theorem xb_5 (hi : vp_in (xa_waits w) 16) (e : (xa_waits w).toNatClampNeg = q) (hp : post 1 (xm_ww w (xa_waits w + 1) (upd (xa_waiting w) q 14))) : wpX_begins post w (nI 5) j := by
  subst e
  exact br_t rfl (nm_e (And.intro hi (nm_e hp)))
theorem xb_12 (hi : vp_in (xa_waits w) 16) (e : (xa_waits w).toNatClampNeg = q) (hi2 : vp_in (xa_parens w + 1) 17) (e2 : (xa_parens w + 1).toNatClampNeg = r)
    (hp : post 1 (xm_wp w (xa_waits w + 1) (xa_parens w + 1) (upd (xa_waiting w) q 12) (upd (xa_compared w) r 0))) : wpX_begins post w (nI 12) j := by
  subst e
  subst e2
  exact br_f (by decide) (br_t rfl (nm_e (And.intro hi (nm_e (nm_e (And.intro hi2 (nm_e hp)))))))
theorem xb_num (h : 1000 ≤ t) (htb : t < 1000000) (hp : wpX_add (fun w' => post 1 w') w 15 (nI t - 1000)) : wpX_begins post w (nI t) j :=
  br_f (fun h => absurd ((nI_eq (b := 5) (by omega) (by omega)).mp h) (by omega)) (br_f (fun h => absurd ((nI_eq (b := 12) (by omega) (by omega)).mp h) (by omega))
    (br_f (nI_ge (a := 999) (by omega) (by omega)) hp))
theorem xb_var (h : t = 1 ∨ t = 3 ∨ (t = 2 ∧ ¬ j = 0)) (hp : wpX_add (fun w' => post 1 w') w (nI t) 0) : wpX_begins post w (nI t) j := by
  rcases h with rfl | rfl | ⟨rfl, hj⟩
  · exact br_f (by decide) (br_f (by decide) (br_t (by decide) (br_t rfl hp)))
  · exact br_f (by decide) (br_f (by decide) (br_t (by decide) (br_f (by decide) (br_t rfl hp))))
  · exact br_f (by decide) (br_f (by decide) (br_t (by decide) (br_f (by decide) (br_f (by decide) (br_t rfl (br_f hj hp))))))
theorem xb_no (htb : t < 1000) (h5 : t ≠ 5) (h12 : t ≠ 12) (h1 : t ≠ 1) (h3 : t ≠ 3) (h2 : t = 2 → j = 0) (hp : post 0 w) : wpX_begins post w (nI t) j := by
  have ne : ∀ c : Nat, c < 1000 → t ≠ c → ¬ nI t = nI c := fun c hc h e => h ((nI_eq (by omega) (by omega)).mp e)
  refine br_f (ne 5 (by omega) h5) (br_f (ne 12 (by omega) h12) (br_t (nI_le (b := 999) (by omega) (by omega)) (br_f (ne 1 (by omega) h1) (br_f (ne 3 (by omega) h3) ?_))))
  by_cases t2 : t = 2
  · subst t2
    exact br_t rfl (br_t (h2 rfl) hp)
  · exact br_f (ne 2 (by omega) t2) hp
theorem xg_13 (h : ¬ xa_parens w = 0) (hp : wpX_release (fun w' => ∀ a : Int32, a = xa_waits w' - 1 → ∀ b : Int32, b = xa_parens w' - 1 → post 1 (xm_w2 w' a b)) w 1) : wpX_goesOn post w (nI 13) :=
  br_t rfl (br_f h hp)
theorem xg_13no (h : xa_parens w = 0) (hp : post 0 w) : wpX_goesOn post w (nI 13) := br_t rfl (br_t h hp)
theorem xg_no (htb : t < 1000000) (h13 : t ≠ 13) (h : sy_str t = 0) (hp : post 0 w) : wpX_goesOn post w (nI t) :=
  br_f (fun h => absurd ((nI_eq (b := 13) (by omega) (by omega)).mp h) h13) (xw_strength (by omega) (br_t (by rw [h]; rfl) hp))
theorem xg_cno (htb : t < 1000000) (h13 : t ≠ 13) (h : sy_str t = 1) (hi : vp_in (xa_parens w) 17) (e : (xa_parens w).toNatClampNeg = q) (hc : ¬ xa_compared w q = 0) (hp : post 0 w) : wpX_goesOn post w (nI t) := by
  subst e
  exact br_f (fun h => absurd ((nI_eq (b := 13) (by omega) (by omega)).mp h) h13) (xw_strength (by omega) (br_f (by rw [h]; decide) (br_t (by rw [h]; rfl) (And.intro hi (br_f hc hp)))))
theorem xg_tail {c' : Int32} (htb : t < 128) (h : wpX_release (fun w' => vp_in (xa_waits w') 16 ∧ post 1 (xm_ww w' (xa_waits w' + 1) (upd (xa_waiting w') (xa_waits w').toNatClampNeg (nI t)))) w (nI (sy_str t))) :
    wX_goesOn_85 post (nI t) (nI (sy_str t)) (xa_limit w) (xa_source w) (xa_stages w) (xa_tokens w) (xa_wrongPlace w) (xa_waits w) (xa_parens w) (xa_opens w) (xa_from w) (xa_at w) (xa_ended w) (xa_spent w) (xa_stopped w) (xa_out w) (xa_lastStages w) (xa_failedStage w) (xa_shownCount w) (xa_element w) (xa_length w) (xa_kind w) (xa_constant w) (xa_step w) (xa_number w) (xa_steps w) (xa_quick w) (xa_token w) (xa_waiting w) (xa_compared w) (xa_operand w) (xa_memory w) (xa_begun w) (xa_place w) (xa_held w) (xa_keyOf w) (xa_next w) (xa_size w) (xa_head w) (xa_openStage w) (xa_openValue w) (xa_openLeft w) (xa_applications w) (xa_reads w) (xa_shown w) := by
  have ev : vp_nar .byte (nI t).toInt8.toInt32 = nI t := zn_vb htb
  unfold wX_goesOn_85
  rw [ev]
  have hm : ∀ w' : SX, (vp_in (xa_waits w') 16 ∧ post 1 (xm_ww w' (xa_waits w' + 1) (upd (xa_waiting w') (xa_waits w').toNatClampNeg (nI t)))) =
      (∀ z : Int32, z = xa_waits w' + 1 → (vp_in (xa_waits w') 16 ∧ ∀ a : Nat → Int32, a = upd (xa_waiting w') (xa_waits w').toNatClampNeg (nI t) → post 1 (xm_ww w' z a))) := by
    intro w'
    refine propext ⟨fun h => nm_e ⟨h.1, nm_e h.2⟩, fun h => ?_⟩
    have := h _ rfl
    exact ⟨this.1, this.2 _ rfl⟩
  have h' := h
  rw [funext hm] at h'
  exact h'
theorem xg_op1 (htb : t < 128) (h13 : t ≠ 13) (h : sy_str t = 1) (hi : vp_in (xa_parens w) 17) (e : (xa_parens w).toNatClampNeg = q) (hc : xa_compared w q = 0)
    (hp : wpX_release (fun w' => vp_in (xa_waits w') 16 ∧ post 1 (xm_ww w' (xa_waits w' + 1) (upd (xa_waiting w') (xa_waits w').toNatClampNeg (nI t)))) (xs_compared w (upd (xa_compared w) q 1)) (nI (sy_str t))) :
    wpX_goesOn post w (nI t) := by
  subst e
  have h85 := xg_tail (c' := 0) htb hp
  exact br_f (fun h => absurd ((nI_eq (b := 13) (by omega) (by omega)).mp h) h13) (xw_strength (by omega) (br_f (by rw [h]; decide) (br_t (by rw [h]; rfl) (And.intro hi (br_t hc (br_t (by rw [h]; rfl) (And.intro hi (nm_e h85))))))))
theorem xg_op (htb : t < 128) (h13 : t ≠ 13) (h0 : 0 < sy_str t) (h : sy_str t ≠ 1)
    (hp : wpX_release (fun w' => vp_in (xa_waits w') 16 ∧ post 1 (xm_ww w' (xa_waits w' + 1) (upd (xa_waiting w') (xa_waits w').toNatClampNeg (nI t)))) w (nI (sy_str t))) :
    wpX_goesOn post w (nI t) := by
  have h85 := xg_tail (c' := 0) htb hp
  have hs := sy_str_lt t
  have hn1 : ¬ nI (sy_str t) = 1 := fun e => h ((nI_eq (b := 1) (by omega) (by omega)).mp e)
  exact br_f (fun h => absurd ((nI_eq (b := 13) (by omega) (by omega)).mp h) h13) (xw_strength (by omega) (br_f (nI_ne0 h0 (by omega)) (br_f hn1 (br_f hn1 h85))))
end
theorem xt_k (u : SX) (ws ps : Int32) (wt cp sp nm ss : Nat → Int32) : xt_s u ws ps wt cp sp nm ss = xk_s (xs_waits (xc_s u ps wt cp) ws) sp nm ss := rfl
theorem xt_r (u : SX) (ws ps : Int32) (wt cp sp nm ss : Nat → Int32) : xt_s u ws ps wt cp sp nm ss = xr_s (xc_s u ps wt cp) ws sp nm ss := rfl
theorem xt_ww (u : SX) (ws ps ws' : Int32) (wt cp sp nm ss wt' : Nat → Int32) : xm_ww (xt_s u ws ps wt cp sp nm ss) ws' wt' = xt_s u ws' ps wt' cp sp nm ss := rfl
theorem xt_wp (u : SX) (ws ps ws' ps' : Int32) (wt cp sp nm ss wt' cp' : Nat → Int32) : xm_wp (xt_s u ws ps wt cp sp nm ss) ws' ps' wt' cp' = xt_s u ws' ps' wt' cp' sp nm ss := rfl
theorem xt_w2 (u : SX) (ws ps ws' ps' : Int32) (wt cp sp nm ss : Nat → Int32) : xm_w2 (xt_s u ws ps wt cp sp nm ss) ws' ps' = xt_s u ws' ps' wt cp sp nm ss := rfl
theorem xt_cp (u : SX) (ws ps : Int32) (wt cp sp nm ss cp' : Nat → Int32) : xs_compared (xt_s u ws ps wt cp sp nm ss) cp' = xt_s u ws ps wt cp' sp nm ss := rfl
def xt_inv (S : Nat) (sp0 nm0 ss0 : Nat → Int32) (ops out : List Nat) (cf : List Bool) (wt cp sp nm ss : Nat → Int32) : Prop :=
  on_ar nI wt ops ∧ bo_ar cp cf ∧ xk_fr S sp nm ss sp0 nm0 ss0 ∧ ∃ cs, cd_rel cs out ∧ xk_ok S sp nm ss cs
section
variable {u : SX} {S : Nat} {sp0 nm0 ss0 : Nat → Int32}
/-- a token that fits -/
theorem xt_tok {J : Bool} {ops out : List Nat} {opd : Bool} {cf : List Bool} {t i : Nat} {wt cp sp nm ss : Nat → Int32} (hS : xa_stages u = nI S) (h8 : S < 8)
    (hi : sc_inv (ops, out, opd) cf i) (hi16 : i < 16) (ht : t < 1000000) (hk : sc_ok J opd cf t) (h : xt_inv S sp0 nm0 ss0 ops out cf wt cp sp nm ss) :
    ∃ wt' cp' sp' nm' ss', xt_inv S sp0 nm0 ss0 (sy_step (ops, out, opd) t).1 (sy_step (ops, out, opd) t).2.1 (sc_step opd cf t) wt' cp' sp' nm' ss' ∧
      ∀ post : Int32 → SX → Prop, post 1 (xt_s u (nI (sy_step (ops, out, opd) t).1.length) (nI ((sc_step opd cf t).length - 1)) wt' cp' sp' nm' ss') →
        (opd = true → wpX_begins post (xt_s u (nI ops.length) (nI (cf.length - 1)) wt cp sp nm ss) (nI t) (yb_i J)) ∧
        (opd = false → wpX_goesOn post (xt_s u (nI ops.length) (nI (cf.length - 1)) wt cp sp nm ss) (nI t)) := by
  obtain ⟨ho, hb, hf, cs, hr, hko⟩ := h
  obtain ⟨⟨i1, i2, i3, i4⟩, hc1, hc2⟩ := hi
  dsimp only at i1 i2 i3 i4 hc1
  have hio : vp_in (nI ops.length) 16 := vp_in_nI (by omega) (by omega)
  have clo : (nI ops.length).toNatClampNeg = ops.length := nI_clamp (by omega)
  have hcl := hr.2.2.1
  rcases hk with ⟨o, hk⟩ | ⟨o, hk⟩
  · subst o
    by_cases c5 : t = 5
    · subst c5
      have e : sy_step (ops, out, true) 5 = (14 :: ops, out, true) := rfl
      have e2 : sc_step true cf 5 = cf := rfl
      rw [e, e2]
      refine ⟨upd wt ops.length 14, cp, sp, nm, ss, ⟨on_push (f := nI) (t := 14) ho, hb, hf, cs, hr, hko⟩, fun post hp => ⟨fun _ => ?_, fun h => Bool.noConfusion h⟩⟩
      refine xb_5 hio clo ?_
      rw [show xa_waits (xt_s u (nI ops.length) (nI (cf.length - 1)) wt cp sp nm ss) + 1 = nI (ops.length + 1) from nI_1 _, xt_ww]
      exact hp
    · by_cases c12 : t = 12
      · subst c12
        have e : sy_step (ops, out, true) 12 = (12 :: ops, out, true) := rfl
        have e2 : sc_step true cf 12 = false :: cf := rfl
        rw [e, e2]
        have ep : nI (cf.length - 1) + 1 = nI cf.length := by rw [nI_1]; exact congrArg nI (by omega)
        refine ⟨upd wt ops.length 12, upd cp cf.length 0, sp, nm, ss, ⟨on_push (f := nI) (t := 12) ho, ⟨pk_us, bo_upd cf hb (Nat.le_refl _)⟩, hf, cs, hr, hko⟩, fun post hp => ⟨fun _ => ?_, fun h => Bool.noConfusion h⟩⟩
        have ep' : xa_parens (xt_s u (nI ops.length) (nI (cf.length - 1)) wt cp sp nm ss) + 1 = nI cf.length := ep
        refine xb_12 (r := cf.length) hio clo (by rw [ep']; exact vp_in_nI (by omega) (by omega)) (by rw [ep']; exact nI_clamp (by omega)) ?_
        rw [show xa_waits (xt_s u (nI ops.length) (nI (cf.length - 1)) wt cp sp nm ss) + 1 = nI (ops.length + 1) from nI_1 _, ep', xt_wp]
        exact hp
      · have e : sy_step (ops, out, true) t = (ops, t :: out, false) := by
          unfold sy_step; rw [if_pos rfl, if_neg c5, if_neg c12]
        have e2 : sc_step true cf t = cf := by
          unfold sc_step; rw [if_pos rfl, if_neg c12]
        rw [e, e2]
        have hlc : cs.length < 16 := by omega
        have hrel := cd_rel_opd (t := t) hr (by omega)
        by_cases c : 1000 ≤ t
        · have ec : cd_of t = (15, nI t - 1000) := if_pos c
          rw [ec] at hrel
          obtain ⟨a, b⟩ := xk_add (S := S) (sp := sp) (nm := nm) (ss := ss) (cs := cs) (c := 15) (n := nI t - 1000) hko hlc
          refine ⟨wt, cp, _, _, _, ⟨ho, hb, xk_frt b hf, _, hrel, a⟩, fun post hp => ⟨fun _ => ?_, fun h => Bool.noConfusion h⟩⟩
          rw [xt_k] at hp ⊢
          exact xb_num c ht (xw_add (c := 15) (cs := cs) hS h8 hko.2.1 hlc (by omega) hp)
        · have ec : cd_of t = (t, 0) := if_neg c
          rw [ec] at hrel
          obtain ⟨a, b⟩ := xk_add (S := S) (sp := sp) (nm := nm) (ss := ss) (cs := cs) (c := t) (n := 0) hko hlc
          refine ⟨wt, cp, _, _, _, ⟨ho, hb, xk_frt b hf, _, hrel, a⟩, fun post hp => ⟨fun _ => ?_, fun h => Bool.noConfusion h⟩⟩
          rw [xt_k] at hp ⊢
          refine xb_var ?_ (xw_add (c := t) (cs := cs) hS h8 hko.2.1 hlc (by omega) hp)
          rcases hk with h | h | h | h | h | h
          · omega
          · omega
          · omega
          · exact Or.inl h
          · exact Or.inr (Or.inl h)
          · exact Or.inr (Or.inr ⟨h.1, by rw [h.2]; decide⟩)
  · subst o
    rw [if_neg (by decide)] at i3
    by_cases c13 : t = 13
    · subst c13
      have e : sy_step (ops, out, false) 13 = ((sy_rel 1 ops out).1.tail, (sy_rel 1 ops out).2, false) := rfl
      have e2 : sc_step false cf 13 = cf.tail := rfl
      rw [e, e2]
      have hcf : 1 < cf.length := by
        rcases hk with ⟨_, h⟩ | ⟨h, _⟩
        · exact h
        · omega
      obtain ⟨cs', sp', nm', ss', q1, q2, q3, q4, q5⟩ := xw_release (u := xc_s u (nI (cf.length - 1)) wt cp) (l := 1) hS h8 (Nat.le_refl 1) (by omega) ho i1 i2 i3 hr hko (by omega)
      have hrl := (sy_rel_inv 1 (Nat.le_refl 1) ops out i1 i2 i3).2.2.2.1
      rcases sy_rel1 ops out i1 with ⟨ha, hb'⟩ | ⟨r, hrr⟩
      · exfalso
        have := List.count_eq_zero.mpr hb'
        omega
      · rw [hrr] at q4 q5 ⊢
        match cf, hcf, hb, hc1, hc2, q5 with
        | f1 :: f2 :: cf2, hcf, hb, hc1, hc2, q5 =>
        refine ⟨wt, cp, sp', nm', ss', ⟨q4.2, hb.2, xk_frt q3 hf, cs', q1, q2⟩, fun post hp => ⟨fun h => Bool.noConfusion h, fun _ => ?_⟩⟩
        rw [xt_r]
        refine xg_13 (show ¬ nI (f2 :: cf2).length = 0 from nI_ne0 (by simp) (by simp only [List.length_cons] at hc2 ⊢; omega)) (q5 _ ?_)
        refine nm_r (e' := nI r.length) (nI_pred _) (nm_r (e' := nI cf2.length) (nI_pred _) ?_)
        rw [← xt_r, xt_w2]
        exact hp
    · have hbt : (4 ≤ t ∧ t ≤ 11) ∧ ¬ (sy_str t = 1 ∧ cf.headD false = true) := by
        rcases hk with ⟨h, _⟩ | h
        · exact absurd h c13
        · exact h
      obtain ⟨hbt, hcmp⟩ := hbt
      have e : sy_step (ops, out, false) t = (t :: (sy_rel (sy_str t) ops out).1, (sy_rel (sy_str t) ops out).2, true) := by
        unfold sy_step; rw [if_neg Bool.false_ne_true, if_neg c13]
      have e2 : sc_step false cf t = if sy_str t = 1 then true :: cf.tail else cf := by
        unfold sc_step; rw [if_neg Bool.false_ne_true, if_neg c13]
      rw [e, e2]
      have hs1 := sy_str_pos (Or.inl hbt)
      have hs5 := sy_str_lt t
      match cf, hb, hc1, hc2, hcmp with
      | [], _, hc1, _, _ => exact absurd hc1 (by simp)
      | f0 :: cf0, hb, hc1, hc2, hcmp =>
      simp only [List.length_cons] at hc1 hc2
      have hip : vp_in (nI ((f0 :: cf0).length - 1)) 17 := vp_in_nI (by simp only [List.length_cons]; omega) (by omega)
      have clp : (nI ((f0 :: cf0).length - 1)).toNatClampNeg = cf0.length := nI_clamp (by simp only [List.length_cons]; omega)
      have hrl := (sy_rel_inv (sy_str t) hs1 ops out i1 i2 i3).2.2.2.1
      have tail : ∀ cp1 : Nat → Int32, ∃ sp' nm' ss', xk_fr S sp' nm' ss' sp nm ss ∧ on_ar nI (upd wt (sy_rel (sy_str t) ops out).1.length (nI t)) (t :: (sy_rel (sy_str t) ops out).1) ∧
          (∃ cs', cd_rel cs' (sy_rel (sy_str t) ops out).2 ∧ xk_ok S sp' nm' ss' cs') ∧ ∀ post : Int32 → SX → Prop,
          post 1 (xt_s u (nI (t :: (sy_rel (sy_str t) ops out).1).length) (nI ((f0 :: cf0).length - 1)) (upd wt (sy_rel (sy_str t) ops out).1.length (nI t)) cp1 sp' nm' ss') →
          wpX_release (fun w' => vp_in (xa_waits w') 16 ∧ post 1 (xm_ww w' (xa_waits w' + 1) (upd (xa_waiting w') (xa_waits w').toNatClampNeg (nI t))))
            (xt_s u (nI ops.length) (nI ((f0 :: cf0).length - 1)) wt cp1 sp nm ss) (nI (sy_str t)) := by
        intro cp1
        obtain ⟨cs', sp', nm', ss', q1, q2, q3, q4, q5⟩ := xw_release (u := xc_s u (nI ((f0 :: cf0).length - 1)) wt cp1) (l := sy_str t) hS h8 hs1 hs5 ho i1 i2 i3 hr hko (by omega)
        refine ⟨sp', nm', ss', q3, on_push q4, ⟨cs', q1, q2⟩, fun post hp => ?_⟩
        rw [xt_r]
        refine q5 _ ⟨show vp_in (nI (sy_rel (sy_str t) ops out).1.length) 16 from vp_in_nI (by omega) (by omega), ?_⟩
        rw [← xt_r, show (xa_waits (xt_s u (nI (sy_rel (sy_str t) ops out).1.length) (nI ((f0 :: cf0).length - 1)) wt cp1 sp' nm' ss')).toNatClampNeg = (sy_rel (sy_str t) ops out).1.length from nI_clamp (by omega),
          show xa_waits (xt_s u (nI (sy_rel (sy_str t) ops out).1.length) (nI ((f0 :: cf0).length - 1)) wt cp1 sp' nm' ss') + 1 = nI ((sy_rel (sy_str t) ops out).1.length + 1) from nI_1 _, xt_ww]
        exact hp
      by_cases h1 : sy_str t = 1
      · rw [if_pos h1]
        have hf0 : f0 = false := by
          cases f0 with
          | false => rfl
          | true => exact absurd ⟨h1, rfl⟩ hcmp
        obtain ⟨sp', nm', ss', q3, q4, ⟨cs', q1, q2⟩, q5⟩ := tail (upd cp cf0.length 1)
        refine ⟨_, _, sp', nm', ss', ⟨q4, ⟨pk_us, bo_upd cf0 hb.2 (Nat.le_refl _)⟩, xk_frt q3 hf, cs', q1, q2⟩, fun post hp => ⟨fun h => Bool.noConfusion h, fun _ => ?_⟩⟩
        refine xg_op1 (q := cf0.length) (by omega) c13 h1 hip clp (by rw [show xa_compared (xt_s u (nI ops.length) (nI ((f0 :: cf0).length - 1)) wt cp sp nm ss) cf0.length = yb_i f0 from hb.1, hf0]; rfl) ?_
        rw [xt_cp]
        exact q5 post hp
      · rw [if_neg h1]
        obtain ⟨sp', nm', ss', q3, q4, ⟨cs', q1, q2⟩, q5⟩ := tail cp
        exact ⟨_, _, sp', nm', ss', ⟨q4, hb, xk_frt q3 hf, cs', q1, q2⟩, fun post hp => ⟨fun h => Bool.noConfusion h, fun _ => xg_op (by omega) c13 (by omega) h1 (q5 post hp)⟩⟩
/-- a token that doesn't -/
theorem xt_bad {J : Bool} {ops out : List Nat} {opd : Bool} {cf : List Bool} {t i : Nat} {wt cp sp nm ss : Nat → Int32}
    (hi : sc_inv (ops, out, opd) cf i) (hi16 : i < 16) (ht : t < 1000000) (ht2 : t ≤ 13 ∨ 1000 ≤ t) (hk : ¬ sc_ok J opd cf t) (hb : bo_ar cp cf)
    (post : Int32 → SX → Prop) (hp : post 0 (xt_s u (nI ops.length) (nI (cf.length - 1)) wt cp sp nm ss)) :
        (opd = true → wpX_begins post (xt_s u (nI ops.length) (nI (cf.length - 1)) wt cp sp nm ss) (nI t) (yb_i J)) ∧
        (opd = false → wpX_goesOn post (xt_s u (nI ops.length) (nI (cf.length - 1)) wt cp sp nm ss) (nI t)) := by
  obtain ⟨⟨i1, i2, i3, i4⟩, hc1, hc2⟩ := hi
  dsimp only at hc1
  refine ⟨fun o => ?_, fun o => ?_⟩
  · subst o
    have hk' : ¬ (t = 5 ∨ t = 12 ∨ 1000 ≤ t ∨ t = 1 ∨ t = 3 ∨ (t = 2 ∧ J = true)) := fun h => hk (Or.inl ⟨rfl, h⟩)
    refine xb_no (by omega) (by omega) (by omega) (by omega) (by omega) (fun t2 => ?_) hp
    cases J with
    | false => rfl
    | true => exact absurd (Or.inr (Or.inr (Or.inr (Or.inr (Or.inr ⟨t2, rfl⟩))))) hk'
  · subst o
    by_cases c13 : t = 13
    · subst c13
      have hl : ¬ 1 < cf.length := fun h => hk (Or.inr ⟨rfl, Or.inl ⟨rfl, h⟩⟩)
      refine xg_13no ?_ hp
      show nI (cf.length - 1) = 0
      rw [show cf.length - 1 = 0 by omega]
      rfl
    · by_cases hbt : 4 ≤ t ∧ t ≤ 11
      · have h1 : sy_str t = 1 ∧ cf.headD false = true := by
          by_cases h : sy_str t = 1 ∧ cf.headD false = true
          · exact h
          · exact absurd (Or.inr ⟨rfl, Or.inr ⟨hbt, h⟩⟩) hk
        obtain ⟨h1, h2⟩ := h1
        match cf, hb, h2, hc2, hp with
        | f0 :: cf0, hb, h2, hc2, hp =>
        simp only [List.length_cons] at hc2
        have hf : f0 = true := h2
        refine xg_cno (q := cf0.length) (by omega) c13 h1 (show vp_in (nI ((f0 :: cf0).length - 1)) 17 from vp_in_nI (by simp only [List.length_cons]; omega) (by omega))
          (show (nI ((f0 :: cf0).length - 1)).toNatClampNeg = cf0.length from nI_clamp (by simp only [List.length_cons]; omega)) ?_ hp
        rw [show xa_compared (xt_s u (nI ops.length) (nI ((f0 :: cf0).length - 1)) wt cp sp nm ss) cf0.length = yb_i f0 from hb.1, hf]
        decide
      · have e : sy_str t = 0 := by
          unfold sy_str
          rw [if_neg (by omega), if_neg (by omega), if_neg (by omega), if_neg (by omega)]
        exact xg_no ht c13 e hp
end
end
section
/-! X: translate -/
def xl_32 (post : Int32 → SX → Prop) (n j : Int32) (f : Nat) (o i : Int32) (w : SX) : Prop := wX_translate_32 post n j f o i (xa_limit w) (xa_source w) (xa_stages w) (xa_tokens w) (xa_wrongPlace w) (xa_waits w) (xa_parens w) (xa_opens w) (xa_from w) (xa_at w) (xa_ended w) (xa_spent w) (xa_stopped w) (xa_out w) (xa_lastStages w) (xa_failedStage w) (xa_shownCount w) (xa_element w) (xa_length w) (xa_kind w) (xa_constant w) (xa_step w) (xa_number w) (xa_steps w) (xa_quick w) (xa_token w) (xa_waiting w) (xa_compared w) (xa_operand w) (xa_memory w) (xa_begun w) (xa_place w) (xa_held w) (xa_keyOf w) (xa_next w) (xa_size w) (xa_head w) (xa_openStage w) (xa_openValue w) (xa_openLeft w) (xa_applications w) (xa_reads w) (xa_shown w)
def xl_67 (post : Int32 → SX → Prop) (n j : Int32) (f : Nat) (o i t r : Int32) (w : SX) : Prop := wX_translate_67 post (wX_translate_32 post n j f) n j o i t r (xa_limit w) (xa_source w) (xa_stages w) (xa_tokens w) (xa_wrongPlace w) (xa_waits w) (xa_parens w) (xa_opens w) (xa_from w) (xa_at w) (xa_ended w) (xa_spent w) (xa_stopped w) (xa_out w) (xa_lastStages w) (xa_failedStage w) (xa_shownCount w) (xa_element w) (xa_length w) (xa_kind w) (xa_constant w) (xa_step w) (xa_number w) (xa_steps w) (xa_quick w) (xa_token w) (xa_waiting w) (xa_compared w) (xa_operand w) (xa_memory w) (xa_begun w) (xa_place w) (xa_held w) (xa_keyOf w) (xa_next w) (xa_size w) (xa_head w) (xa_openStage w) (xa_openValue w) (xa_openLeft w) (xa_applications w) (xa_reads w) (xa_shown w)
def xq_n (post : Int32 → SX → Prop) (w : SX) (z : Int32) : Prop :=
  vp_in (xa_stages w) 8 ∧ ∀ q : Nat → Int32, q = upd (xa_quick w) (xa_stages w).toNatClampNeg (vp_nar .boolean z) → post (-1) (xs_quick w q)
def xq_b (post : Int32 → SX → Prop) (w : SX) : Prop :=
  ∀ x4 : Int32, x4 = 16 * xa_stages w → (vp_in (xa_stages w) 8 ∧
    ((xa_steps w (xa_stages w).toNatClampNeg = 3 → (vp_in x4 128 ∧ ((xa_step w x4.toNatClampNeg = 1 → (vp_in (x4 + 1) 128 ∧ ((xa_step w (x4 + 1).toNatClampNeg = 15 → xq_n post w 1) ∧
      (¬ xa_step w (x4 + 1).toNatClampNeg = 15 → xq_n post w 0)))) ∧ (¬ xa_step w x4.toNatClampNeg = 1 → xq_n post w 0)))) ∧
     (¬ xa_steps w (xa_stages w).toNatClampNeg = 3 → xq_n post w 0)))
section
variable {post : Int32 → SX → Prop} {w : SX} {j : Int32} {n i t f : Nat} {opd : Bool}
theorem t3_next (hn : n ≤ 16) (hi : i < n) (ht : xa_token w i = nI t)
    (h : (opd = true → wpX_begins (fun r w' => xl_67 post (nI n) j f (yb_i opd) (nI i) (nI t) r w') w (nI t) j) ∧
      (opd = false → wpX_goesOn (fun r w' => xl_67 post (nI n) j f (yb_i opd) (nI i) (nI t) r w') w (nI t))) :
    xl_32 post (nI n) j (f + 1) (yb_i opd) (nI i) w := by
  have e : (nI i).toNatClampNeg = i := nI_clamp (by omega)
  refine br_f (nI_ge hi (by omega)) (And.intro (vp_in_nI (by omega) (by omega)) ?_)
  rw [e]
  refine nm_r ht ?_
  cases opd with
  | false => exact br_t rfl (h.2 rfl)
  | true => exact br_f (by decide) (h.1 rfl)
theorem t3_ok (htb : t < 1000000) (hp : xl_32 post (nI n) j f (yb_i (if opd = true then decide (t = 5 ∨ t = 12) else decide (t ≠ 13))) (nI (i + 1)) w) :
    xl_67 post (nI n) j f (yb_i opd) (nI i) (nI t) 1 w := by
  refine br_f (by decide) ?_
  cases opd with
  | false =>
    rw [if_neg Bool.false_ne_true] at hp
    refine br_t rfl (br_c (fun h => nm_r (nI_1 i) ?_) (fun h => nm_r (nI_1 i) ?_))
    · have : t = 13 := (nI_eq (b := 13) (by omega) (by omega)).mp h
      subst this
      exact hp
    · have : t ≠ 13 := fun z => h (by rw [z]; rfl)
      rw [decide_eq_true this] at hp
      exact hp
  | true =>
    rw [if_pos rfl] at hp
    refine br_f (by decide) (br_c (fun h => nm_r (nI_1 i) ?_) (fun h5 => br_c (fun h => nm_r (nI_1 i) ?_) (fun h12 => nm_r (nI_1 i) ?_)))
    · have : t = 5 := (nI_eq (b := 5) (by omega) (by omega)).mp h
      subst this
      exact hp
    · have : t = 12 := (nI_eq (b := 12) (by omega) (by omega)).mp h
      subst this
      exact hp
    · have : ¬ (t = 5 ∨ t = 12) := fun z => by
        rcases z with z | z
        · exact h5 (by rw [z]; rfl)
        · exact h12 (by rw [z]; rfl)
      rw [decide_eq_false this] at hp
      exact hp
theorem t3_no {o t : Int32} (hp : post (nI i) w) : xl_67 post (nI n) j f o (nI i) t 0 w := br_t rfl hp
theorem t3_inc (hn : n ≤ 16) (h : opd = true ∨ ¬ xa_parens w ≤ 0) (hp : post (nI n) w) : xl_32 post (nI n) j (f + 1) (yb_i opd) (nI n) w := by
  refine br_t (nI_le (Nat.le_refl n) (by omega)) ?_
  cases opd with
  | true => exact br_f (by decide) hp
  | false => exact br_t rfl (br_f (h.resolve_left Bool.false_ne_true) hp)
theorem t3_fin (hn : n ≤ 16) (h : xa_parens w ≤ 0) (hp : wpX_release (fun w' => xq_b post w') w 1) : xl_32 post (nI n) j (f + 1) 0 (nI n) w :=
  br_t (nI_le (Nat.le_refl n) (by omega)) (br_t rfl (br_t h hp))
end
theorem xq_nn {post : Int32 → SX → Prop} {w : SX} {S : Nat} {z z' : Int32} (hS : xa_stages w = nI S) (h8 : S < 8) (hz : vp_nar .boolean z = z') (hp : post (-1) (xs_quick w (upd (xa_quick w) S z'))) : xq_n post w z := by
  subst hz
  unfold xq_n
  rw [hS, nI_clamp (by omega)]
  exact ⟨vp_in_nI h8 (by omega), nm_e hp⟩
theorem xq_quick {w : SX} {S : Nat} {cs : List (Nat × Int32)} (hS : xa_stages w = nI S) (h8 : S < 8) (hk : xk_ok S (xa_step w) (xa_number w) (xa_steps w) cs) (hw : cd_wf cs) :
    ∃ z, (z = 0 ∨ (z = 1 ∧ ∃ c m n m', cs = [(c, m), (15, n), (1, m')])) ∧ ∀ post : Int32 → SX → Prop, post (-1) (xs_quick w (upd (xa_quick w) S z)) → xq_b post w := by
  obtain ⟨hl, hss, har⟩ := hk
  have e16 : (16 : Int32) * xa_stages w = nI (16 * S) := by rw [hS]; exact pk_mul 16 S
  have cS : (xa_stages w).toNatClampNeg = S := by rw [hS]; exact nI_clamp (by omega)
  have h8' : vp_in (xa_stages w) 8 := by rw [hS]; exact vp_in_nI h8 (by omega)
  have ec : (nI (16 * S)).toNatClampNeg = 16 * S := nI_clamp (by omega)
  have e1 : nI (16 * S) + 1 = nI (16 * S + 1) := nI_1 _
  have ec1 : (nI (16 * S + 1)).toNatClampNeg = 16 * S + 1 := nI_clamp (by omega)
  have enter : ∀ (post : Int32 → SX → Prop), ((xa_steps w S = 3 → ((xa_step w (16 * S) = 1 → ((xa_step w (16 * S + 1) = 15 → xq_n post w 1) ∧ (¬ xa_step w (16 * S + 1) = 15 → xq_n post w 0))) ∧
      (¬ xa_step w (16 * S) = 1 → xq_n post w 0))) ∧ (¬ xa_steps w S = 3 → xq_n post w 0)) → xq_b post w := by
    intro post h
    unfold xq_b
    refine nm_r e16 ⟨h8', ?_⟩
    rw [cS, ec, e1, ec1]
    exact ⟨fun h3 => ⟨vp_in_nI (by omega) (by omega), fun h1 => ⟨vp_in_nI (by omega) (by omega), (h.1 h3).1 h1⟩, (h.1 h3).2⟩, h.2⟩
  by_cases h3 : xa_steps w S = 3
  · by_cases h1 : xa_step w (16 * S) = 1
    · by_cases h15 : xa_step w (16 * S + 1) = 15
      · have hlen : cs.length = 3 := by
          rw [hss] at h3
          exact (nI_eq (b := 3) (by omega) (by omega)).mp h3
        match cs, hlen, har, hw with
        | [(c, m), (d, n), (e, m')], _, har, hw =>
        obtain ⟨_, _, a1, a2, a3, a4, _⟩ := har
        have hd : d = 15 := by
          have b1 : xa_step w (16 * S + 1) = nI d := a1
          rw [h15] at b1
          have := hw.1.2.2.2
          exact ((nI_eq (a := 15) (by omega) (by omega)).mp b1).symm
        have he : e = 1 := by
          have b1 : xa_step w (16 * S) = nI e := a3
          rw [h1] at b1
          have := hw.1.1.2.2.2
          exact ((nI_eq (a := 1) (by omega) (by omega)).mp b1).symm
        subst hd
        subst he
        exact ⟨1, Or.inr ⟨rfl, c, m, n, m', rfl⟩, fun post hp => enter post (br_t h3 (br_t h1 (br_t h15 (xq_nn hS h8 rfl hp))))⟩
      · exact ⟨0, Or.inl rfl, fun post hp => enter post (br_t h3 (br_t h1 (br_f h15 (xq_nn hS h8 rfl hp))))⟩
    · exact ⟨0, Or.inl rfl, fun post hp => enter post (br_t h3 (br_f h1 (xq_nn hS h8 rfl hp)))⟩
  · exact ⟨0, Or.inl rfl, fun post hp => enter post (br_f h3 (xq_nn hS h8 rfl hp))⟩
section
variable {u : SX} {S n : Nat} {sp0 nm0 ss0 wt0 cp0 : Nat → Int32} {tk : Nat → Nat} {J : Bool}
theorem xt_reach (hS : xa_stages u = nI S) (h8 : S < 8) (hn : n ≤ 16) (ht : ∀ i, i < n → xa_token u i = nI (tk i)) (htk : ∀ i, i < n → tk i < 1000000)
    (h0 : ss0 S = 0) (hc0 : cp0 0 = 0) : ∀ i, i ≤ n → (∀ j, j < i → sc_ok J (sy_run tk j).2.2 (sc_run tk j) (tk j)) →
    ∃ wt cp sp nm ss, xt_inv S sp0 nm0 ss0 (sy_run tk i).1 (sy_run tk i).2.1 (sc_run tk i) wt cp sp nm ss ∧ ∀ (post : Int32 → SX → Prop) (f : Nat),
      xl_32 post (nI n) (yb_i J) f (yb_i (sy_run tk i).2.2) (nI i) (xt_s u (nI (sy_run tk i).1.length) (nI ((sc_run tk i).length - 1)) wt cp sp nm ss) →
      xl_32 post (nI n) (yb_i J) (f + i) 1 0 (xt_s u 0 0 wt0 cp0 sp0 nm0 ss0) := by
  intro i
  induction i with
  | zero =>
    intro _ _
    exact ⟨wt0, cp0, sp0, nm0, ss0, ⟨trivial, ⟨hc0, trivial⟩, xk_fr0, [], cd_rel0, by simp, h0, trivial⟩, fun post f hp => hp⟩
  | succ i ih =>
    intro hi hk
    obtain ⟨wt, cp, sp, nm, ss, inv, hw⟩ := ih (by omega) (fun j hj => hk j (by omega))
    have hsc := sc_inv_run (J := J) (tk := tk) i (fun j hj => hk j (by omega))
    have hki := hk i (by omega)
    obtain ⟨wt', cp', sp', nm', ss', inv', hw'⟩ := xt_tok (u := u) (S := S) (sp0 := sp0) (nm0 := nm0) (ss0 := ss0) (ops := (sy_run tk i).1) (out := (sy_run tk i).2.1) (opd := (sy_run tk i).2.2) hS h8 hsc (by omega) (htk i (by omega)) hki inv
    refine ⟨wt', cp', sp', nm', ss', inv', fun post f hp => ?_⟩
    rw [show f + (i + 1) = f + 1 + i by omega]
    refine hw post (f + 1) (t3_next hn (by omega) (ht i (by omega)) (hw' _ (t3_ok (htk i (by omega)) ?_)))
    have e : (if (sy_run tk i).2.2 = true then decide (tk i = 5 ∨ tk i = 12) else decide (tk i ≠ 13)) = (sy_run tk (i + 1)).2.2 := by
      show _ = (sy_step (sy_run tk i) (tk i)).2.2
      unfold sy_step
      by_cases o : (sy_run tk i).2.2 = true
      · rw [if_pos o, if_pos o]
        by_cases c5 : tk i = 5
        · rw [if_pos c5, decide_eq_true (Or.inl c5)]
        · rw [if_neg c5]
          by_cases c12 : tk i = 12
          · rw [if_pos c12, decide_eq_true (Or.inr c12)]
          · rw [if_neg c12, decide_eq_false (fun z => z.elim c5 c12)]
      · rw [if_neg o, if_neg o]
        by_cases c13 : tk i = 13
        · rw [if_pos c13, decide_eq_false (fun z => z c13)]
        · rw [if_neg c13, decide_eq_true c13]
    rw [e]
    exact hp
end
end
section
/-! X: translate as a whole; Y: misfit -/
theorem zn_by0 : vp_nar .byte 0 = 0 := by rw [vp_nar_byte]; decide
theorem t3_start {post : Int32 → SX → Prop} {u : SX} {S f : Nat} {n j : Int32} (eS : (xa_stages u).toNatClampNeg = S) (h8 : vp_in (xa_stages u) 8)
    (hp : xl_32 post n j f 1 0 (xt_s u 0 0 (xa_waiting u) (upd (xa_compared u) 0 0) (xa_step u) (xa_number u) (upd (xa_steps u) S 0))) : wpX_translate post u n j := by
  subst eS
  exact And.intro h8 (nm_r (e' := upd (xa_steps u) (xa_stages u).toNatClampNeg 0) (by rw [zn_by0]) (nm_e (Exists.intro f hp)))
def xt_fr (S : Nat) (u : SX) (sp nm ss : Nat → Int32) : Prop := xk_fr S sp nm ss (xa_step u) (xa_number u) (xa_steps u)
section
variable {u : SX} {S n : Nat} {tk : Nat → Nat} {J : Bool}
theorem xt_fr0 {sp nm ss : Nat → Int32} (h : xk_fr S sp nm ss (xa_step u) (xa_number u) (upd (xa_steps u) S 0)) : xt_fr S u sp nm ss :=
  ⟨fun j hj => (h.1 j hj).trans (pk_un hj), h.2⟩
theorem xw_tr_bad (hS : xa_stages u = nI S) (h8 : S < 8) (hn : n ≤ 16) (ht : ∀ i, i < n → xa_token u i = nI (tk i)) (htk : ∀ i, i < n → tk i < 1000000 ∧ (tk i ≤ 13 ∨ 1000 ≤ tk i))
    {i : Nat} (hi : i < n) (hk : ∀ j, j < i → sc_ok J (sy_run tk j).2.2 (sc_run tk j) (tk j)) (hb : ¬ sc_ok J (sy_run tk i).2.2 (sc_run tk i) (tk i)) :
    ∃ ws ps wt cp sp nm ss, xt_fr S u sp nm ss ∧ ∀ post : Int32 → SX → Prop, post (nI i) (xt_s u ws ps wt cp sp nm ss) → wpX_translate post u (nI n) (yb_i J) := by
  obtain ⟨wt, cp, sp, nm, ss, inv, hw⟩ := xt_reach (u := u) (sp0 := xa_step u) (nm0 := xa_number u) (ss0 := upd (xa_steps u) S 0) (wt0 := xa_waiting u) (cp0 := upd (xa_compared u) 0 0) (J := J)
    hS h8 hn ht (fun i hi => (htk i hi).1) pk_us pk_us i (by omega) hk
  have hsc := sc_inv_run (J := J) (tk := tk) i hk
  refine ⟨nI (sy_run tk i).1.length, nI ((sc_run tk i).length - 1), wt, cp, sp, nm, ss, xt_fr0 inv.2.2.1, fun post hp => ?_⟩
  refine t3_start (S := S) (by rw [hS]; exact nI_clamp (by omega)) (by rw [hS]; exact vp_in_nI h8 (by omega)) (hw post 1 (t3_next hn hi (ht i hi) ?_))
  exact xt_bad (ops := (sy_run tk i).1) (out := (sy_run tk i).2.1) (opd := (sy_run tk i).2.2) hsc (by omega) (htk i hi).1 (htk i hi).2 hb inv.2.1 _ (t3_no hp)
theorem xw_tr_inc (hS : xa_stages u = nI S) (h8 : S < 8) (hn : n ≤ 16) (ht : ∀ i, i < n → xa_token u i = nI (tk i)) (htk : ∀ i, i < n → tk i < 1000000 ∧ (tk i ≤ 13 ∨ 1000 ≤ tk i))
    (hk : ∀ j, j < n → sc_ok J (sy_run tk j).2.2 (sc_run tk j) (tk j)) (hb : (sy_run tk n).2.2 = true ∨ 1 < (sc_run tk n).length) :
    ∃ ws ps wt cp sp nm ss, xt_fr S u sp nm ss ∧ ∀ post : Int32 → SX → Prop, post (nI n) (xt_s u ws ps wt cp sp nm ss) → wpX_translate post u (nI n) (yb_i J) := by
  obtain ⟨wt, cp, sp, nm, ss, inv, hw⟩ := xt_reach (u := u) (sp0 := xa_step u) (nm0 := xa_number u) (ss0 := upd (xa_steps u) S 0) (wt0 := xa_waiting u) (cp0 := upd (xa_compared u) 0 0) (J := J)
    hS h8 hn ht (fun i hi => (htk i hi).1) pk_us pk_us n (Nat.le_refl n) hk
  have hsc := sc_inv_run (J := J) (tk := tk) n hk
  refine ⟨nI (sy_run tk n).1.length, nI ((sc_run tk n).length - 1), wt, cp, sp, nm, ss, xt_fr0 inv.2.2.1, fun post hp => ?_⟩
  refine t3_start (S := S) (by rw [hS]; exact nI_clamp (by omega)) (by rw [hS]; exact vp_in_nI h8 (by omega)) (hw post 1 (t3_inc hn ?_ hp))
  rcases hb with hb | hb
  · exact Or.inl hb
  · have := hsc.2.2
    exact Or.inr (show ¬ nI ((sc_run tk n).length - 1) ≤ 0 from nI_nle (by omega) (by omega))
theorem xw_tr_good (hS : xa_stages u = nI S) (h8 : S < 8) (hn : n ≤ 16) (ht : ∀ i, i < n → xa_token u i = nI (tk i)) (htk : ∀ i, i < n → tk i < 1000000 ∧ (tk i ≤ 13 ∨ 1000 ≤ tk i))
    (hg : sc_good J tk n) :
    ∃ ws ps wt cp sp nm ss z, xt_fr S u sp nm ss ∧ xc_rel (xs_quick (xt_s u ws ps wt cp sp nm ss) (upd (xa_quick u) S z)) S (sy_out tk n) ∧
      ∀ post : Int32 → SX → Prop, post (-1) (xs_quick (xt_s u ws ps wt cp sp nm ss) (upd (xa_quick u) S z)) → wpX_translate post u (nI n) (yb_i J) := by
  obtain ⟨hk, ho, hl1⟩ := hg
  obtain ⟨wt, cp, sp, nm, ss, inv, hw⟩ := xt_reach (u := u) (sp0 := xa_step u) (nm0 := xa_number u) (ss0 := upd (xa_steps u) S 0) (wt0 := xa_waiting u) (cp0 := upd (xa_compared u) 0 0) (J := J)
    hS h8 hn ht (fun i hi => (htk i hi).1) pk_us pk_us n (Nat.le_refl n) hk
  have hsc := sc_inv_run (J := J) (tk := tk) n hk
  obtain ⟨⟨i1, i2, i3, i4⟩, _, _⟩ := hsc
  rw [ho, if_neg Bool.false_ne_true] at i3
  obtain ⟨v1, v2, v3, cs, v4, v5⟩ := inv
  obtain ⟨cs', sp', nm', ss', q1, q2, q3, q4, q5⟩ := xw_release (u := xc_s u (nI ((sc_run tk n).length - 1)) wt cp) (l := 1) hS h8 (Nat.le_refl 1) (by omega) v1 i1 i2 i3 v4 v5 (by omega)
  obtain ⟨z, hz, hq⟩ := xq_quick (w := xr_s (xc_s u (nI ((sc_run tk n).length - 1)) wt cp) (nI (sy_rel 1 (sy_run tk n).1 (sy_run tk n).2.1).1.length) sp' nm' ss') (S := S) (cs := cs') hS h8 q2 q1.1
  refine ⟨nI (sy_rel 1 (sy_run tk n).1 (sy_run tk n).2.1).1.length, nI ((sc_run tk n).length - 1), wt, cp, sp', nm', ss', z, xt_fr0 (xk_frt q3 v3), ?_, fun post hp => ?_⟩
  · refine ⟨cs', q1, q2.1, q2.2.1, q2.2.2, ?_⟩
    rcases hz with hz | ⟨hz, hc⟩
    · exact Or.inl ((pk_us (f := xa_quick u) (k := S) (x := z)).trans hz)
    · exact Or.inr ⟨(pk_us (f := xa_quick u) (k := S) (x := z)).trans hz, hc⟩
  · refine t3_start (S := S) (by rw [hS]; exact nI_clamp (by omega)) (by rw [hS]; exact vp_in_nI h8 (by omega)) (hw post 1 ?_)
    rw [ho, xt_r]
    exact t3_fin hn (show nI ((sc_run tk n).length - 1) ≤ 0 by rw [hl1]; decide) (q5 _ (hq post hp))
end
/-! Y -/
def yl_7 (post : Int32 → SY → Prop) (j : Int32) (f : Nat) (o p i : Int32) (w : SY) : Prop := wY_misfit_7 post j (ya_limit w) (ya_source w) (ya_stages w) (ya_wrongAt w) (ya_paid w) (ya_at w) (ya_seenCount w) (ya_failedAt w) (ya_v w) (ya_valTop w) (ya_opTop w) (ya_ran w) (ya_broken w) (ya_outcome w) f o p i (ya_lists w) (ya_sizes w) (ya_tokens w) (ya_counts w) (ya_kinds w) (ya_numbers w) (ya_left w) (ya_last w) (ya_place w) (ya_begun w) (ya_held w) (ya_keys w) (ya_holds w) (ya_applied w) (ya_reads w) (ya_seen w) (ya_vals w) (ya_ops w)
section
variable {post : Int32 → SY → Prop} {w : SY} {n i t f p : Nat} {J : Bool} {cf : List Bool}
theorem y7_in {o q : Int32} (hc : ya_counts w 0 = nI n) (hn : n ≤ 16) (hi : i < n) (ht : ya_tokens w i = nI t)
    (h : (o = 0 → ((nI t = 13 → ((q = 0 → post (nI i) w) ∧ (¬ q = 0 → yl_7 post (yb_i J) f o (q + (-1)) (nI (i + 1)) w))) ∧
        (¬ nI t = 13 → ((nI t < 4 → post (nI i) w) ∧ (¬ nI t < 4 → ((11 < nI t → post (nI i) w) ∧ (¬ 11 < nI t →
          ((nI t = 9 ∨ nI t = 10) → vp_in q 20 ∧ ((ya_ops w q.toNatClampNeg = 1 → post (nI i) w) ∧ (¬ ya_ops w q.toNatClampNeg = 1 → yl_7 post (yb_i J) f 1 q (nI (i + 1)) (ys_ops w (upd (ya_ops w) q.toNatClampNeg 1))))) ∧
          (¬ (nI t = 9 ∨ nI t = 10) → yl_7 post (yb_i J) f 1 q (nI (i + 1)) w)))))))) ∧
      (¬ o = 0 → ((nI t = 12 → vp_in (q + 1) 20 ∧ yl_7 post (yb_i J) f o (q + 1) (nI (i + 1)) (ys_ops w (upd (ya_ops w) (q + 1).toNatClampNeg 0))) ∧
        (¬ nI t = 12 → ((1000 ≤ nI t ∨ nI t = 1 ∨ nI t = 3 ∨ (nI t = 2 ∧ ¬ yb_i J = 0)) → yl_7 post (yb_i J) f 0 q (nI (i + 1)) w) ∧
          (¬ (1000 ≤ nI t ∨ nI t = 1 ∨ nI t = 3 ∨ (nI t = 2 ∧ ¬ yb_i J = 0)) → (nI t = 5 → yl_7 post (yb_i J) f o q (nI (i + 1)) w) ∧ (¬ nI t = 5 → post (nI i) w)))))) :
    yl_7 post (yb_i J) (f + 1) o q (nI i) w := by
  have e : (nI i).toNatClampNeg = i := nI_clamp (by omega)
  have e1 : nI i + 1 = nI (i + 1) := nI_1 i
  refine br_f (by rw [hc]; exact nI_ge hi (by omega)) (And.intro (vp_in_nI (by omega) (by omega)) ?_)
  rw [e]
  refine nm_r ht (br_c (fun o0 => ?_) (fun o1 => ?_))
  · refine br_c (fun h13 => ?_) (fun h13 => br_c (fun h4 => ((h.1 o0).2 h13).1 h4) (fun h4 => br_c (fun h11 => (((h.1 o0).2 h13).2 h4).1 h11) (fun h11 => ?_)))
    · have g := (h.1 o0).1 h13
      exact br_c g.1 (fun q0 => nm_e (nm_r e1 (g.2 q0)))
    · have g := (((h.1 o0).2 h13).2 h4).2 h11
      have h142 : (nI t = 9 ∨ nI t = 10) → wY_misfit_142 post (wY_misfit_7 post (yb_i J) (ya_limit w) (ya_source w) (ya_stages w) (ya_wrongAt w) (ya_paid w) (ya_at w) (ya_seenCount w) (ya_failedAt w) (ya_v w) (ya_valTop w) (ya_opTop w) (ya_ran w) (ya_broken w) (ya_outcome w) f) (yb_i J) q (nI i) (ya_limit w) (ya_source w) (ya_stages w) (ya_wrongAt w) (ya_paid w) (ya_at w) (ya_seenCount w) (ya_failedAt w) (ya_v w) (ya_valTop w) (ya_opTop w) (ya_ran w) (ya_broken w) (ya_outcome w) (ya_lists w) (ya_sizes w) (ya_tokens w) (ya_counts w) (ya_kinds w) (ya_numbers w) (ya_left w) (ya_last w) (ya_place w) (ya_begun w) (ya_held w) (ya_keys w) (ya_holds w) (ya_applied w) (ya_reads w) (ya_seen w) (ya_vals w) (ya_ops w) := by
        intro hc
        have gg := g.1 hc
        exact br_f (by decide) (And.intro gg.1 (br_c (fun c1 => br_f (by decide) (gg.2.1 c1)) (fun c1 => br_t rfl (br_f (by decide) (And.intro gg.1 (nm_e (nm_r e1 (gg.2.2 c1))))))))
      exact br_c (fun c => h142 (Or.inl c)) (fun c9 => br_c (fun c => h142 (Or.inr c)) (fun c10 => br_t rfl (br_t rfl (nm_r e1 (g.2 (fun z => z.elim c9 c10))))))
  · have g := h.2 o1
    refine br_c (fun h12 => ?_) (fun h12 => ?_)
    · have gg := g.1 h12
      exact nm_e (And.intro gg.1 (nm_e (nm_r e1 gg.2)))
    · have gg := g.2 h12
      have h86 : ¬ (1000 ≤ nI t ∨ nI t = 1 ∨ nI t = 3 ∨ (nI t = 2 ∧ ¬ yb_i J = 0)) → wY_misfit_86 post (wY_misfit_7 post (yb_i J) (ya_limit w) (ya_source w) (ya_stages w) (ya_wrongAt w) (ya_paid w) (ya_at w) (ya_seenCount w) (ya_failedAt w) (ya_v w) (ya_valTop w) (ya_opTop w) (ya_ran w) (ya_broken w) (ya_outcome w) f) (yb_i J) o q (nI i) (nI t) (ya_limit w) (ya_source w) (ya_stages w) (ya_wrongAt w) (ya_paid w) (ya_at w) (ya_seenCount w) (ya_failedAt w) (ya_v w) (ya_valTop w) (ya_opTop w) (ya_ran w) (ya_broken w) (ya_outcome w) (ya_lists w) (ya_sizes w) (ya_tokens w) (ya_counts w) (ya_kinds w) (ya_numbers w) (ya_left w) (ya_last w) (ya_place w) (ya_begun w) (ya_held w) (ya_keys w) (ya_holds w) (ya_applied w) (ya_reads w) (ya_seen w) (ya_vals w) (ya_ops w) := by
        intro z
        exact br_c (fun c => nm_r e1 ((gg.2 z).1 c)) (fun c => (gg.2 z).2 c)
      refine br_c (fun c => nm_r e1 (gg.1 (Or.inl c))) (fun c1 => br_c (fun c => nm_r e1 (gg.1 (Or.inr (Or.inl c)))) (fun c2 => br_c (fun c => nm_r e1 (gg.1 (Or.inr (Or.inr (Or.inl c))))) (fun c3 => br_c (fun c => ?_) (fun c4 => ?_))))
      · exact br_c (fun cj => h86 (fun z => by
          rcases z with z | z | z | z
          · exact c1 z
          · exact c2 z
          · exact c3 z
          · exact z.2 cj)) (fun cj => nm_r e1 (gg.1 (Or.inr (Or.inr (Or.inr ⟨c, cj⟩)))))
      · exact h86 (fun z => by
          rcases z with z | z | z | z
          · exact c1 z
          · exact c2 z
          · exact c3 z
          · exact c4 z.1)
end
end
section
/-! Y: misfit against the pure scan -/
theorem yo_self (w : SY) : ys_ops w (ya_ops w) = w := rfl
theorem yo_oo (w : SY) (a b : Nat → Int32) : ys_ops (ys_ops w a) b = ys_ops w b := rfl
def sc_opd (opd : Bool) (t : Nat) : Bool := if opd = true then decide (t = 5 ∨ t = 12) else decide (t ≠ 13)
theorem sc_opd_run (tk : Nat → Nat) (i : Nat) : sc_opd (sy_run tk i).2.2 (tk i) = (sy_run tk (i + 1)).2.2 := by
  show _ = (sy_step (sy_run tk i) (tk i)).2.2
  unfold sy_step sc_opd
  by_cases o : (sy_run tk i).2.2 = true
  · rw [if_pos o, if_pos o]
    by_cases c5 : tk i = 5
    · rw [if_pos c5, decide_eq_true (Or.inl c5)]
    · rw [if_neg c5]
      by_cases c12 : tk i = 12
      · rw [if_pos c12, decide_eq_true (Or.inr c12)]
      · rw [if_neg c12, decide_eq_false (fun z => z.elim c5 c12)]
  · rw [if_neg o, if_neg o]
    by_cases c13 : tk i = 13
    · rw [if_pos c13, decide_eq_false (fun z => z c13)]
    · rw [if_neg c13, decide_eq_true c13]
theorem sy_str1 {t : Nat} (ht : 4 ≤ t ∧ t ≤ 11) : sy_str t = 1 ↔ (t = 9 ∨ t = 10) := by
  have h : t = 4 ∨ t = 5 ∨ t = 6 ∨ t = 7 ∨ t = 8 ∨ t = 9 ∨ t = 10 ∨ t = 11 := by omega
  rcases h with rfl | rfl | rfl | rfl | rfl | rfl | rfl | rfl <;> decide
section
variable {w : SY} {n i t : Nat} {J opd : Bool} {cf : List Bool}
theorem y7_tok (hc : ya_counts w 0 = nI n) (hn : n ≤ 16) (hi : i < n) (ht : ya_tokens w i = nI t) (htb : t < 1000000) (hb : bo_ar (ya_ops w) cf)
    (hl : 1 ≤ cf.length) (hl2 : cf.length ≤ 17) (hk : sc_ok J opd cf t) :
    ∃ oa', bo_ar oa' (sc_step opd cf t) ∧ ∀ (post : Int32 → SY → Prop) (f : Nat),
      yl_7 post (yb_i J) f (yb_i (sc_opd opd t)) (nI ((sc_step opd cf t).length - 1)) (nI (i + 1)) (ys_ops w oa') →
      yl_7 post (yb_i J) (f + 1) (yb_i opd) (nI (cf.length - 1)) (nI i) w := by
  have ne : ∀ c : Nat, c < 1000 → t ≠ c → ¬ nI t = nI c := fun c hc h e => h ((nI_eq (by omega) (by omega)).mp e)
  have eqq : ∀ c : Nat, c < 2000 → nI t = nI c → t = c := fun c hc e => (nI_eq (by omega) (by omega)).mp e
  rcases hk with ⟨o, hk⟩ | ⟨o, hk⟩
  · subst o
    by_cases c12 : t = 12
    · subst c12
      have ep : nI (cf.length - 1) + 1 = nI cf.length := by rw [nI_1]; exact congrArg nI (by omega)
      refine ⟨upd (ya_ops w) cf.length 0, ⟨pk_us, bo_upd cf hb (Nat.le_refl _)⟩, fun post f hp => y7_in hc hn hi ht (br_f (by decide) (br_t rfl ?_))⟩
      rw [ep, nI_clamp (by omega)]
      exact ⟨vp_in_nI (by omega) (by omega), hp⟩
    · have e2 : sc_step true cf t = cf := by
        unfold sc_step; rw [if_pos rfl, if_neg c12]
      rw [e2]
      refine ⟨ya_ops w, hb, fun post f hp => y7_in hc hn hi ht (br_f (by decide) (br_f (ne 12 (by omega) c12) ?_))⟩
      rw [yo_self] at hp
      by_cases c5 : t = 5
      · subst c5
        exact ⟨fun z => absurd z (by cases J <;> decide), fun _ => br_t rfl hp⟩
      · have hd : sc_opd true t = false := by
          unfold sc_opd; rw [if_pos rfl, decide_eq_false (fun z => z.elim c5 c12)]
        rw [hd] at hp
        refine ⟨fun _ => hp, fun z => absurd ?_ z⟩
        rcases hk with h | h | h | h | h | h
        · exact absurd h c5
        · exact absurd h c12
        · exact Or.inl (nI_le (a := 1000) h (by omega))
        · exact Or.inr (Or.inl (by rw [h]; rfl))
        · exact Or.inr (Or.inr (Or.inl (by rw [h]; rfl)))
        · exact Or.inr (Or.inr (Or.inr ⟨by rw [h.1]; rfl, by rw [h.2]; decide⟩))
  · subst o
    by_cases c13 : t = 13
    · subst c13
      have hcf : 1 < cf.length := by
        rcases hk with ⟨_, h⟩ | ⟨h, _⟩
        · exact h
        · omega
      match cf, hcf, hb with
      | f1 :: f2 :: cf2, hcf, hb =>
      refine ⟨ya_ops w, hb.2, fun post f hp => y7_in hc hn hi ht (br_t rfl (br_t rfl (br_f ?_ ?_)))⟩
      · exact nI_ne0 (by simp) (by simp only [List.length_cons] at hl2 ⊢; omega)
      · rw [yo_self] at hp
        rw [show nI ((f1 :: f2 :: cf2).length - 1) + (-1) = nI cf2.length from pk_m1 _]
        exact hp
    · have hbt : (4 ≤ t ∧ t ≤ 11) ∧ ¬ (sy_str t = 1 ∧ cf.headD false = true) := by
        rcases hk with ⟨h, _⟩ | h
        · exact absurd h c13
        · exact h
      obtain ⟨hbt, hcmp⟩ := hbt
      have hd : sc_opd false t = true := by
        unfold sc_opd; rw [if_neg Bool.false_ne_true, decide_eq_true c13]
      rw [hd]
      have n4 : ¬ nI t < 4 := nI_nlt (b := 4) hbt.1 (by omega)
      have n11 : ¬ 11 < nI t := nI_nlt (a := 11) hbt.2 (by omega)
      by_cases h1 : sy_str t = 1
      · have e2 : sc_step false cf t = true :: cf.tail := by
          unfold sc_step; rw [if_neg Bool.false_ne_true, if_neg c13, if_pos h1]
        rw [e2]
        match cf, hl, hl2, hb, hcmp with
        | f0 :: cf0, hl, hl2, hb, hcmp =>
        have hf0 : f0 = false := by
          cases f0 with
          | false => rfl
          | true => exact absurd ⟨h1, rfl⟩ hcmp
        simp only [List.length_cons] at hl2
        have ep : nI ((f0 :: cf0).length - 1) = nI cf0.length := rfl
        refine ⟨upd (ya_ops w) cf0.length 1, ⟨pk_us, bo_upd cf0 hb.2 (Nat.le_refl _)⟩, fun post f hp => y7_in hc hn hi ht (br_t rfl (br_f (ne 13 (by omega) c13) (br_f n4 (br_f n11 ⟨fun _ => ?_, fun z => absurd ?_ z⟩))))⟩
        · rw [ep, nI_clamp (by omega)]
          refine ⟨vp_in_nI (by omega) (by omega), br_f ?_ hp⟩
          rw [hb.1, hf0]
          decide
        · rcases (sy_str1 hbt).mp h1 with h | h
          · exact Or.inl (by rw [h]; rfl)
          · exact Or.inr (by rw [h]; rfl)
      · have e2 : sc_step false cf t = cf := by
          unfold sc_step; rw [if_neg Bool.false_ne_true, if_neg c13, if_neg h1]
        rw [e2]
        refine ⟨ya_ops w, hb, fun post f hp => y7_in hc hn hi ht (br_t rfl (br_f (ne 13 (by omega) c13) (br_f n4 (br_f n11 ⟨fun z => absurd ((sy_str1 hbt).mpr ?_) h1, fun _ => hp⟩))))⟩
        rcases z with z | z
        · exact Or.inl (eqq 9 (by omega) z)
        · exact Or.inr (eqq 10 (by omega) z)
theorem y7_bad {post : Int32 → SY → Prop} {f : Nat} (hc : ya_counts w 0 = nI n) (hn : n ≤ 16) (hi : i < n) (ht : ya_tokens w i = nI t) (htb : t < 1000000) (hb : bo_ar (ya_ops w) cf)
    (hl : 1 ≤ cf.length) (hl2 : cf.length ≤ 17) (hk : ¬ sc_ok J opd cf t) (hp : post (nI i) w) : yl_7 post (yb_i J) (f + 1) (yb_i opd) (nI (cf.length - 1)) (nI i) w := by
  have ne : ∀ c : Nat, c < 1000 → t ≠ c → ¬ nI t = nI c := fun c hc h e => h ((nI_eq (by omega) (by omega)).mp e)
  have eqq : ∀ c : Nat, c < 2000 → nI t = nI c → t = c := fun c hc e => (nI_eq (by omega) (by omega)).mp e
  refine y7_in hc hn hi ht ?_
  cases opd with
  | true =>
    have hk' : ¬ (t = 5 ∨ t = 12 ∨ 1000 ≤ t ∨ t = 1 ∨ t = 3 ∨ (t = 2 ∧ J = true)) := fun h => hk (Or.inl ⟨rfl, h⟩)
    refine br_f (by decide) (br_f (ne 12 (by omega) (by omega)) ⟨fun z => absurd ?_ hk', fun _ => br_f (ne 5 (by omega) (by omega)) hp⟩)
    rcases z with z | z | z | z
    · exact Or.inr (Or.inr (Or.inl ((nI_leI (a := 1000) (by omega) (by omega)).mp z)))
    · exact Or.inr (Or.inr (Or.inr (Or.inl (eqq 1 (by omega) z))))
    · exact Or.inr (Or.inr (Or.inr (Or.inr (Or.inl (eqq 3 (by omega) z)))))
    · refine Or.inr (Or.inr (Or.inr (Or.inr (Or.inr ⟨eqq 2 (by omega) z.1, ?_⟩))))
      cases J with
      | true => rfl
      | false => exact absurd rfl z.2
  | false =>
    refine br_t rfl (br_c (fun h13 => br_t ?_ hp) (fun h13 => br_c (fun _ => hp) (fun h4 => br_c (fun _ => hp) (fun h11 => ?_))))
    · have h13' := eqq 13 (by omega) h13
      have : ¬ 1 < cf.length := fun h => hk (Or.inr ⟨rfl, Or.inl ⟨h13', h⟩⟩)
      rw [show cf.length - 1 = 0 by omega]
      rfl
    · have hbt : 4 ≤ t ∧ t ≤ 11 := by
        constructor
        · exact Nat.le_of_not_lt (fun z => h4 (nI_lt (b := 4) z (by omega)))
        · exact Nat.le_of_not_lt (fun z => h11 (nI_lt (a := 11) z (by omega)))
      have h1 : sy_str t = 1 ∧ cf.headD false = true := by
        by_cases h : sy_str t = 1 ∧ cf.headD false = true
        · exact h
        · exact absurd (Or.inr ⟨rfl, Or.inr ⟨hbt, h⟩⟩) hk
      obtain ⟨h1, h2⟩ := h1
      match cf, hb, h2, hl2 with
      | f0 :: cf0, hb, h2, hl2 =>
      simp only [List.length_cons] at hl2
      have hf : f0 = true := h2
      refine ⟨fun _ => ?_, fun z => absurd ?_ z⟩
      · rw [show nI ((f0 :: cf0).length - 1) = nI cf0.length from rfl, nI_clamp (by omega)]
        refine ⟨vp_in_nI (by omega) (by omega), br_t ?_ hp⟩
        rw [hb.1, hf]
        rfl
      · rcases (sy_str1 hbt).mp h1 with h | h
        · exact Or.inl (by rw [h]; rfl)
        · exact Or.inr (by rw [h]; rfl)
theorem y7_end {post : Int32 → SY → Prop} {f : Nat} {r : Int32} (hc : ya_counts w 0 = nI n) (hn : n ≤ 16)
    (hr : (r = -1 ∧ opd = false ∧ cf.length ≤ 1) ∨ (r = nI n ∧ (opd = true ∨ (1 < cf.length ∧ cf.length ≤ 17)))) (hp : post r w) :
    yl_7 post (yb_i J) (f + 1) (yb_i opd) (nI (cf.length - 1)) (nI n) w := by
  refine br_t (by rw [hc]; exact nI_le (Nat.le_refl n) (by omega)) ?_
  rcases hr with ⟨rfl, rfl, h⟩ | ⟨rfl, h⟩
  · exact br_t rfl (br_t (by rw [show cf.length - 1 = 0 by omega]; decide) hp)
  · have hp' : post (ya_counts w 0) w := by rw [hc]; exact hp
    cases opd with
    | true => exact br_f (by decide) hp'
    | false => exact br_t rfl (br_f (nI_nle (by have := h.resolve_left Bool.false_ne_true; omega) (by have := h.resolve_left Bool.false_ne_true; omega)) hp')
end
section
variable {v : SY} {n : Nat} {tk : Nat → Nat} {J : Bool} {oa0 : Nat → Int32}
theorem y7_reach (hc : ya_counts v 0 = nI n) (hn : n ≤ 16) (ht : ∀ i, i < n → ya_tokens v i = nI (tk i)) (htk : ∀ i, i < n → tk i < 1000000)
    (h0 : ya_ops v 0 = 0) : ∀ i, i ≤ n → (∀ j, j < i → sc_ok J (sy_run tk j).2.2 (sc_run tk j) (tk j)) →
    ∃ oa, bo_ar oa (sc_run tk i) ∧ ∀ (post : Int32 → SY → Prop) (f : Nat),
      yl_7 post (yb_i J) f (yb_i (sy_run tk i).2.2) (nI ((sc_run tk i).length - 1)) (nI i) (ys_ops v oa) → yl_7 post (yb_i J) (f + i) 1 0 0 v := by
  intro i
  induction i with
  | zero =>
    intro _ _
    exact ⟨ya_ops v, ⟨h0, trivial⟩, fun post f hp => hp⟩
  | succ i ih =>
    intro hi hk
    obtain ⟨oa, hb, hw⟩ := ih (by omega) (fun j hj => hk j (by omega))
    have hsc := sc_inv_run (J := J) (tk := tk) i (fun j hj => hk j (by omega))
    have h1 := hsc.2.1
    have h2 := hsc.2.2
    obtain ⟨oa', hb', hw'⟩ := y7_tok (w := ys_ops v oa) (n := n) (i := i) (t := tk i) (J := J) hc hn (by omega) (ht i (by omega)) (htk i (by omega)) hb (by omega) (by omega) (hk i (by omega))
    refine ⟨oa', hb', fun post f hp => ?_⟩
    rw [show f + (i + 1) = f + 1 + i by omega]
    refine hw post (f + 1) (hw' post f ?_)
    rw [sc_opd_run, yo_oo]
    exact hp
theorem yw_misfit {i : Nat} {r : Int32} (hc : ya_counts v 0 = nI n) (hn : n ≤ 16) (ht : ∀ i, i < n → ya_tokens v i = nI (tk i)) (htk : ∀ i, i < n → tk i < 1000000)
    (h0 : ya_ops v 0 = 0) (hi : i ≤ n) (hk : ∀ j, j < i → sc_ok J (sy_run tk j).2.2 (sc_run tk j) (tk j))
    (hr : (i < n ∧ ¬ sc_ok J (sy_run tk i).2.2 (sc_run tk i) (tk i) ∧ r = nI i) ∨
      (i = n ∧ ((r = -1 ∧ (sy_run tk n).2.2 = false ∧ (sc_run tk n).length ≤ 1) ∨ (r = nI n ∧ ((sy_run tk n).2.2 = true ∨ 1 < (sc_run tk n).length))))) :
    ∃ oa, ∀ post : Int32 → SY → Prop, post r (ys_ops v oa) → wpY_misfit post v (yb_i J) := by
  obtain ⟨oa, hb, hw⟩ := y7_reach (J := J) hc hn ht htk h0 i hi hk
  have hsc := sc_inv_run (J := J) (tk := tk) i hk
  have h1 := hsc.2.1
  have h2 := hsc.2.2
  refine ⟨oa, fun post hp => Exists.intro (1 + i) (hw post 1 ?_)⟩
  rcases hr with ⟨hin, hno, rfl⟩ | ⟨rfl, hr⟩
  · exact y7_bad (w := ys_ops v oa) hc hn hin (ht i hin) (htk i hin) hb (by omega) (by omega) hno hp
  · refine y7_end (w := ys_ops v oa) (r := r) hc hn ?_ hp
    rcases hr with h | ⟨h, h'⟩
    · exact Or.inl h
    · exact Or.inr ⟨h, h'.imp id (fun z => ⟨z, by omega⟩)⟩
end
end
section
/-! the relation between calls -/
def xm_el (u : SX) (z_element : Nat → Int32) (z_length : Nat → Int32) : SX := (u.1, u.2.1, u.2.2.1, u.2.2.2.1, u.2.2.2.2.1, u.2.2.2.2.2.1, u.2.2.2.2.2.2.1, u.2.2.2.2.2.2.2.1, u.2.2.2.2.2.2.2.2.1, u.2.2.2.2.2.2.2.2.2.1, u.2.2.2.2.2.2.2.2.2.2.1, u.2.2.2.2.2.2.2.2.2.2.2.1, u.2.2.2.2.2.2.2.2.2.2.2.2.1, u.2.2.2.2.2.2.2.2.2.2.2.2.2.1, u.2.2.2.2.2.2.2.2.2.2.2.2.2.2.1, u.2.2.2.2.2.2.2.2.2.2.2.2.2.2.2.1, u.2.2.2.2.2.2.2.2.2.2.2.2.2.2.2.2.1, z_element, z_length, u.2.2.2.2.2.2.2.2.2.2.2.2.2.2.2.2.2.2.2)
def ym_el (u : SY) (z_lists : Nat → Int32) (z_sizes : Nat → Int32) : SY := (u.1, u.2.1, u.2.2.1, u.2.2.2.1, u.2.2.2.2.1, u.2.2.2.2.2.1, u.2.2.2.2.2.2.1, u.2.2.2.2.2.2.2.1, u.2.2.2.2.2.2.2.2.1, u.2.2.2.2.2.2.2.2.2.1, u.2.2.2.2.2.2.2.2.2.2.1, u.2.2.2.2.2.2.2.2.2.2.2.1, u.2.2.2.2.2.2.2.2.2.2.2.2.1, u.2.2.2.2.2.2.2.2.2.2.2.2.2.1, z_lists, z_sizes, u.2.2.2.2.2.2.2.2.2.2.2.2.2.2.2.2)
def xm_tk (u : SX) (z_tokens : Int32) (z_token : Nat → Int32) : SX := (u.1, u.2.1, u.2.2.1, z_tokens, u.2.2.2.2.1, u.2.2.2.2.2.1, u.2.2.2.2.2.2.1, u.2.2.2.2.2.2.2.1, u.2.2.2.2.2.2.2.2.1, u.2.2.2.2.2.2.2.2.2.1, u.2.2.2.2.2.2.2.2.2.2.1, u.2.2.2.2.2.2.2.2.2.2.2.1, u.2.2.2.2.2.2.2.2.2.2.2.2.1, u.2.2.2.2.2.2.2.2.2.2.2.2.2.1, u.2.2.2.2.2.2.2.2.2.2.2.2.2.2.1, u.2.2.2.2.2.2.2.2.2.2.2.2.2.2.2.1, u.2.2.2.2.2.2.2.2.2.2.2.2.2.2.2.2.1, u.2.2.2.2.2.2.2.2.2.2.2.2.2.2.2.2.2.1, u.2.2.2.2.2.2.2.2.2.2.2.2.2.2.2.2.2.2.1, u.2.2.2.2.2.2.2.2.2.2.2.2.2.2.2.2.2.2.2.1, u.2.2.2.2.2.2.2.2.2.2.2.2.2.2.2.2.2.2.2.2.1, u.2.2.2.2.2.2.2.2.2.2.2.2.2.2.2.2.2.2.2.2.2.1, u.2.2.2.2.2.2.2.2.2.2.2.2.2.2.2.2.2.2.2.2.2.2.1, u.2.2.2.2.2.2.2.2.2.2.2.2.2.2.2.2.2.2.2.2.2.2.2.1, u.2.2.2.2.2.2.2.2.2.2.2.2.2.2.2.2.2.2.2.2.2.2.2.2.1, z_token, u.2.2.2.2.2.2.2.2.2.2.2.2.2.2.2.2.2.2.2.2.2.2.2.2.2.2)
def ym_tk (u : SY) (z_tokens : Nat → Int32) (z_counts : Nat → Int32) : SY := (u.1, u.2.1, u.2.2.1, u.2.2.2.1, u.2.2.2.2.1, u.2.2.2.2.2.1, u.2.2.2.2.2.2.1, u.2.2.2.2.2.2.2.1, u.2.2.2.2.2.2.2.2.1, u.2.2.2.2.2.2.2.2.2.1, u.2.2.2.2.2.2.2.2.2.2.1, u.2.2.2.2.2.2.2.2.2.2.2.1, u.2.2.2.2.2.2.2.2.2.2.2.2.1, u.2.2.2.2.2.2.2.2.2.2.2.2.2.1, u.2.2.2.2.2.2.2.2.2.2.2.2.2.2.1, u.2.2.2.2.2.2.2.2.2.2.2.2.2.2.2.1, z_tokens, z_counts, u.2.2.2.2.2.2.2.2.2.2.2.2.2.2.2.2.2.2)
def xm_sr (u : SX) (z_source : Int32) (z_stages : Int32) : SX := (u.1, z_source, z_stages, u.2.2.2)
def ym_sr (u : SY) (z_source : Int32) (z_stages : Int32) : SY := (u.1, z_source, z_stages, u.2.2.2)
def rl_hx (k : Nat) : Prop := k < 2 ∨ k = 4 ∨ k = 5 ∨ k = 7 ∨ k = 10 ∨ k = 12 ∨ k = 14 ∨ k = 16
def rl_sg (u : SX) (v : SY) (s k : Nat) : Prop :=
  k ≤ 16 ∧ xa_kind u s = nI k ∧ (k = 6 → ∃ c, 1 ≤ c ∧ c ≤ 4 ∧ xa_constant u s = nI c) ∧ ((k = 9 ∨ k = 10 ∨ k = 11) → ∃ c, c < 3 ∧ xa_constant u s = nI c) ∧
  (rl_hx k → ∃ n tk, yt_rel v s n tk ∧ xc_rel u s (sy_out tk n))
def rl_st (u : SX) (v : SY) (L N : Nat) (K : Nat → Nat) : Prop :=
  xa_limit u = nI L ∧ ya_limit v = nI L ∧ 20 ≤ L ∧ L ≤ 150 ∧ xa_stages u = nI N ∧ ya_stages v = nI N ∧ N ≤ 8 ∧
  (∃ q, q < 3 ∧ xa_source u = nI q ∧ ya_source v = nI q) ∧
  ya_lists v = xa_element u ∧ ya_sizes v = xa_length u ∧ (∀ l, l < 3 → ∃ m, m ≤ 24 ∧ xa_length u l = nI m) ∧
  ya_kinds v = xa_kind u ∧ ya_numbers v = xa_constant u ∧ (∀ s, s < N → rl_sg u v s (K s))
def rl_tok (t : Nat) : Prop := 1 ≤ t ∧ t < 1000000 ∧ (t ≤ 13 ∨ 1000 ≤ t)
def rl_tk (u : SX) (v : SY) (n : Nat) (tk : Nat → Nat) : Prop :=
  n ≤ 16 ∧ xa_tokens u = nI n ∧ ya_counts v 0 = nI n ∧ ∀ i, i < n → xa_token u i = nI (tk i) ∧ ya_tokens v i = nI (tk i) ∧ rl_tok (tk i)
def rl_rs (u : SX) (v : SY) : Prop :=
  ya_wrongAt v = xa_wrongPlace u ∧ ya_applied v = xa_applications u ∧ ya_reads v = xa_reads u ∧ ya_seen v = xa_shown u ∧
  (∃ m, m ≤ 16 ∧ xa_shownCount u = nI m ∧ ya_seenCount v = nI m) ∧ ya_failedAt v = xa_failedStage u ∧
  (∃ m, m ≤ 8 ∧ xa_lastStages u = nI m ∧ ∀ s, m ≤ s → s < 8 → xa_applications u s = 0) ∧
  (ya_ran v = 0 → xa_lastStages u = 0 ∧ ∀ l, l < 3 → xa_reads u l = 0)
def i_Rel (_ : Nat) (u : SX) (v : SY) : Prop := ∃ L N K n tk, rl_st u v L N K ∧ rl_tk u v n tk ∧ rl_rs u v
theorem i_up {k : Nat} {u : SX} {v : SY} (h : i_Rel k u v) : i_Rel (k + 4) u v := h
def xi_s (z : Int32) : SX := (z, 0, 0, 0, (-1), 0, 0, 0, 0, 0, 0, 0, 0, 0, 0, (-1), 0, fun _ => 0, fun _ => 0, fun _ => 0, fun _ => 0, fun _ => 0, fun _ => 0, fun _ => 0, fun _ => 0, fun _ => 0, fun _ => 0, fun _ => 0, fun _ => 0, fun _ => 0, fun _ => 0, fun _ => 0, fun _ => 0, fun _ => 0, fun _ => 0, fun _ => 0, fun _ => 0, fun _ => 0, fun _ => 0, fun _ => 0, fun _ => 0, fun _ => 0, fun _ => 0)
def yi_s (z : Int32) : SY := (z, 0, 0, (-1), 0, 0, 0, (-1), 0, 0, 0, 0, 0, 0, fun _ => 0, fun _ => 0, fun _ => 0, fun _ => 0, fun _ => 0, fun _ => 0, fun _ => 0, fun _ => 0, fun _ => 0, fun _ => 0, fun _ => 0, fun _ => 0, fun _ => 0, fun _ => 0, fun _ => 0, fun _ => 0, fun _ => 0, fun _ => 0)
theorem rl_init {L : Nat} (h1 : 20 ≤ L) (h2 : L ≤ 150) : i_Rel 1 (xi_s (nI L)) (yi_s (nI L)) :=
  ⟨L, 0, fun _ => 0, 0, fun _ => 0,
    ⟨rfl, rfl, h1, h2, rfl, rfl, by omega, ⟨0, by omega, rfl, rfl⟩, rfl, rfl, fun _ _ => ⟨0, by omega, rfl⟩, rfl, rfl, fun s h => absurd h (by omega)⟩,
    ⟨by omega, rfl, rfl, fun i h => absurd h (by omega)⟩,
    ⟨rfl, rfl, rfl, rfl, ⟨0, by omega, rfl, rfl⟩, rfl, ⟨0, by omega, rfl, fun _ _ _ => rfl⟩, fun _ => ⟨rfl, fun _ _ => rfl⟩⟩⟩
theorem i_vc0 (k0 : Int32) : wpX_init (fun u => wpY_init (fun v => i_Rel 1 u v) k0) k0 := by
  by_cases h20 : 20 ≤ k0
  · by_cases h150 : k0 ≤ 150
    · obtain ⟨L, hL, rfl⟩ := nI_of (x := k0) (fun h => by
        rw [Int32.lt_iff_toInt_lt] at h
        rw [Int32.le_iff_toInt_le] at h20
        have e1 : (20 : Int32).toInt = 20 := by decide
        have e0 : (0 : Int32).toInt = 0 := by decide
        omega)
      have a := (nI_leI (a := 20) (b := L) (by omega) hL).mp h20
      have b := (nI_leI (a := L) (b := 150) hL (by omega)).mp h150
      exact br_t h20 (br_t h150 (show wpY_init (fun v => i_Rel 1 (xi_s (nI L)) v) (nI L) from br_t h20 (br_t h150 (rl_init a b))))
    · exact br_t h20 (br_f h150 (show wpY_init (fun v => i_Rel 1 (xi_s 150) v) k0 from br_t h20 (br_f h150 (rl_init (L := 150) (by omega) (by omega)))))
  · exact br_f h20 (show wpY_init (fun v => i_Rel 1 (xi_s 20) v) k0 from br_f h20 (rl_init (L := 20) (by omega) (by omega)))
/-! ranges -/
theorem xw_out_in {post : Int32 → Prop} {j m : Nat} (hj : j < m) (hm : m < 2 ^ 31) (hp : post 0) : wpX_outside post (nI j) (nI m) :=
  br_t (nI_pos' (by omega)) (br_t (nI_lt hj hm) ⟨rfl, hp⟩)
theorem xw_out_neg {post : Int32 → Prop} {x y : Int32} (h : x < 0) (hp : post 1) : wpX_outside post x y := by
  have h' : ¬ 0 ≤ x := Int32.not_le.mpr h
  exact br_f h' (br_c (fun _ => ⟨rfl, hp⟩) (fun _ => ⟨rfl, hp⟩))
theorem xw_out_hi {post : Int32 → Prop} {x y : Int32} (h : ¬ x < 0) (h2 : y ≤ x) (hp : post 1) : wpX_outside post x y :=
  br_t (Int32.not_lt.mp h) (br_f (Int32.not_lt.mpr h2) ⟨rfl, hp⟩)
theorem yw_list_in {post : Int32 → Prop} {j : Nat} (hj : j < 3) (hp : post 1) : wpY_isList post (nI j) :=
  br_f (nI_pos (by omega)) (br_f (nI_nlt (a := 2) (by omega) (by omega)) hp)
theorem yw_list_neg {post : Int32 → Prop} {x : Int32} (h : x < 0) (hp : post 0) : wpY_isList post x := br_t h hp
theorem yw_list_hi {post : Int32 → Prop} {x : Int32} (h : ¬ x < 0) (h2 : nI 3 ≤ x) (hp : post 0) : wpY_isList post x := by
  refine br_f h (br_t ?_ hp)
  obtain ⟨j, hj, rfl⟩ := nI_of h
  have := (nI_leI (a := 3) (by omega) hj).mp h2
  exact nI_lt (a := 2) (by omega) hj
theorem i3_cases (x : Int32) : (∃ j, j < 3 ∧ x = nI j) ∨ ((∀ post : Int32 → Prop, post 1 → wpX_outside post x 3) ∧ ∀ post : Int32 → Prop, post 0 → wpY_isList post x) := by
  by_cases h : x < 0
  · exact Or.inr ⟨fun _ hp => xw_out_neg h hp, fun _ hp => yw_list_neg h hp⟩
  · rcases pk_ix x (n := 3) (by omega) with h' | h' | ⟨j, hj, e⟩
    · exact absurd h' h
    · exact Or.inr ⟨fun _ hp => xw_out_hi h h' hp, fun _ hp => yw_list_hi h h' hp⟩
    · exact Or.inl ⟨j, hj, e⟩
/-! lists -/
theorem rl_st_el {u : SX} {v : SY} {L N : Nat} {K : Nat → Nat} {el le : Nat → Int32} (h : rl_st u v L N K) (hle : ∀ l, l < 3 → ∃ m, m ≤ 24 ∧ le l = nI m) :
    rl_st (xm_el u el le) (ym_el v el le) L N K := by
  obtain ⟨h1, h2, h3, h4, h5, h6, h7, h8, h9, h10, h11, h12, h13, h14⟩ := h
  exact ⟨h1, h2, h3, h4, h5, h6, h7, h8, rfl, rfl, hle, h12, h13, h14⟩
theorem rl_tk_el {u : SX} {v : SY} {n : Nat} {tk : Nat → Nat} {el le el' le' : Nat → Int32} (h : rl_tk u v n tk) : rl_tk (xm_el u el le) (ym_el v el' le') n tk := h
theorem rl_rs_el {u : SX} {v : SY} {el le el' le' : Nat → Int32} (h : rl_rs u v) : rl_rs (xm_el u el le) (ym_el v el' le') := h
section
variable {post : Int32 → SX → Prop} {u : SX} {ypost : Int32 → SY → Prop} {v : SY} {p q z : Int32} {j c m : Nat}
theorem xw_append {le' : Int32} (e : p.toNatClampNeg = j) (hi : vp_in p 3) (ho : ∀ post : Int32 → Prop, post 0 → wpX_outside post p 3) (hf : ¬ xa_length u j = 24)
    (ec : (24 * p + xa_length u j).toNatClampNeg = c) (hc : vp_in (24 * p + xa_length u j) 72) (el : vp_nar .byte (xa_length u j + 1).toInt8.toInt32 = le')
    (hp : post le' (xm_el u (upd (xa_element u) c q) (upd (xa_length u) j le'))) : wpX_append post u p q := by
  subst e
  subst ec
  subst el
  refine ho _ (br_t rfl (And.intro hi (br_f hf (And.intro hi (And.intro hi (nm_e (And.intro hc (nm_e (And.intro hi ?_)))))))))
  rw [pk_us]
  exact hp
theorem yw_append (e : p.toNatClampNeg = j) (hi : vp_in p 3) (ho : ∀ post : Int32 → Prop, post 1 → wpY_isList post p) (hf : ¬ ya_sizes v j = 24)
    (ec : (24 * p + ya_sizes v j).toNatClampNeg = c) (hc : vp_in (24 * p + ya_sizes v j) 72)
    (hp : ypost (ya_sizes v j + 1) (ym_el v (upd (ya_lists v) c q) (upd (ya_sizes v) j (ya_sizes v j + 1)))) : wpY_append ypost v p q := by
  subst e
  subst ec
  unfold wpY_append
  refine ho _ ?_
  refine br_f (by decide) (And.intro hi (br_f hf (And.intro hi (And.intro hi (nm_e (And.intro hc (nm_e (And.intro hi ?_))))))))
  rw [pk_us]
  exact hp
end
end
section
/-! append, set, clear, from, unstage, place and the questions -/
section
variable {post : Int32 → SX → Prop} {u : SX} {ypost : Int32 → SY → Prop} {v : SY} {p q z : Int32} {j : Nat}
theorem xw_append_no (ho : ∀ post : Int32 → Prop, post 1 → wpX_outside post p 3) (hp : post (-1) u) : wpX_append post u p q := by
  unfold wpX_append
  refine ho _ ?_
  exact br_f (by decide) hp
theorem yw_append_no (ho : ∀ post : Int32 → Prop, post 0 → wpY_isList post p) (hp : ypost (-1) v) : wpY_append ypost v p q := by
  unfold wpY_append
  refine ho _ ?_
  exact br_t rfl hp
theorem xw_set_no (ho : ∀ post : Int32 → Prop, post 1 → wpX_outside post p 3) (hp : post (-1) u) : wpX_set post u p q z := by
  unfold wpX_set
  refine ho _ ?_
  exact br_f (by decide) hp
theorem yw_set_no (ho : ∀ post : Int32 → Prop, post 0 → wpY_isList post p) (hp : ypost (-1) v) : wpY_set ypost v p q z := by
  unfold wpY_set
  refine ho _ ?_
  exact br_t rfl hp
theorem xw_clear_no (ho : ∀ post : Int32 → Prop, post 1 → wpX_outside post p 3) (hp : post (-1) u) : wpX_clear post u p := by
  unfold wpX_clear
  refine ho _ ?_
  exact br_f (by decide) hp
theorem yw_clear_no (ho : ∀ post : Int32 → Prop, post 0 → wpY_isList post p) (hp : ypost (-1) v) : wpY_clear ypost v p := by
  unfold wpY_clear
  refine ho _ ?_
  exact br_t rfl hp
theorem xw_from_no (ho : ∀ post : Int32 → Prop, post 1 → wpX_outside post p 3) (hp : post (-1) u) : wpX_from post u p := by
  unfold wpX_from
  refine ho _ ?_
  exact br_f (by decide) hp
theorem yw_from_no (ho : ∀ post : Int32 → Prop, post 0 → wpY_isList post p) (hp : ypost (-1) v) : wpY_from ypost v p := by
  unfold wpY_from
  refine ho _ ?_
  exact br_t rfl hp
theorem xw_append_full (ho : ∀ post : Int32 → Prop, post 0 → wpX_outside post p 3) (hi : vp_in p 3) (e : p.toNatClampNeg = j) (hf : xa_length u j = 24) (hp : post (-2) u) : wpX_append post u p q := by
  subst e
  unfold wpX_append
  refine ho _ ?_
  exact br_t rfl (And.intro hi (br_t hf hp))
theorem yw_append_full (ho : ∀ post : Int32 → Prop, post 1 → wpY_isList post p) (hi : vp_in p 3) (e : p.toNatClampNeg = j) (hf : ya_sizes v j = 24) (hp : ypost (-2) v) : wpY_append ypost v p q := by
  subst e
  unfold wpY_append
  refine ho _ ?_
  exact br_f (by decide) (And.intro hi (br_t hf hp))
theorem xw_from (ho : ∀ post : Int32 → Prop, post 0 → wpX_outside post p 3) (hp : post (xa_stages u) (xm_sr u p 0)) : wpX_from post u p := by
  unfold wpX_from
  refine ho _ ?_
  exact br_t rfl hp
theorem yw_from (ho : ∀ post : Int32 → Prop, post 1 → wpY_isList post p) (hp : ypost (ya_stages v) (ym_sr v p 0)) : wpY_from ypost v p := by
  unfold wpY_from
  refine ho _ ?_
  exact br_f (by decide) hp
end
theorem i_vc_append {k : Nat} {u : SX} {v : SY} (I : i_Rel k u v) (hk : k + 4 ≤ 2049) (v1 : Int32) (v2 : Int32) : wpX_append (fun r u' => wpY_append (fun r' v' => r' = r ∧ i_Rel (k + 4) u' v') v v1 v2) u v1 v2 := by
  obtain ⟨L, N, K, n, tk, hst, htk, hrs⟩ := I
  have hst0 := hst
  obtain ⟨h1, h2, h3, h4, h5, h6, h7, h8, h9, h10, h11, h12, h13, h14⟩ := hst
  rcases i3_cases v1 with ⟨j, hj, rfl⟩ | ⟨hx, hy⟩
  · obtain ⟨m, hm, em⟩ := h11 j hj
    have hi : vp_in (nI j) 3 := vp_in_nI hj (by omega)
    have e : (nI j).toNatClampNeg = j := nI_clamp (by omega)
    have em' : ya_sizes v j = nI m := by rw [h10]; exact em
    by_cases c24 : m = 24
    · subst c24
      exact xw_append_full (fun _ hp => xw_out_in (m := 3) hj (by omega) hp) hi e em (yw_append_full (fun _ hp => yw_list_in hj hp) hi e em' ⟨rfl, L, N, K, n, tk, hst0, htk, hrs⟩)
    · have ec : (24 : Int32) * nI j + xa_length u j = nI (24 * j + m) := by rw [em]; exact zn_24 _ _
      have ec' : (24 : Int32) * nI j + ya_sizes v j = nI (24 * j + m) := by rw [em']; exact zn_24 _ _
      refine xw_append (j := j) (c := 24 * j + m) (le' := nI (m + 1)) e hi (fun _ hp => xw_out_in (m := 3) hj (by omega) hp) ?_ ?_ ?_ ?_ ?_
      · rw [em]; exact fun h => c24 ((nI_eq (b := 24) (by omega) (by omega)).mp h)
      · rw [ec]; exact nI_clamp (by omega)
      · rw [ec]; exact vp_in_nI (by omega) (by omega)
      · rw [em, nI_1]; exact zn_vb (by omega)
      · refine yw_append (j := j) (c := 24 * j + m) e hi (fun _ hp => yw_list_in hj hp) ?_ ?_ ?_ ?_
        · rw [em']; exact fun h => c24 ((nI_eq (b := 24) (by omega) (by omega)).mp h)
        · rw [ec']; exact nI_clamp (by omega)
        · rw [ec']; exact vp_in_nI (by omega) (by omega)
        · rw [em', nI_1, h9, h10]
          refine ⟨rfl, L, N, K, n, tk, rl_st_el hst0 (fun l hl => ?_), rl_tk_el htk, rl_rs_el hrs⟩
          by_cases c : l = j
          · subst c; exact ⟨m + 1, by omega, pk_us⟩
          · obtain ⟨m', hm', em2⟩ := h11 l hl
            exact ⟨m', hm', (pk_un c).trans em2⟩
  · exact xw_append_no hx (yw_append_no hy ⟨rfl, L, N, K, n, tk, hst0, htk, hrs⟩)
theorem rl_st_e1 {u : SX} {v : SY} {L N : Nat} {K : Nat → Nat} {el : Nat → Int32} (h : rl_st u v L N K) : rl_st (xs_element u el) (ys_lists v el) L N K := by
  obtain ⟨h1, h2, h3, h4, h5, h6, h7, h8, h9, h10, h11, h12, h13, h14⟩ := h
  exact ⟨h1, h2, h3, h4, h5, h6, h7, h8, rfl, h10, h11, h12, h13, h14⟩
theorem rl_st_l1 {u : SX} {v : SY} {L N : Nat} {K : Nat → Nat} {le : Nat → Int32} (h : rl_st u v L N K) (hle : ∀ l, l < 3 → ∃ m, m ≤ 24 ∧ le l = nI m) :
    rl_st (xs_length u le) (ys_sizes v le) L N K := by
  obtain ⟨h1, h2, h3, h4, h5, h6, h7, h8, h9, h10, h11, h12, h13, h14⟩ := h
  exact ⟨h1, h2, h3, h4, h5, h6, h7, h8, h9, rfl, hle, h12, h13, h14⟩
theorem rl_e1 {u : SX} {v : SY} {n : Nat} {tk : Nat → Nat} {el el' : Nat → Int32} (h : rl_tk u v n tk ∧ rl_rs u v) : rl_tk (xs_element u el) (ys_lists v el') n tk ∧ rl_rs (xs_element u el) (ys_lists v el') := h
theorem rl_l1 {u : SX} {v : SY} {n : Nat} {tk : Nat → Nat} {el el' : Nat → Int32} (h : rl_tk u v n tk ∧ rl_rs u v) : rl_tk (xs_length u el) (ys_sizes v el') n tk ∧ rl_rs (xs_length u el) (ys_sizes v el') := h
section
variable {post : Int32 → SX → Prop} {u : SX} {ypost : Int32 → SY → Prop} {v : SY} {p q z : Int32} {j c m : Nat}
theorem xw_set (e : p.toNatClampNeg = j) (hi : vp_in p 3) (ho : ∀ post : Int32 → Prop, post 0 → wpX_outside post p 3) (ho2 : ∀ post : Int32 → Prop, post 0 → wpX_outside post q (xa_length u j))
    (ec : (24 * p + q).toNatClampNeg = c) (hc : vp_in (24 * p + q) 72) (hp : post (xa_element u c &&& 1073741823) (xs_element u (upd (xa_element u) c z))) : wpX_set post u p q z := by
  subst e
  subst ec
  refine ho _ (br_t rfl (And.intro hi ?_))
  refine ho2 _ (br_t rfl (And.intro hc (nm_e (And.intro hc (nm_e hp)))))
theorem xw_setno (e : p.toNatClampNeg = j) (hi : vp_in p 3) (ho : ∀ post : Int32 → Prop, post 0 → wpX_outside post p 3) (ho2 : ∀ post : Int32 → Prop, post 1 → wpX_outside post q (xa_length u j))
    (hp : post (-1) u) : wpX_set post u p q z := by
  subst e
  refine ho _ (br_t rfl (And.intro hi ?_))
  refine ho2 _ ?_
  exact br_f (by decide) hp
theorem yw_set (e : p.toNatClampNeg = j) (hi : vp_in p 3) (ho : ∀ post : Int32 → Prop, post 1 → wpY_isList post p) (h0 : ¬ q < 0) (h1 : q < ya_sizes v j)
    (ec : (24 * p + q).toNatClampNeg = c) (hc : vp_in (24 * p + q) 72) (hp : ypost (ya_lists v c &&& 1073741823) (ys_lists v (upd (ya_lists v) c z))) : wpY_set ypost v p q z := by
  subst e
  subst ec
  unfold wpY_set
  refine ho _ ?_
  exact br_f (by decide) (br_f h0 (And.intro hi (br_t h1 (And.intro hc (nm_e (And.intro hc (nm_e hp)))))))
theorem yw_setno (e : p.toNatClampNeg = j) (hi : vp_in p 3) (ho : ∀ post : Int32 → Prop, post 1 → wpY_isList post p) (h1 : q < 0 ∨ ¬ q < ya_sizes v j)
    (hp : ypost (-1) v) : wpY_set ypost v p q z := by
  subst e
  unfold wpY_set
  refine ho _ ?_
  refine br_f (by decide) (br_c (fun _ => hp) (fun h0 => And.intro hi (br_f (h1.resolve_left h0) hp)))
theorem xw_clear (e : p.toNatClampNeg = j) (hi : vp_in p 3) (ho : ∀ post : Int32 → Prop, post 0 → wpX_outside post p 3) (hp : post (xa_length u j) (xs_length u (upd (xa_length u) j 0))) : wpX_clear post u p := by
  subst e
  refine ho _ (br_t rfl (And.intro hi (nm_e (And.intro hi ?_))))
  rw [zn_by0]
  exact nm_e hp
theorem yw_clear (e : p.toNatClampNeg = j) (hi : vp_in p 3) (ho : ∀ post : Int32 → Prop, post 1 → wpY_isList post p) (hp : ypost (ya_sizes v j) (ys_sizes v (upd (ya_sizes v) j 0))) : wpY_clear ypost v p := by
  subst e
  unfold wpY_clear
  refine ho _ ?_
  exact br_f (by decide) (And.intro hi (nm_e (And.intro hi (nm_e hp))))
end
theorem i_vc_set {k : Nat} {u : SX} {v : SY} (I : i_Rel k u v) (hk : k + 4 ≤ 2049) (v1 : Int32) (v2 : Int32) (v3 : Int32) : wpX_set (fun r u' => wpY_set (fun r' v' => r' = r ∧ i_Rel (k + 4) u' v') v v1 v2 v3) u v1 v2 v3 := by
  obtain ⟨L, N, K, n, tk, hst, htk, hrs⟩ := I
  have hst0 := hst
  obtain ⟨h1, h2, h3, h4, h5, h6, h7, h8, h9, h10, h11, h12, h13, h14⟩ := hst
  rcases i3_cases v1 with ⟨j, hj, rfl⟩ | ⟨hx, hy⟩
  · obtain ⟨m, hm, em⟩ := h11 j hj
    have hi : vp_in (nI j) 3 := vp_in_nI hj (by omega)
    have e : (nI j).toNatClampNeg = j := nI_clamp (by omega)
    have em' : ya_sizes v j = nI m := by rw [h10]; exact em
    by_cases hneg : v2 < 0
    · exact xw_setno e hi (fun _ hp => xw_out_in (m := 3) hj (by omega) hp) (fun _ hp => xw_out_neg hneg hp)
        (yw_setno e hi (fun _ hp => yw_list_in hj hp) (Or.inl hneg) ⟨rfl, L, N, K, n, tk, hst0, htk, hrs⟩)
    · obtain ⟨q, hq, rfl⟩ := nI_of hneg
      by_cases hqm : q < m
      · have ec : (24 : Int32) * nI j + nI q = nI (24 * j + q) := zn_24 _ _
        refine xw_set (j := j) (c := 24 * j + q) e hi (fun _ hp => xw_out_in (m := 3) hj (by omega) hp) (fun _ hp => by rw [em]; exact xw_out_in hqm (by omega) hp)
          (by rw [ec]; exact nI_clamp (by omega)) (by rw [ec]; exact vp_in_nI (by omega) (by omega)) ?_
        refine yw_set (j := j) (c := 24 * j + q) e hi (fun _ hp => yw_list_in hj hp) hneg (by rw [em']; exact nI_lt hqm (by omega))
          (by rw [ec]; exact nI_clamp (by omega)) (by rw [ec]; exact vp_in_nI (by omega) (by omega)) ?_
        rw [h9]
        exact ⟨rfl, L, N, K, n, tk, rl_st_e1 hst0, rl_e1 ⟨htk, hrs⟩⟩
      · exact xw_setno e hi (fun _ hp => xw_out_in (m := 3) hj (by omega) hp) (fun _ hp => by rw [em]; exact xw_out_hi hneg (nI_le (by omega) hq) hp)
          (yw_setno e hi (fun _ hp => yw_list_in hj hp) (Or.inr (by rw [em']; exact nI_nlt (by omega) hq)) ⟨rfl, L, N, K, n, tk, hst0, htk, hrs⟩)
  · exact xw_set_no hx (yw_set_no hy ⟨rfl, L, N, K, n, tk, hst0, htk, hrs⟩)
theorem i_vc_clear {k : Nat} {u : SX} {v : SY} (I : i_Rel k u v) (hk : k + 4 ≤ 2049) (v1 : Int32) : wpX_clear (fun r u' => wpY_clear (fun r' v' => r' = r ∧ i_Rel (k + 4) u' v') v v1) u v1 := by
  obtain ⟨L, N, K, n, tk, hst, htk, hrs⟩ := I
  have hst0 := hst
  obtain ⟨h1, h2, h3, h4, h5, h6, h7, h8, h9, h10, h11, h12, h13, h14⟩ := hst
  rcases i3_cases v1 with ⟨j, hj, rfl⟩ | ⟨hx, hy⟩
  · have hi : vp_in (nI j) 3 := vp_in_nI hj (by omega)
    have e : (nI j).toNatClampNeg = j := nI_clamp (by omega)
    refine xw_clear e hi (fun _ hp => xw_out_in (m := 3) hj (by omega) hp) (yw_clear e hi (fun _ hp => yw_list_in hj hp) ?_)
    rw [h10]
    refine ⟨rfl, L, N, K, n, tk, rl_st_l1 hst0 (fun l hl => ?_), rl_l1 ⟨htk, hrs⟩⟩
    by_cases c : l = j
    · subst c; exact ⟨0, by omega, pk_us⟩
    · obtain ⟨m', hm', em2⟩ := h11 l hl
      exact ⟨m', hm', (pk_un c).trans em2⟩
  · exact xw_clear_no hx (yw_clear_no hy ⟨rfl, L, N, K, n, tk, hst0, htk, hrs⟩)
theorem rl_st_sr {u : SX} {v : SY} {L N N' : Nat} {K : Nat → Nat} {q : Nat} {s : Int32} (h : rl_st u v L N K) (hq : q < 3) (hs : s = nI N') (hN : N' ≤ N) : rl_st (xm_sr u (nI q) s) (ym_sr v (nI q) s) L N' K := by
  obtain ⟨h1, h2, h3, h4, h5, h6, h7, h8, h9, h10, h11, h12, h13, h14⟩ := h
  exact ⟨h1, h2, h3, h4, hs, hs, by omega, ⟨q, hq, rfl, rfl⟩, h9, h10, h11, h12, h13, fun s hs => h14 s (by omega)⟩
theorem rl_sr {u : SX} {v : SY} {n : Nat} {tk : Nat → Nat} {a b c d : Int32} (h : rl_tk u v n tk ∧ rl_rs u v) : rl_tk (xm_sr u a b) (ym_sr v c d) n tk ∧ rl_rs (xm_sr u a b) (ym_sr v c d) := h
theorem i_vc_from {k : Nat} {u : SX} {v : SY} (I : i_Rel k u v) (hk : k + 4 ≤ 2049) (v1 : Int32) : wpX_from (fun r u' => wpY_from (fun r' v' => r' = r ∧ i_Rel (k + 4) u' v') v v1) u v1 := by
  obtain ⟨L, N, K, n, tk, hst, htk, hrs⟩ := I
  have hst0 := hst
  obtain ⟨h1, h2, h3, h4, h5, h6, h7, h8, h9, h10, h11, h12, h13, h14⟩ := hst
  rcases i3_cases v1 with ⟨j, hj, rfl⟩ | ⟨hx, hy⟩
  · have hf : ya_stages v = xa_stages u ∧ i_Rel (k + 4) (xm_sr u (nI j) 0) (ym_sr v (nI j) 0) := ⟨h6.trans h5.symm, L, 0, K, n, tk, rl_st_sr hst0 hj rfl (by omega), rl_sr ⟨htk, hrs⟩⟩
    exact xw_from (fun _ hp => xw_out_in (m := 3) hj (by omega) hp) (yw_from (fun _ hp => yw_list_in hj hp) hf)
  · exact xw_from_no hx (yw_from_no hy ⟨rfl, L, N, K, n, tk, hst0, htk, hrs⟩)
theorem i_vc_place {k : Nat} {u : SX} {v : SY} (I : i_Rel k u v) (hk : k + 4 ≤ 2049) : wpX_place (fun r => wpY_place (fun r' => r' = r ∧ i_Rel (k + 4) u v) v) u := by
  have I0 := I
  obtain ⟨L, N, K, n, tk, hst, htk, hrs⟩ := I
  exact ⟨hrs.1, I0⟩
theorem i_vc_failed {k : Nat} {u : SX} {v : SY} (I : i_Rel k u v) (hk : k + 4 ≤ 2049) : wpX_failed (fun r => wpY_failed (fun r' => r' = r ∧ i_Rel (k + 4) u v) v) u := by
  have I0 := I
  obtain ⟨L, N, K, n, tk, hst, htk, hrs⟩ := I
  exact ⟨hrs.2.2.2.2.2.1, I0⟩
theorem rl_st_s1 {u : SX} {v : SY} {L N N' : Nat} {K : Nat → Nat} {s : Int32} (h : rl_st u v L N K) (hs : s = nI N') (hN : N' ≤ N) : rl_st (xs_stages u s) (ys_stages v s) L N' K := by
  obtain ⟨h1, h2, h3, h4, h5, h6, h7, h8, h9, h10, h11, h12, h13, h14⟩ := h
  exact ⟨h1, h2, h3, h4, hs, hs, by omega, h8, h9, h10, h11, h12, h13, fun s hs => h14 s (by omega)⟩
theorem rl_s1 {u : SX} {v : SY} {n : Nat} {tk : Nat → Nat} {a b : Int32} (h : rl_tk u v n tk ∧ rl_rs u v) : rl_tk (xs_stages u a) (ys_stages v b) n tk ∧ rl_rs (xs_stages u a) (ys_stages v b) := h
theorem xw_unstage {post : Int32 → SX → Prop} {u : SX} (h : ¬ xa_stages u = 0) (hp : post (xa_stages u - 1) (xs_stages u (xa_stages u - 1))) : wpX_unstage post u := br_f h (nm_e hp)
theorem yw_unstage {post : Int32 → SY → Prop} {u : SY} (h : ¬ ya_stages u = 0) (hp : post (ya_stages u - 1) (ys_stages u (ya_stages u - 1))) : wpY_unstage post u := br_f h (nm_e hp)
theorem i_vc_unstage {k : Nat} {u : SX} {v : SY} (I : i_Rel k u v) (hk : k + 4 ≤ 2049) : wpX_unstage (fun r u' => wpY_unstage (fun r' v' => r' = r ∧ i_Rel (k + 4) u' v') v) u := by
  obtain ⟨L, N, K, n, tk, hst, htk, hrs⟩ := I
  have hst0 := hst
  obtain ⟨h1, h2, h3, h4, h5, h6, h7, h8, h9, h10, h11, h12, h13, h14⟩ := hst
  match N, h5, h6, h7, hst0 with
  | 0, h5, h6, h7, hst0 => exact br_t h5 (br_t h6 ⟨rfl, L, 0, K, n, tk, hst0, htk, hrs⟩)
  | N + 1, h5, h6, h7, hst0 =>
    have e : xa_stages u - 1 = nI N := by rw [h5, nI_pred]
    have e' : ya_stages v - 1 = nI N := by rw [h6, nI_pred]
    refine xw_unstage (by rw [h5]; exact nI_ne0 (by omega) (by omega)) (yw_unstage (by rw [h6]; exact nI_ne0 (by omega) (by omega)) ?_)
    rw [e, e']
    exact ⟨rfl, L, N, K, n, tk, rl_st_s1 hst0 rfl (by omega), rl_s1 ⟨htk, hrs⟩⟩
theorem i_vc_applied {k : Nat} {u : SX} {v : SY} (I : i_Rel k u v) (hk : k + 4 ≤ 2049) (v1 : Int32) : wpX_applied (fun r => wpY_applied (fun r' => r' = r ∧ i_Rel (k + 4) u v) v v1) u v1 := by
  have I0 := I
  obtain ⟨L, N, K, n, tk, hst, htk, hrs⟩ := I
  obtain ⟨r1, r2, r3, r4, r5, r6, ⟨m, hm, em, hz⟩, r8⟩ := hrs
  have hO : ∀ post : Int32 → Prop, (xa_lastStages u = nI m) := fun _ => em
  by_cases hneg : v1 < 0
  · have hx : ∀ post : Int32 → Prop, post 1 → wpX_outside post v1 (xa_lastStages u) := fun _ hp => xw_out_neg hneg hp
    exact hx _ (br_f (by decide) (br_c (fun _ => ⟨rfl, I0⟩) (fun _ => br_t hneg ⟨rfl, I0⟩)))
  · obtain ⟨q, hq, rfl⟩ := nI_of hneg
    by_cases hqm : q < m
    · have hx : ∀ post : Int32 → Prop, post 0 → wpX_outside post (nI q) (xa_lastStages u) := fun _ hp => by rw [em]; exact xw_out_in hqm (by omega) hp
      have hi : vp_in (nI q) 8 := vp_in_nI (by omega) (by omega)
      have hr : ¬ ya_ran v = 0 := fun h => by
        have := (r8 h).1
        rw [em] at this
        have := (nI_eq (b := 0) (by omega) (by omega)).mp this
        omega
      refine hx _ (br_t rfl (And.intro hi (br_f hr (br_f hneg (br_t (nI_le (b := 7) (by omega) (by omega)) (And.intro hi ⟨?_, I0⟩))))))
      exact congrFun r2 _
    · have hx : ∀ post : Int32 → Prop, post 1 → wpX_outside post (nI q) (xa_lastStages u) := fun _ hp => by rw [em]; exact xw_out_hi hneg (nI_le (by omega) hq) hp
      refine hx _ (br_f (by decide) (br_c (fun _ => ⟨rfl, I0⟩) (fun _ => br_f hneg (br_c (fun h7 => ?_) (fun _ => ⟨rfl, I0⟩)))))
      have h7' : q ≤ 7 := (nI_leI (b := 7) hq (by omega)).mp h7
      refine And.intro (vp_in_nI (by omega) (by omega)) ⟨?_, I0⟩
      rw [nI_clamp hq]
      exact (congrFun r2 q).trans (hz q (by omega) (by omega))
theorem i_vc_read {k : Nat} {u : SX} {v : SY} (I : i_Rel k u v) (hk : k + 4 ≤ 2049) (v1 : Int32) : wpX_read (fun r => wpY_read (fun r' => r' = r ∧ i_Rel (k + 4) u v) v v1) u v1 := by
  have I0 := I
  obtain ⟨L, N, K, n, tk, hst, htk, hrs⟩ := I
  obtain ⟨r1, r2, r3, r4, r5, r6, r7, r8⟩ := hrs
  rcases i3_cases v1 with ⟨j, hj, rfl⟩ | ⟨hx, hy⟩
  · have hi : vp_in (nI j) 3 := vp_in_nI hj (by omega)
    have e : (nI j).toNatClampNeg = j := nI_clamp (by omega)
    refine xw_out_in (m := 3) hj (by omega) (br_t rfl (And.intro hi (br_c (fun h0 => ?_) (fun _ => yw_list_in hj (br_f (by decide) (And.intro hi ⟨congrFun r3 _, I0⟩))))))
    refine ⟨?_, I0⟩
    rw [e]
    exact ((r8 h0).2 j hj).symm
  · exact hx _ (br_f (by decide) (br_c (fun _ => ⟨rfl, I0⟩) (fun _ => hy _ (br_t rfl ⟨rfl, I0⟩))))
theorem i_vc_seen {k : Nat} {u : SX} {v : SY} (I : i_Rel k u v) (hk : k + 4 ≤ 2049) (v1 : Int32) : wpX_seen (fun r => wpY_seen (fun r' => r' = r ∧ i_Rel (k + 4) u v) v v1) u v1 := by
  have I0 := I
  obtain ⟨L, N, K, n, tk, hst, htk, hrs⟩ := I
  obtain ⟨r1, r2, r3, r4, ⟨m, hm, em, em'⟩, r6, r7, r8⟩ := hrs
  by_cases hneg : v1 < 0
  · have hx : ∀ post : Int32 → Prop, post 1 → wpX_outside post v1 (xa_shownCount u) := fun _ hp => xw_out_neg hneg hp
    exact hx _ (br_f (by decide) (br_t hneg ⟨rfl, I0⟩))
  · obtain ⟨q, hq, rfl⟩ := nI_of hneg
    by_cases hqm : q < m
    · have hx : ∀ post : Int32 → Prop, post 0 → wpX_outside post (nI q) (xa_shownCount u) := fun _ hp => by rw [em]; exact xw_out_in hqm (by omega) hp
      have hi : vp_in (nI q) 16 := vp_in_nI (by omega) (by omega)
      exact hx _ (br_t rfl (And.intro hi (br_f hneg (br_t (show nI q < ya_seenCount v by rw [em']; exact nI_lt hqm (by omega)) (And.intro hi ⟨congrFun r4 _, I0⟩)))))
    · have hx : ∀ post : Int32 → Prop, post 1 → wpX_outside post (nI q) (xa_shownCount u) := fun _ hp => by rw [em]; exact xw_out_hi hneg (nI_le (by omega) hq) hp
      exact hx _ (br_f (by decide) (br_f hneg (br_f (show ¬ nI q < ya_seenCount v by rw [em']; exact nI_nlt (by omega) hq) ⟨rfl, I0⟩)))
end
section
/-! put -/
def gd_ok (x : Int32) : Prop := ∃ t, x = nI t ∧ (t ≤ 13 ∨ (1000 ≤ t ∧ t ≤ 100999))
noncomputable def gd_c (x : Int32) : Nat := if x = 0 then 0 else 1
theorem xw_good_y {post : Int32 → Prop} {x : Int32} (h : gd_ok x) (hp : post 1) : wpX_good post x := by
  obtain ⟨t, rfl, ht⟩ := h
  refine br_f (nI_pos (by omega)) ?_
  by_cases c : t < 14
  · exact br_t (nI_lt (b := 14) c (by omega)) hp
  · exact br_f (nI_nlt (b := 14) (by omega) (by omega)) (br_f (nI_ge (a := 999) (by omega) (by omega)) (br_f (nI_ge (b := 101000) (by omega) (by omega)) hp))
theorem gd_neg {x : Int32} (h : x < 0) (c : Int32) (hc : 0 ≤ c.toInt) : x ≤ c ∧ x < c ∨ x < c := by
  rw [Int32.lt_iff_toInt_lt] at h
  have e0 : (0 : Int32).toInt = 0 := by decide
  right
  rw [Int32.lt_iff_toInt_lt]
  omega
theorem xw_good_n {post : Int32 → Prop} {x : Int32} (h : ¬ gd_ok x) (hp : post 0) : wpX_good post x := by
  by_cases hn : x < 0
  · refine br_t hn (br_t ?_ hp)
    rw [Int32.lt_iff_toInt_lt] at hn
    have e0 : (0 : Int32).toInt = 0 := by decide
    have e9 : (999 : Int32).toInt = 999 := by decide
    rw [Int32.le_iff_toInt_le]
    omega
  · obtain ⟨t, ht, rfl⟩ := nI_of hn
    have hb : ¬ (t ≤ 13 ∨ (1000 ≤ t ∧ t ≤ 100999)) := fun z => h ⟨t, rfl, z⟩
    refine br_f hn (br_f (nI_nlt (b := 14) (by omega) ht) ?_)
    by_cases c : t ≤ 999
    · exact br_t (nI_le (b := 999) c (by omega)) hp
    · exact br_f (nI_ge (a := 999) (by omega) ht) (br_t (nI_le (a := 101000) (by omega) ht) hp)
theorem yw_token_y {post : Int32 → Prop} {x : Int32} (h : gd_ok x) (h0 : ¬ x = 0) (hp : post 1) : wpY_token post x := by
  obtain ⟨t, rfl, ht⟩ := h
  have h1 : t ≠ 0 := fun z => h0 (by rw [z]; rfl)
  refine br_f (nI_nlt (b := 1) (by omega) (by omega)) ?_
  by_cases c : t ≤ 13
  · exact br_t (nI_le (b := 13) c (by omega)) hp
  · exact br_f (nI_ge (a := 13) (by omega) (by omega)) (br_f (nI_nlt (b := 1000) (by omega) (by omega)) (br_f (nI_nlt (a := 100999) (by omega) (by omega)) hp))
theorem yw_token_n {post : Int32 → Prop} {x : Int32} (h : ¬ gd_ok x) (hp : post 0) : wpY_token post x := by
  by_cases hn : x < 0
  · rw [Int32.lt_iff_toInt_lt] at hn
    have e0 : (0 : Int32).toInt = 0 := by decide
    have e1 : (1 : Int32).toInt = 1 := by decide
    have e9 : (1000 : Int32).toInt = 1000 := by decide
    refine br_t ?_ (br_t ?_ hp)
    · rw [Int32.lt_iff_toInt_lt]; omega
    · rw [Int32.lt_iff_toInt_lt]; omega
  · obtain ⟨t, ht, rfl⟩ := nI_of hn
    have hb : ¬ (t ≤ 13 ∨ (1000 ≤ t ∧ t ≤ 100999)) := fun z => h ⟨t, rfl, z⟩
    refine br_f (nI_nlt (b := 1) (by omega) ht) (br_f (nI_ge (a := 13) (by omega) ht) ?_)
    by_cases c : t < 1000
    · exact br_t (nI_lt (b := 1000) c (by omega)) hp
    · exact br_f (nI_nlt (b := 1000) (by omega) ht) (br_t (nI_lt (a := 100999) (by omega) ht) hp)
section
variable {post : SX → Prop} {w : SX} {ypost : SY → Prop} {y : SY} {x : Int32} {m : Nat}
theorem xw_take1 (h0 : ¬ x = 0) (hm : xa_tokens w = nI m) (h : m < 16) (hp : post (xm_tk w (nI (m + 1)) (upd (xa_token w) m x))) : wpX_take post w x := by
  have hi : vp_in (xa_tokens w) 16 := by rw [hm]; exact vp_in_nI h (by omega)
  have e : (xa_tokens w).toNatClampNeg = m := by rw [hm]; exact nI_clamp (by omega)
  have e1 : xa_tokens w + 1 = nI (m + 1) := by rw [hm, nI_1]
  subst e
  exact br_f h0 (nm_r e1 (And.intro hi (nm_e hp)))
theorem yw_add1 (h0 : ¬ x = 0) (hm : ya_counts y 0 = nI m) (h : m < 16) (hp : ypost (ym_tk y (upd (ya_tokens y) m x) (upd (ya_counts y) 0 (nI (m + 1))))) : wpY_add ypost y x := by
  have hi : vp_in (ya_counts y 0) 144 := by rw [hm]; exact vp_in_nI (by omega) (by omega)
  have e : (ya_counts y 0).toNatClampNeg = m := by rw [hm]; exact nI_clamp (by omega)
  have e1 : ya_counts y 0 + 1 = nI (m + 1) := by rw [hm, nI_1]
  subst e
  exact br_f h0 (nm_r (by rw [e1]) (And.intro hi (nm_e hp)))
end
theorem tk_lock {u : SX} {v : SY} {n : Nat} {tk : Nat → Nat} (h : rl_tk u v n tk) {x : Int32} (hg : gd_ok x) (hn : n + gd_c x ≤ 16) :
    ∃ tk' t a tok cnt, rl_tk (xm_tk u t a) (ym_tk v tok cnt) (n + gd_c x) tk' ∧ (∀ j, 16 ≤ j → tok j = ya_tokens v j) ∧ (∀ j, j ≠ 0 → cnt j = ya_counts v j) ∧
      (∀ post : SX → Prop, post (xm_tk u t a) → wpX_take post u x) ∧ (∀ post : SY → Prop, post (ym_tk v tok cnt) → wpY_add post v x) := by
  by_cases h0 : x = 0
  · have e : gd_c x = 0 := if_pos h0
    rw [e]
    exact ⟨tk, xa_tokens u, xa_token u, ya_tokens v, ya_counts v, h, fun _ _ => rfl, fun _ _ => rfl, fun _ hp => br_t h0 hp, fun _ hp => br_t h0 hp⟩
  · have e : gd_c x = 1 := if_neg h0
    rw [e] at hn ⊢
    obtain ⟨h1, h2, h3, h4⟩ := h
    obtain ⟨t, rfl, ht⟩ := hg
    have t0 : t ≠ 0 := fun z => h0 (by rw [z]; rfl)
    refine ⟨fun i => if i = n then t else tk i, nI (n + 1), upd (xa_token u) n (nI t), upd (ya_tokens v) n (nI t), upd (ya_counts v) 0 (nI (n + 1)), ⟨by omega, rfl, show upd (ya_counts v) 0 (nI (n + 1)) 0 = nI (n + 1) from pk_us, fun i hi => ?_⟩,
      fun j hj => pk_un (by omega), fun j hj => pk_un hj, fun _ hp => xw_take1 h0 h2 (by omega) hp, fun _ hp => yw_add1 h0 h3 (by omega) hp⟩
    show upd (xa_token u) n (nI t) i = nI (if i = n then t else tk i) ∧ upd (ya_tokens v) n (nI t) i = nI (if i = n then t else tk i) ∧ rl_tok (if i = n then t else tk i)
    by_cases c : i = n
    · subst c
      rw [if_pos rfl]
      exact ⟨pk_us, pk_us, by omega, by omega, by omega⟩
    · rw [if_neg c]
      have := h4 i (by omega)
      exact ⟨(pk_un c).trans this.1, (pk_un c).trans this.2.1, this.2.2⟩
theorem xm_tt (u : SX) (t t' : Int32) (a a' : Nat → Int32) : xm_tk (xm_tk u t a) t' a' = xm_tk u t' a' := rfl
theorem ym_tt (v : SY) (t t' a a' : Nat → Int32) : ym_tk (ym_tk v t a) t' a' = ym_tk v t' a' := rfl
theorem tk_lock3 {u : SX} {v : SY} {n : Nat} {tk : Nat → Nat} (h : rl_tk u v n tk) {x y z : Int32} (gx : gd_ok x) (gy : gd_ok y) (gz : gd_ok z) (hn : n + (gd_c x + gd_c y + gd_c z) ≤ 16) :
    ∃ n' tk' t a tok cnt, rl_tk (xm_tk u t a) (ym_tk v tok cnt) n' tk' ∧ (∀ j, 16 ≤ j → tok j = ya_tokens v j) ∧ (∀ j, j ≠ 0 → cnt j = ya_counts v j) ∧
      (∀ post : SX → Prop, post (xm_tk u t a) → wpX_take (fun w1 => wpX_take (fun w2 => wpX_take post w2 z) w1 y) u x) ∧
      (∀ post : SY → Prop, post (ym_tk v tok cnt) → wpY_add (fun w1 => wpY_add (fun w2 => wpY_add post w2 z) w1 y) v x) := by
  obtain ⟨tk1, t1, a1, tok1, cnt1, r1, f1, g1, X1, Y1⟩ := tk_lock h gx (by omega)
  obtain ⟨tk2, t2, a2, tok2, cnt2, r2, f2, g2, X2, Y2⟩ := tk_lock r1 gy (by omega)
  obtain ⟨tk3, t3, a3, tok3, cnt3, r3, f3, g3, X3, Y3⟩ := tk_lock r2 gz (by omega)
  exact ⟨_, tk3, t3, a3, tok3, cnt3, r3, fun j hj => (f3 j hj).trans ((f2 j hj).trans (f1 j hj)), fun j hj => (g3 j hj).trans ((g2 j hj).trans (g1 j hj)),
    fun post hp => X1 _ (X2 _ (X3 _ hp)), fun post hp => Y1 _ (Y2 _ (Y3 _ hp))⟩
/-! put itself -/
def xl_p (post : Int32 → SX → Prop) (a b c x4 : Int32) (w : SX) : Prop :=
  wpX_good (fun r => (r = 0 → post (-1) w) ∧ (¬ r = 0 → wpX_good (fun r => (r = 0 → post (-1) w) ∧ (¬ r = 0 → wpX_good (fun r => (r = 0 → post (-1) w) ∧ (¬ r = 0 →
    ((xa_tokens w + x4 ≤ 16 → wpX_take (fun w1 => wpX_take (fun w2 => wpX_take (fun w3 => post (xa_tokens w3) w3) w2 c) w1 b) w a) ∧ (¬ xa_tokens w + x4 ≤ 16 → post (-1) w)))) c)) b)) a
section
variable {post : Int32 → SX → Prop} {w : SX} {ypost : Int32 → SY → Prop} {y : SY} {a b c : Int32}
theorem xw_put_28 {z0 z1 : Int32} (h : xl_p post a b c (z1 + z0) w) : wX_put_28 post a b c z0 z1 (xa_limit w) (xa_source w) (xa_stages w) (xa_tokens w) (xa_wrongPlace w) (xa_waits w) (xa_parens w) (xa_opens w) (xa_from w) (xa_at w) (xa_ended w) (xa_spent w) (xa_stopped w) (xa_out w) (xa_lastStages w) (xa_failedStage w) (xa_shownCount w) (xa_element w) (xa_length w) (xa_kind w) (xa_constant w) (xa_step w) (xa_number w) (xa_steps w) (xa_quick w) (xa_token w) (xa_waiting w) (xa_compared w) (xa_operand w) (xa_memory w) (xa_begun w) (xa_place w) (xa_held w) (xa_keyOf w) (xa_next w) (xa_size w) (xa_head w) (xa_openStage w) (xa_openValue w) (xa_openLeft w) (xa_applications w) (xa_reads w) (xa_shown w) := nm_e h
theorem xw_put_in (h : xl_p post a b c (nI (gd_c a + gd_c b + gd_c c)) w) : wpX_put post w a b c := by
  by_cases ha : a = 0
  · rw [show gd_c a = 0 from if_pos ha] at h
    refine br_t ha ?_
    by_cases hb : b = 0
    · rw [show gd_c b = 0 from if_pos hb] at h
      refine br_t hb ?_
      by_cases hc : c = 0
      · rw [show gd_c c = 0 from if_pos hc] at h
        exact br_t hc (xw_put_28 h)
      · rw [show gd_c c = 1 from if_neg hc] at h
        exact br_f hc (xw_put_28 h)
    · rw [show gd_c b = 1 from if_neg hb] at h
      refine br_f hb ?_
      by_cases hc : c = 0
      · rw [show gd_c c = 0 from if_pos hc] at h
        exact br_t hc (xw_put_28 h)
      · rw [show gd_c c = 1 from if_neg hc] at h
        exact br_f hc (xw_put_28 h)
  · rw [show gd_c a = 1 from if_neg ha] at h
    refine br_f ha ?_
    by_cases hb : b = 0
    · rw [show gd_c b = 0 from if_pos hb] at h
      refine br_t hb ?_
      by_cases hc : c = 0
      · rw [show gd_c c = 0 from if_pos hc] at h
        exact br_t hc (xw_put_28 h)
      · rw [show gd_c c = 1 from if_neg hc] at h
        exact br_f hc (xw_put_28 h)
    · rw [show gd_c b = 1 from if_neg hb] at h
      refine br_f hb ?_
      by_cases hc : c = 0
      · rw [show gd_c c = 0 from if_pos hc] at h
        exact br_t hc (xw_put_28 h)
      · rw [show gd_c c = 1 from if_neg hc] at h
        exact br_f hc (xw_put_28 h)
theorem xl_p_no {x4 : Int32} (h : ¬ (gd_ok a ∧ gd_ok b ∧ gd_ok c) ∨ ¬ xa_tokens w + x4 ≤ 16) (hp : post (-1) w) : xl_p post a b c x4 w := by
  unfold xl_p
  by_cases ga : gd_ok a
  · refine xw_good_y ga (br_f (by decide) ?_)
    by_cases gb : gd_ok b
    · refine xw_good_y gb (br_f (by decide) ?_)
      by_cases gc : gd_ok c
      · exact xw_good_y gc (br_f (by decide) (br_f (h.resolve_left (fun z => z ⟨ga, gb, gc⟩)) hp))
      · exact xw_good_n gc (br_t rfl hp)
    · exact xw_good_n gb (br_t rfl hp)
  · exact xw_good_n ga (br_t rfl hp)
theorem xl_p_ok {x4 : Int32} (ga : gd_ok a) (gb : gd_ok b) (gc : gd_ok c) (h : xa_tokens w + x4 ≤ 16)
    (hp : wpX_take (fun w1 => wpX_take (fun w2 => wpX_take (fun w3 => post (xa_tokens w3) w3) w2 c) w1 b) w a) : xl_p post a b c x4 w :=
  xw_good_y ga (br_f (by decide) (xw_good_y gb (br_f (by decide) (xw_good_y gc (br_f (by decide) (br_t h hp))))))
def yl_p (post : Int32 → SY → Prop) (a b c x4 z : Int32) (w : SY) : Prop := wY_put_69 post a b c x4 z (ya_limit w) (ya_source w) (ya_stages w) (ya_wrongAt w) (ya_paid w) (ya_at w) (ya_seenCount w) (ya_failedAt w) (ya_v w) (ya_valTop w) (ya_opTop w) (ya_ran w) (ya_broken w) (ya_outcome w) (ya_lists w) (ya_sizes w) (ya_tokens w) (ya_counts w) (ya_kinds w) (ya_numbers w) (ya_left w) (ya_last w) (ya_place w) (ya_begun w) (ya_held w) (ya_keys w) (ya_holds w) (ya_applied w) (ya_reads w) (ya_seen w) (ya_vals w) (ya_ops w)
theorem yl_p_in {x4 : Int32} (hy : gd_ok a ∧ gd_ok b ∧ gd_ok c → yl_p ypost a b c x4 1 y) (hn : ¬ (gd_ok a ∧ gd_ok b ∧ gd_ok c) → yl_p ypost a b c x4 0 y) :
    (a = 0 → wY_put_42 ypost a b c x4 (ya_limit y) (ya_source y) (ya_stages y) (ya_wrongAt y) (ya_paid y) (ya_at y) (ya_seenCount y) (ya_failedAt y) (ya_v y) (ya_valTop y) (ya_opTop y) (ya_ran y) (ya_broken y) (ya_outcome y) (ya_lists y) (ya_sizes y) (ya_tokens y) (ya_counts y) (ya_kinds y) (ya_numbers y) (ya_left y) (ya_last y) (ya_place y) (ya_begun y) (ya_held y) (ya_keys y) (ya_holds y) (ya_applied y) (ya_reads y) (ya_seen y) (ya_vals y) (ya_ops y)) ∧ (¬ a = 0 → wpY_token (fun r => (r = 0 → wY_put_68 ypost a b c x4 (ya_limit y) (ya_source y) (ya_stages y) (ya_wrongAt y) (ya_paid y) (ya_at y) (ya_seenCount y) (ya_failedAt y) (ya_v y) (ya_valTop y) (ya_opTop y) (ya_ran y) (ya_broken y) (ya_outcome y) (ya_lists y) (ya_sizes y) (ya_tokens y) (ya_counts y) (ya_kinds y) (ya_numbers y) (ya_left y) (ya_last y) (ya_place y) (ya_begun y) (ya_held y) (ya_keys y) (ya_holds y) (ya_applied y) (ya_reads y) (ya_seen y) (ya_vals y) (ya_ops y)) ∧ (¬ r = 0 → wY_put_42 ypost a b c x4 (ya_limit y) (ya_source y) (ya_stages y) (ya_wrongAt y) (ya_paid y) (ya_at y) (ya_seenCount y) (ya_failedAt y) (ya_v y) (ya_valTop y) (ya_opTop y) (ya_ran y) (ya_broken y) (ya_outcome y) (ya_lists y) (ya_sizes y) (ya_tokens y) (ya_counts y) (ya_kinds y) (ya_numbers y) (ya_left y) (ya_last y) (ya_place y) (ya_begun y) (ya_held y) (ya_keys y) (ya_holds y) (ya_applied y) (ya_reads y) (ya_seen y) (ya_vals y) (ya_ops y))) a) := by
  have g0 : ∀ x : Int32, x = 0 → gd_ok x := fun x e => ⟨0, e, Or.inl (by omega)⟩
  have h53 : gd_ok a → gd_ok b → wY_put_53 ypost a b c x4 (ya_limit y) (ya_source y) (ya_stages y) (ya_wrongAt y) (ya_paid y) (ya_at y) (ya_seenCount y) (ya_failedAt y) (ya_v y) (ya_valTop y) (ya_opTop y) (ya_ran y) (ya_broken y) (ya_outcome y) (ya_lists y) (ya_sizes y) (ya_tokens y) (ya_counts y) (ya_kinds y) (ya_numbers y) (ya_left y) (ya_last y) (ya_place y) (ya_begun y) (ya_held y) (ya_keys y) (ya_holds y) (ya_applied y) (ya_reads y) (ya_seen y) (ya_vals y) (ya_ops y) := by
    intro ga gb
    refine br_c (fun hc => hy ⟨ga, gb, g0 c hc⟩) (fun hc => ?_)
    by_cases gc : gd_ok c
    · exact yw_token_y gc hc (br_f (by decide) (hy ⟨ga, gb, gc⟩))
    · exact yw_token_n gc (br_t rfl (hn (fun z => gc z.2.2)))
  have h42 : gd_ok a → wY_put_42 ypost a b c x4 (ya_limit y) (ya_source y) (ya_stages y) (ya_wrongAt y) (ya_paid y) (ya_at y) (ya_seenCount y) (ya_failedAt y) (ya_v y) (ya_valTop y) (ya_opTop y) (ya_ran y) (ya_broken y) (ya_outcome y) (ya_lists y) (ya_sizes y) (ya_tokens y) (ya_counts y) (ya_kinds y) (ya_numbers y) (ya_left y) (ya_last y) (ya_place y) (ya_begun y) (ya_held y) (ya_keys y) (ya_holds y) (ya_applied y) (ya_reads y) (ya_seen y) (ya_vals y) (ya_ops y) := by
    intro ga
    refine br_c (fun hb => h53 ga (g0 b hb)) (fun hb => ?_)
    by_cases gb : gd_ok b
    · exact yw_token_y gb hb (br_f (by decide) (h53 ga gb))
    · exact yw_token_n gb (br_t rfl (hn (fun z => gb z.2.1)))
  refine br_c (fun ha => h42 (g0 a ha)) (fun ha => ?_)
  by_cases ga : gd_ok a
  · exact yw_token_y ga ha (br_f (by decide) (h42 ga))
  · exact yw_token_n ga (br_t rfl (hn (fun z => ga z.1)))
theorem yw_put_28 {z0 z1 : Int32} (hy : gd_ok a ∧ gd_ok b ∧ gd_ok c → yl_p ypost a b c (z1 + z0) 1 y) (hn : ¬ (gd_ok a ∧ gd_ok b ∧ gd_ok c) → yl_p ypost a b c (z1 + z0) 0 y) :
    wY_put_28 ypost a b c z0 z1 (ya_limit y) (ya_source y) (ya_stages y) (ya_wrongAt y) (ya_paid y) (ya_at y) (ya_seenCount y) (ya_failedAt y) (ya_v y) (ya_valTop y) (ya_opTop y) (ya_ran y) (ya_broken y) (ya_outcome y) (ya_lists y) (ya_sizes y) (ya_tokens y) (ya_counts y) (ya_kinds y) (ya_numbers y) (ya_left y) (ya_last y) (ya_place y) (ya_begun y) (ya_held y) (ya_keys y) (ya_holds y) (ya_applied y) (ya_reads y) (ya_seen y) (ya_vals y) (ya_ops y) := nm_e (yl_p_in hy hn)
theorem yw_put_in (hy : gd_ok a ∧ gd_ok b ∧ gd_ok c → yl_p ypost a b c (nI (gd_c a + gd_c b + gd_c c)) 1 y) (hn : ¬ (gd_ok a ∧ gd_ok b ∧ gd_ok c) → yl_p ypost a b c (nI (gd_c a + gd_c b + gd_c c)) 0 y) :
    wpY_put ypost y a b c := by
  by_cases ha : a = 0
  · rw [show gd_c a = 0 from if_pos ha] at hy hn
    refine br_t ha ?_
    by_cases hb : b = 0
    · rw [show gd_c b = 0 from if_pos hb] at hy hn
      refine br_t hb ?_
      by_cases hc : c = 0
      · rw [show gd_c c = 0 from if_pos hc] at hy hn
        exact br_t hc (yw_put_28 hy hn)
      · rw [show gd_c c = 1 from if_neg hc] at hy hn
        exact br_f hc (yw_put_28 hy hn)
    · rw [show gd_c b = 1 from if_neg hb] at hy hn
      refine br_f hb ?_
      by_cases hc : c = 0
      · rw [show gd_c c = 0 from if_pos hc] at hy hn
        exact br_t hc (yw_put_28 hy hn)
      · rw [show gd_c c = 1 from if_neg hc] at hy hn
        exact br_f hc (yw_put_28 hy hn)
  · rw [show gd_c a = 1 from if_neg ha] at hy hn
    refine br_f ha ?_
    by_cases hb : b = 0
    · rw [show gd_c b = 0 from if_pos hb] at hy hn
      refine br_t hb ?_
      by_cases hc : c = 0
      · rw [show gd_c c = 0 from if_pos hc] at hy hn
        exact br_t hc (yw_put_28 hy hn)
      · rw [show gd_c c = 1 from if_neg hc] at hy hn
        exact br_f hc (yw_put_28 hy hn)
    · rw [show gd_c b = 1 from if_neg hb] at hy hn
      refine br_f hb ?_
      by_cases hc : c = 0
      · rw [show gd_c c = 0 from if_pos hc] at hy hn
        exact br_t hc (yw_put_28 hy hn)
      · rw [show gd_c c = 1 from if_neg hc] at hy hn
        exact br_f hc (yw_put_28 hy hn)
theorem yl_p_no {x4 : Int32} (hp : ypost (-1) y) : yl_p ypost a b c x4 0 y := br_t rfl hp
theorem yl_p_full {x4 : Int32} (h : ¬ ya_counts y 0 + x4 ≤ 16) (hp : ypost (-1) y) : yl_p ypost a b c x4 1 y := br_f (by decide) (br_f h hp)
theorem yl_p_ok {x4 : Int32} (h : ya_counts y 0 + x4 ≤ 16) (hp : wpY_add (fun w1 => wpY_add (fun w2 => wpY_add (fun w3 => ypost (ya_counts w3 0) w3) w2 c) w1 b) y a) : yl_p ypost a b c x4 1 y :=
  br_f (by decide) (br_t h hp)
end
theorem yt_tk {v : SY} {s n : Nat} {tk : Nat → Nat} {tok cnt : Nat → Int32} (h : yt_rel v s n tk) (ht : ∀ j, 16 ≤ j → tok j = ya_tokens v j) (hc : ∀ j, j ≠ 0 → cnt j = ya_counts v j) :
    yt_rel (ym_tk v tok cnt) s n tk := by
  obtain ⟨h1, h2, h3, h4, h5⟩ := h
  exact ⟨h1, (hc (s + 1) (by omega)).trans h2, fun i hi => (ht _ (by omega)).trans (h3 i hi), h4, h5⟩
theorem xc_tk {u : SX} {s : Nat} {o : List Nat} {t : Int32} {a : Nat → Int32} (h : xc_rel u s o) : xc_rel (xm_tk u t a) s o := h
theorem rl_st_tk {u : SX} {v : SY} {L N : Nat} {K : Nat → Nat} {t : Int32} {a tok cnt : Nat → Int32} (h : rl_st u v L N K) (ht : ∀ j, 16 ≤ j → tok j = ya_tokens v j) (hc : ∀ j, j ≠ 0 → cnt j = ya_counts v j) :
    rl_st (xm_tk u t a) (ym_tk v tok cnt) L N K := by
  obtain ⟨h1, h2, h3, h4, h5, h6, h7, h8, h9, h10, h11, h12, h13, h14⟩ := h
  refine ⟨h1, h2, h3, h4, h5, h6, h7, h8, h9, h10, h11, h12, h13, fun s hs => ?_⟩
  obtain ⟨g1, g2, g3, g4, g5⟩ := h14 s hs
  refine ⟨g1, g2, g3, g4, fun hx => ?_⟩
  obtain ⟨n, tk, q1, q2⟩ := g5 hx
  exact ⟨n, tk, yt_tk q1 ht hc, xc_tk q2⟩
theorem rl_rs_tk {u : SX} {v : SY} {t : Int32} {a tok cnt : Nat → Int32} (h : rl_rs u v) : rl_rs (xm_tk u t a) (ym_tk v tok cnt) := h
theorem i_vc_put {k : Nat} {u : SX} {v : SY} (I : i_Rel k u v) (hk : k + 4 ≤ 2049) (v1 : Int32) (v2 : Int32) (v3 : Int32) : wpX_put (fun r u' => wpY_put (fun r' v' => r' = r ∧ i_Rel (k + 4) u' v') v v1 v2 v3) u v1 v2 v3 := by
  obtain ⟨L, N, K, n, tk, hst, htk, hrs⟩ := I
  have htk0 := htk
  obtain ⟨t1, t2, t3, t4⟩ := htk
  have hc3 : gd_c v1 + gd_c v2 + gd_c v3 ≤ 3 := by
    have h : ∀ x, gd_c x ≤ 1 := fun x => by unfold gd_c; split <;> omega
    have := h v1
    have := h v2
    have := h v3
    omega
  have ex : xa_tokens u + nI (gd_c v1 + gd_c v2 + gd_c v3) = nI (n + (gd_c v1 + gd_c v2 + gd_c v3)) := by rw [t2, nI_add]
  have ey : ya_counts v 0 + nI (gd_c v1 + gd_c v2 + gd_c v3) = nI (n + (gd_c v1 + gd_c v2 + gd_c v3)) := by rw [t3, nI_add]
  refine xw_put_in ?_
  by_cases hg : gd_ok v1 ∧ gd_ok v2 ∧ gd_ok v3
  · by_cases hf : n + (gd_c v1 + gd_c v2 + gd_c v3) ≤ 16
    · obtain ⟨n', tk', t, a, tok, cnt, r1, f1, g1, X1, Y1⟩ := tk_lock3 htk0 hg.1 hg.2.1 hg.2.2 hf
      refine xl_p_ok hg.1 hg.2.1 hg.2.2 (by rw [ex]; exact nI_le (b := 16) hf (by omega)) (X1 _ ?_)
      refine yw_put_in (fun _ => yl_p_ok (by rw [ey]; exact nI_le (b := 16) hf (by omega)) (Y1 _ ?_)) (fun z => absurd hg z)
      exact ⟨r1.2.2.1.trans r1.2.1.symm, L, N, K, n', tk', rl_st_tk hst f1 g1, r1, rl_rs_tk hrs⟩
    · have nf : ¬ nI (n + (gd_c v1 + gd_c v2 + gd_c v3)) ≤ 16 := nI_ge (a := 16) (by omega) (by omega)
      exact xl_p_no (Or.inr (by rw [ex]; exact nf)) (yw_put_in (fun _ => yl_p_full (by rw [ey]; exact nf) ⟨rfl, L, N, K, n, tk, hst, htk0, hrs⟩) (fun z => absurd hg z))
  · exact xl_p_no (Or.inl hg) (yw_put_in (fun z => absurd z hg) (fun _ => yl_p_no ⟨rfl, L, N, K, n, tk, hst, htk0, hrs⟩))
end
section
/-! X: stage -/
def xm_rs (u : SX) (z_tokens : Int32) (z_wrongPlace : Int32) : SX := (u.1, u.2.1, u.2.2.1, z_tokens, z_wrongPlace, u.2.2.2.2.2)
def xm_kc (u : SX) (z_stages : Int32) (z_kind : Nat → Int32) (z_constant : Nat → Int32) : SX := (u.1, u.2.1, z_stages, u.2.2.2.1, u.2.2.2.2.1, u.2.2.2.2.2.1, u.2.2.2.2.2.2.1, u.2.2.2.2.2.2.2.1, u.2.2.2.2.2.2.2.2.1, u.2.2.2.2.2.2.2.2.2.1, u.2.2.2.2.2.2.2.2.2.2.1, u.2.2.2.2.2.2.2.2.2.2.2.1, u.2.2.2.2.2.2.2.2.2.2.2.2.1, u.2.2.2.2.2.2.2.2.2.2.2.2.2.1, u.2.2.2.2.2.2.2.2.2.2.2.2.2.2.1, u.2.2.2.2.2.2.2.2.2.2.2.2.2.2.2.1, u.2.2.2.2.2.2.2.2.2.2.2.2.2.2.2.2.1, u.2.2.2.2.2.2.2.2.2.2.2.2.2.2.2.2.2.1, u.2.2.2.2.2.2.2.2.2.2.2.2.2.2.2.2.2.2.1, z_kind, z_constant, u.2.2.2.2.2.2.2.2.2.2.2.2.2.2.2.2.2.2.2.2.2)
def xn_s (u : SX) (z_stages : Int32) (z_tokens : Int32) (z_wrongPlace : Int32) (z_waits : Int32) (z_parens : Int32) (z_kind : Nat → Int32) (z_constant : Nat → Int32) (z_step : Nat → Int32) (z_number : Nat → Int32) (z_steps : Nat → Int32) (z_quick : Nat → Int32) (z_waiting : Nat → Int32) (z_compared : Nat → Int32) : SX := (u.1, u.2.1, z_stages, z_tokens, z_wrongPlace, z_waits, z_parens, u.2.2.2.2.2.2.2.1, u.2.2.2.2.2.2.2.2.1, u.2.2.2.2.2.2.2.2.2.1, u.2.2.2.2.2.2.2.2.2.2.1, u.2.2.2.2.2.2.2.2.2.2.2.1, u.2.2.2.2.2.2.2.2.2.2.2.2.1, u.2.2.2.2.2.2.2.2.2.2.2.2.2.1, u.2.2.2.2.2.2.2.2.2.2.2.2.2.2.1, u.2.2.2.2.2.2.2.2.2.2.2.2.2.2.2.1, u.2.2.2.2.2.2.2.2.2.2.2.2.2.2.2.2.1, u.2.2.2.2.2.2.2.2.2.2.2.2.2.2.2.2.2.1, u.2.2.2.2.2.2.2.2.2.2.2.2.2.2.2.2.2.2.1, z_kind, z_constant, z_step, z_number, z_steps, z_quick, u.2.2.2.2.2.2.2.2.2.2.2.2.2.2.2.2.2.2.2.2.2.2.2.2.2.1, z_waiting, z_compared, u.2.2.2.2.2.2.2.2.2.2.2.2.2.2.2.2.2.2.2.2.2.2.2.2.2.2.2.2)
def sg_G (p c : Int32) : Prop := (p = 6 → ∃ j, 1 ≤ j ∧ j ≤ 4 ∧ c = nI j) ∧ (p = 9 ∨ p = 10 ∨ p = 11 → ∃ j, j < 3 ∧ c = nI j)
def xl_42 (post : Int32 → SX → Prop) (x1 x2 x3 : Int32) (w : SX) : Prop := wX_stage_42 post x1 x2 x3 (xa_limit w) (xa_source w) (xa_stages w) (xa_tokens w) (xa_wrongPlace w) (xa_waits w) (xa_parens w) (xa_opens w) (xa_from w) (xa_at w) (xa_ended w) (xa_spent w) (xa_stopped w) (xa_out w) (xa_lastStages w) (xa_failedStage w) (xa_shownCount w) (xa_element w) (xa_length w) (xa_kind w) (xa_constant w) (xa_step w) (xa_number w) (xa_steps w) (xa_quick w) (xa_token w) (xa_waiting w) (xa_compared w) (xa_operand w) (xa_memory w) (xa_begun w) (xa_place w) (xa_held w) (xa_keyOf w) (xa_next w) (xa_size w) (xa_head w) (xa_openStage w) (xa_openValue w) (xa_openLeft w) (xa_applications w) (xa_reads w) (xa_shown w)
def xl_64 (post : Int32 → SX → Prop) (x1 x2 x3 : Int32) (w : SX) : Prop := wX_stage_64 post x1 x2 x3 (xa_limit w) (xa_source w) (xa_stages w) (xa_tokens w) (xa_wrongPlace w) (xa_waits w) (xa_parens w) (xa_opens w) (xa_from w) (xa_at w) (xa_ended w) (xa_spent w) (xa_stopped w) (xa_out w) (xa_lastStages w) (xa_failedStage w) (xa_shownCount w) (xa_element w) (xa_length w) (xa_kind w) (xa_constant w) (xa_step w) (xa_number w) (xa_steps w) (xa_quick w) (xa_token w) (xa_waiting w) (xa_compared w) (xa_operand w) (xa_memory w) (xa_begun w) (xa_place w) (xa_held w) (xa_keyOf w) (xa_next w) (xa_size w) (xa_head w) (xa_openStage w) (xa_openValue w) (xa_openLeft w) (xa_applications w) (xa_reads w) (xa_shown w)
def xl_121 (post : Int32 → SX → Prop) (x1 x2 : Int32) (w : SX) : Prop := wX_stage_121 post x1 x2 (xa_limit w) (xa_source w) (xa_stages w) (xa_tokens w) (xa_wrongPlace w) (xa_waits w) (xa_parens w) (xa_opens w) (xa_from w) (xa_at w) (xa_ended w) (xa_spent w) (xa_stopped w) (xa_out w) (xa_lastStages w) (xa_failedStage w) (xa_shownCount w) (xa_element w) (xa_length w) (xa_kind w) (xa_constant w) (xa_step w) (xa_number w) (xa_steps w) (xa_quick w) (xa_token w) (xa_waiting w) (xa_compared w) (xa_operand w) (xa_memory w) (xa_begun w) (xa_place w) (xa_held w) (xa_keyOf w) (xa_next w) (xa_size w) (xa_head w) (xa_openStage w) (xa_openValue w) (xa_openLeft w) (xa_applications w) (xa_reads w) (xa_shown w)
section
variable {post : Int32 → SX → Prop} {w : SX} {p c x3 : Int32} {k : Nat}
theorem o4_in {post : Int32 → Prop} {j : Nat} (h1 : 1 ≤ j) (h4 : j ≤ 4) (hp : post 0) : wpX_outside post (nI j - 1) 4 := by
  obtain ⟨i, rfl⟩ : ∃ i, j = i + 1 := ⟨j - 1, by omega⟩
  rw [nI_pred]
  exact xw_out_in (m := 4) (by omega) (by omega) hp
theorem o4_no {post : Int32 → Prop} (h : ¬ ∃ j, 1 ≤ j ∧ j ≤ 4 ∧ c = nI j) (hp : post 1) : wpX_outside post (c - 1) 4 := by
  by_cases hn : c - 1 < 0
  · exact xw_out_neg hn hp
  · rcases pk_ix (c - 1) (n := 4) (by omega) with h' | h' | ⟨j, hj, e⟩
    · exact absurd h' hn
    · exact xw_out_hi hn h' hp
    · refine absurd ⟨j + 1, by omega, by omega, ?_⟩ h
      rw [← nI_1, ← e, Int32.sub_add_cancel]
theorem o3_no {post : Int32 → Prop} (h : ¬ ∃ j, j < 3 ∧ c = nI j) (hp : post 1) : wpX_outside post c 3 := by
  rcases i3_cases c with h' | ⟨hx, _⟩
  · exact absurd h' h
  · exact hx _ hp
theorem xg_42 (hk : k ≤ 16) (hg : (k = 9 ∨ k = 10 ∨ k = 11) → ∃ j, j < 3 ∧ c = nI j) (h : xl_64 post (nI k) c x3 w) : xl_42 post (nI k) c x3 w := by
  by_cases c9 : k < 9
  · exact br_t (nI_lt (b := 9) c9 (by omega)) h
  · refine br_f (nI_nlt (b := 9) (by omega) (by omega)) ?_
    by_cases c11 : 11 < k
    · exact br_t (nI_lt (a := 11) c11 (by omega)) h
    · refine br_f (nI_nlt (a := 11) (by omega) (by omega)) ?_
      obtain ⟨j, hj, rfl⟩ := hg (by omega)
      exact xw_out_in (m := 3) hj (by omega) (br_t rfl h)
theorem xg_42no (hk : k = 9 ∨ k = 10 ∨ k = 11) (hg : ¬ ∃ j, j < 3 ∧ c = nI j) (h : post (-1) w) : xl_42 post (nI k) c x3 w := by
  refine br_f (nI_nlt (b := 9) (by omega) (by omega)) (br_f (nI_nlt (a := 11) (by omega) (by omega)) (o3_no hg ?_))
  exact br_f (by decide) h
theorem xg_in17 {post : Int32 → SX → Prop} (hk : k ≤ 16) (h : (nI k = 6 → wpX_outside (fun r => (r = 0 → xl_42 post (nI k) c (xa_tokens w) (xm_rs w 0 (-1))) ∧ (¬ r = 0 → post (-1) (xm_rs w 0 (-1)))) (c - 1) 4) ∧
    (¬ nI k = 6 → xl_42 post (nI k) c (xa_tokens w) (xm_rs w 0 (-1)))) : wpX_stage post w (nI k) c := by
  have ho : ∀ post : Int32 → Prop, post 0 → wpX_outside post (nI k) 17 := fun _ hp => xw_out_in (m := 17) (by omega) (by omega) hp
  unfold wpX_stage
  refine ho _ ?_
  exact br_t rfl h
theorem xw_stage_go (hk : k ≤ 16) (hg : sg_G (nI k) c) (h : xl_64 post (nI k) c (xa_tokens w) (xm_rs w 0 (-1))) : wpX_stage post w (nI k) c := by
  have h42 : xl_42 post (nI k) c (xa_tokens w) (xm_rs w 0 (-1)) := xg_42 hk (fun z => hg.2 (by rcases z with rfl | rfl | rfl; exact Or.inl rfl; exact Or.inr (Or.inl rfl); exact Or.inr (Or.inr rfl))) h
  refine xg_in17 hk (br_c (fun h6 => ?_) (fun _ => h42))
  obtain ⟨j, h1, h4, rfl⟩ := hg.1 h6
  exact o4_in h1 h4 (br_t rfl h42)
theorem xw_stage_ref (h : ¬ ((∃ k, k ≤ 16 ∧ p = nI k) ∧ sg_G p c)) (hp : post (-1) (xm_rs w 0 (-1))) : wpX_stage post w p c := by
  by_cases hk : ∃ k, k ≤ 16 ∧ p = nI k
  · obtain ⟨k, hk, rfl⟩ := hk
    have hg : ¬ sg_G (nI k) c := fun z => h ⟨⟨k, hk, rfl⟩, z⟩
    by_cases c6 : k = 6
    · subst c6
      refine xg_in17 hk (br_t rfl (o4_no (fun z => hg ⟨fun _ => z, fun z => by rcases z with z | z | z <;> exact absurd z (by decide)⟩) ?_))
      exact br_f (by decide) hp
    · have n6 : ¬ nI k = 6 := fun e => c6 ((nI_eq (b := 6) (by omega) (by omega)).mp e)
      refine xg_in17 hk (br_f n6 ?_)
      by_cases c9 : k = 9 ∨ k = 10 ∨ k = 11
      · exact xg_42no c9 (fun z => hg ⟨fun e => absurd e n6, fun _ => z⟩) hp
      · exfalso
        refine hg ⟨fun e => absurd e n6, fun z => ?_⟩
        exfalso
        rcases z with z | z | z
        · exact c9 (Or.inl ((nI_eq (b := 9) (by omega) (by omega)).mp z))
        · exact c9 (Or.inr (Or.inl ((nI_eq (b := 10) (by omega) (by omega)).mp z)))
        · exact c9 (Or.inr (Or.inr ((nI_eq (b := 11) (by omega) (by omega)).mp z)))
  · have ho : ∀ post : Int32 → Prop, post 1 → wpX_outside post p 17 := by
      intro post hp
      by_cases hn : p < 0
      · exact xw_out_neg hn hp
      · rcases pk_ix p (n := 17) (by omega) with h' | h' | ⟨j, hj, e⟩
        · exact absurd h' hn
        · exact xw_out_hi hn h' hp
        · exact absurd ⟨j, by omega, e⟩ hk
    unfold wpX_stage
    refine ho _ ?_
    exact br_f (by decide) hp
theorem xw_works_y {post : Int32 → Prop} (h : rl_hx k) (hp : post 1) : wpX_worksOut post (nI k) := by
  unfold wpX_worksOut
  have h' : k = 0 ∨ k = 1 ∨ k = 4 ∨ k = 5 ∨ k = 7 ∨ k = 10 ∨ k = 12 ∨ k = 14 ∨ k = 16 := by unfold rl_hx at h; omega
  rcases h' with rfl | rfl | rfl | rfl | rfl | rfl | rfl | rfl | rfl
  · exact br_t (by decide) hp
  · exact br_t (by decide) hp
  · exact br_f (by decide) (br_t rfl hp)
  · exact br_f (by decide) (br_f (by decide) (br_t rfl hp))
  · exact br_f (by decide) (br_f (by decide) (br_f (by decide) (br_t rfl hp)))
  · exact br_f (by decide) (br_f (by decide) (br_f (by decide) (br_f (by decide) (br_t rfl hp))))
  · exact br_f (by decide) (br_f (by decide) (br_f (by decide) (br_f (by decide) (br_f (by decide) (br_t rfl hp)))))
  · exact br_f (by decide) (br_f (by decide) (br_f (by decide) (br_f (by decide) (br_f (by decide) (br_f (by decide) (br_t rfl hp))))))
  · exact br_f (by decide) (br_f (by decide) (br_f (by decide) (br_f (by decide) (br_f (by decide) (br_f (by decide) (br_f (by decide) (br_t rfl hp)))))))
theorem xw_works_n {post : Int32 → Prop} (hk : k ≤ 16) (h : ¬ rl_hx k) (hp : post 0) : wpX_worksOut post (nI k) := by
  unfold wpX_worksOut
  have h' : k = 2 ∨ k = 3 ∨ k = 6 ∨ k = 8 ∨ k = 9 ∨ k = 11 ∨ k = 13 ∨ k = 15 := by unfold rl_hx at h; omega
  rcases h' with rfl | rfl | rfl | rfl | rfl | rfl | rfl | rfl <;>
  exact br_f (by decide) (br_f (by decide) (br_f (by decide) (br_f (by decide) (br_f (by decide) (br_f (by decide) (br_f (by decide) (br_f (by decide) hp)))))))
theorem xg_full (h : xa_stages w = nI 8) (hp : post (-2) w) : xl_64 post p c x3 w := br_t h hp
theorem xg_plain {N n : Nat} (hk : k ≤ 16) (h : xa_stages w = nI N) (hN : N < 8) (hx : ¬ rl_hx k) (hn : n ≤ 16) (hp0 : n = 0 → xl_121 post (nI k) c w) (hp1 : n ≠ 0 → xl_121 post (nI k) c (xs_wrongPlace w 0)) :
    xl_64 post (nI k) c (nI n) w := by
  refine br_f (by rw [h]; exact fun e => absurd ((nI_eq (b := 8) (by omega) (by omega)).mp e) (by omega)) (xw_works_n hk hx (br_t rfl ?_))
  by_cases c0 : n = 0
  · subst c0
    exact br_t (by decide) (hp0 rfl)
  · exact br_f (nI_nle (by omega) (by omega)) (hp1 c0)
theorem xg_expr {N n : Nat} {J : Bool} (hk : k ≤ 16) (h : xa_stages w = nI N) (hN : N < 8) (hx : rl_hx k) (hJ : J = decide (k = 10 ∨ k = 12))
    (hp : wpX_translate (fun r w' => xl_121 post (nI k) c (xs_wrongPlace w' r)) w (nI n) (yb_i J)) : xl_64 post (nI k) c (nI n) w := by
  refine br_f (by rw [h]; exact fun e => absurd ((nI_eq (b := 8) (by omega) (by omega)).mp e) (by omega)) (xw_works_y hx (br_f (by decide) ?_))
  by_cases c10 : k = 10
  · subst c10
    subst hJ
    exact br_t rfl hp
  · refine br_f (fun e => c10 ((nI_eq (b := 10) (by omega) (by omega)).mp e)) ?_
    by_cases c12 : k = 12
    · subst c12
      subst hJ
      exact br_t rfl hp
    · rw [decide_eq_false (fun z => z.elim c10 c12)] at hJ
      subst hJ
      exact br_f (fun e => c12 ((nI_eq (b := 12) (by omega) (by omega)).mp e)) hp
theorem xg_wrong (h : ¬ xa_wrongPlace w < 0) (hp : post (-3) w) : xl_121 post p c w := br_f h hp
theorem xg_new {N : Nat} (h : xa_wrongPlace w < 0) (hk : k ≤ 16) (hS : xa_stages w = nI N) (hN : N < 8)
    (hp : post (nI (N + 1)) (xm_kc w (nI (N + 1)) (upd (xa_kind w) N (nI k)) (upd (xa_constant w) N c))) : xl_121 post (nI k) c w := by
  have h8 : vp_in (xa_stages w) 8 := by rw [hS]; exact vp_in_nI hN (by omega)
  have e : (xa_stages w).toNatClampNeg = N := by rw [hS]; exact nI_clamp (by omega)
  have e1 : xa_stages w + 1 = nI (N + 1) := by rw [hS, nI_1]
  subst e
  exact br_t h (And.intro h8 (nm_r (e' := upd (xa_kind w) (xa_stages w).toNatClampNeg (nI k)) (by rw [zn_vb (by omega)]) (nm_r e1 (And.intro h8 (nm_e hp)))))
end
end
section
/-! Y: stage -/
def ym_wo (u : SY) (z_wrongAt : Int32) (z_ops : Nat → Int32) : SY := (u.1, u.2.1, u.2.2.1, z_wrongAt, u.2.2.2.2.1, u.2.2.2.2.2.1, u.2.2.2.2.2.2.1, u.2.2.2.2.2.2.2.1, u.2.2.2.2.2.2.2.2.1, u.2.2.2.2.2.2.2.2.2.1, u.2.2.2.2.2.2.2.2.2.2.1, u.2.2.2.2.2.2.2.2.2.2.2.1, u.2.2.2.2.2.2.2.2.2.2.2.2.1, u.2.2.2.2.2.2.2.2.2.2.2.2.2.1, u.2.2.2.2.2.2.2.2.2.2.2.2.2.2.1, u.2.2.2.2.2.2.2.2.2.2.2.2.2.2.2.1, u.2.2.2.2.2.2.2.2.2.2.2.2.2.2.2.2.1, u.2.2.2.2.2.2.2.2.2.2.2.2.2.2.2.2.2.1, u.2.2.2.2.2.2.2.2.2.2.2.2.2.2.2.2.2.2.1, u.2.2.2.2.2.2.2.2.2.2.2.2.2.2.2.2.2.2.2.1, u.2.2.2.2.2.2.2.2.2.2.2.2.2.2.2.2.2.2.2.2.1, u.2.2.2.2.2.2.2.2.2.2.2.2.2.2.2.2.2.2.2.2.2.1, u.2.2.2.2.2.2.2.2.2.2.2.2.2.2.2.2.2.2.2.2.2.2.1, u.2.2.2.2.2.2.2.2.2.2.2.2.2.2.2.2.2.2.2.2.2.2.2.1, u.2.2.2.2.2.2.2.2.2.2.2.2.2.2.2.2.2.2.2.2.2.2.2.2.1, u.2.2.2.2.2.2.2.2.2.2.2.2.2.2.2.2.2.2.2.2.2.2.2.2.2.1, u.2.2.2.2.2.2.2.2.2.2.2.2.2.2.2.2.2.2.2.2.2.2.2.2.2.2.1, u.2.2.2.2.2.2.2.2.2.2.2.2.2.2.2.2.2.2.2.2.2.2.2.2.2.2.2.1, u.2.2.2.2.2.2.2.2.2.2.2.2.2.2.2.2.2.2.2.2.2.2.2.2.2.2.2.2.1, u.2.2.2.2.2.2.2.2.2.2.2.2.2.2.2.2.2.2.2.2.2.2.2.2.2.2.2.2.2.1, u.2.2.2.2.2.2.2.2.2.2.2.2.2.2.2.2.2.2.2.2.2.2.2.2.2.2.2.2.2.2.1, z_ops)
def ym_sg (u : SY) (z_stages : Int32) (z_wrongAt : Int32) (z_tokens : Nat → Int32) (z_counts : Nat → Int32) (z_kinds : Nat → Int32) (z_numbers : Nat → Int32) (z_ops : Nat → Int32) : SY := (u.1, u.2.1, z_stages, z_wrongAt, u.2.2.2.2.1, u.2.2.2.2.2.1, u.2.2.2.2.2.2.1, u.2.2.2.2.2.2.2.1, u.2.2.2.2.2.2.2.2.1, u.2.2.2.2.2.2.2.2.2.1, u.2.2.2.2.2.2.2.2.2.2.1, u.2.2.2.2.2.2.2.2.2.2.2.1, u.2.2.2.2.2.2.2.2.2.2.2.2.1, u.2.2.2.2.2.2.2.2.2.2.2.2.2.1, u.2.2.2.2.2.2.2.2.2.2.2.2.2.2.1, u.2.2.2.2.2.2.2.2.2.2.2.2.2.2.2.1, z_tokens, z_counts, z_kinds, z_numbers, u.2.2.2.2.2.2.2.2.2.2.2.2.2.2.2.2.2.2.2.2.1, u.2.2.2.2.2.2.2.2.2.2.2.2.2.2.2.2.2.2.2.2.2.1, u.2.2.2.2.2.2.2.2.2.2.2.2.2.2.2.2.2.2.2.2.2.2.1, u.2.2.2.2.2.2.2.2.2.2.2.2.2.2.2.2.2.2.2.2.2.2.2.1, u.2.2.2.2.2.2.2.2.2.2.2.2.2.2.2.2.2.2.2.2.2.2.2.2.1, u.2.2.2.2.2.2.2.2.2.2.2.2.2.2.2.2.2.2.2.2.2.2.2.2.2.1, u.2.2.2.2.2.2.2.2.2.2.2.2.2.2.2.2.2.2.2.2.2.2.2.2.2.2.1, u.2.2.2.2.2.2.2.2.2.2.2.2.2.2.2.2.2.2.2.2.2.2.2.2.2.2.2.1, u.2.2.2.2.2.2.2.2.2.2.2.2.2.2.2.2.2.2.2.2.2.2.2.2.2.2.2.2.1, u.2.2.2.2.2.2.2.2.2.2.2.2.2.2.2.2.2.2.2.2.2.2.2.2.2.2.2.2.2.1, u.2.2.2.2.2.2.2.2.2.2.2.2.2.2.2.2.2.2.2.2.2.2.2.2.2.2.2.2.2.2.1, z_ops)
def yl_70 (post : Int32 → SY → Prop) (x1 x2 x3 z : Int32) (w : SY) : Prop := wY_stage_70 post x1 x2 x3 z (ya_limit w) (ya_source w) (ya_stages w) (ya_wrongAt w) (ya_paid w) (ya_at w) (ya_seenCount w) (ya_failedAt w) (ya_v w) (ya_valTop w) (ya_opTop w) (ya_ran w) (ya_broken w) (ya_outcome w) (ya_lists w) (ya_sizes w) (ya_tokens w) (ya_counts w) (ya_kinds w) (ya_numbers w) (ya_left w) (ya_last w) (ya_place w) (ya_begun w) (ya_held w) (ya_keys w) (ya_holds w) (ya_applied w) (ya_reads w) (ya_seen w) (ya_vals w) (ya_ops w)
def yl_173 (post : Int32 → SY → Prop) (x1 x2 x3 : Int32) (w : SY) : Prop := wY_stage_173 post x1 x2 x3 (ya_limit w) (ya_source w) (ya_stages w) (ya_wrongAt w) (ya_paid w) (ya_at w) (ya_seenCount w) (ya_failedAt w) (ya_v w) (ya_valTop w) (ya_opTop w) (ya_ran w) (ya_broken w) (ya_outcome w) (ya_lists w) (ya_sizes w) (ya_tokens w) (ya_counts w) (ya_kinds w) (ya_numbers w) (ya_left w) (ya_last w) (ya_place w) (ya_begun w) (ya_held w) (ya_keys w) (ya_holds w) (ya_applied w) (ya_reads w) (ya_seen w) (ya_vals w) (ya_ops w)
def yl_160 (post : Int32 → SY → Prop) (x1 x2 x3 z : Int32) (w : SY) : Prop := wY_stage_160 post x1 x2 x3 z (ya_limit w) (ya_source w) (ya_stages w) (ya_wrongAt w) (ya_paid w) (ya_at w) (ya_seenCount w) (ya_failedAt w) (ya_v w) (ya_valTop w) (ya_opTop w) (ya_ran w) (ya_broken w) (ya_outcome w) (ya_lists w) (ya_sizes w) (ya_tokens w) (ya_counts w) (ya_kinds w) (ya_numbers w) (ya_left w) (ya_last w) (ya_place w) (ya_begun w) (ya_held w) (ya_keys w) (ya_holds w) (ya_applied w) (ya_reads w) (ya_seen w) (ya_vals w) (ya_ops w)
def yl_180 (post : Int32 → SY → Prop) (x1 x2 x3 : Int32) (f : Nat) (i : Int32) (w : SY) : Prop := wY_stage_180 post x1 x2 x3 (ya_limit w) (ya_source w) (ya_stages w) (ya_wrongAt w) (ya_paid w) (ya_at w) (ya_seenCount w) (ya_failedAt w) (ya_v w) (ya_valTop w) (ya_opTop w) (ya_ran w) (ya_broken w) (ya_outcome w) f i (ya_lists w) (ya_sizes w) (ya_tokens w) (ya_counts w) (ya_kinds w) (ya_numbers w) (ya_left w) (ya_last w) (ya_place w) (ya_begun w) (ya_held w) (ya_keys w) (ya_holds w) (ya_applied w) (ya_reads w) (ya_seen w) (ya_vals w) (ya_ops w)
section
variable {post : Int32 → SY → Prop} {w : SY} {p c x3 : Int32} {k : Nat}
theorem yg_in (hg : sg_G p c → yl_70 post p c (ya_stages w + 1) 1 (ys_wrongAt w (-1))) (hb : ¬ sg_G p c → yl_70 post p c (ya_stages w + 1) 0 (ys_wrongAt w (-1))) : wpY_stage post w p c := by
  have h52 : (p = 6 → ¬ ∃ j, 1 ≤ j ∧ j ≤ 4 ∧ c = nI j) → (p = 6 ∨ p = 9 ∨ p = 10 ∨ p = 11) → wY_stage_52 post p c (ya_stages w + 1) (ya_limit (ys_wrongAt w (-1))) (ya_source (ys_wrongAt w (-1))) (ya_stages (ys_wrongAt w (-1))) (ya_wrongAt (ys_wrongAt w (-1))) (ya_paid (ys_wrongAt w (-1))) (ya_at (ys_wrongAt w (-1))) (ya_seenCount (ys_wrongAt w (-1))) (ya_failedAt (ys_wrongAt w (-1))) (ya_v (ys_wrongAt w (-1))) (ya_valTop (ys_wrongAt w (-1))) (ya_opTop (ys_wrongAt w (-1))) (ya_ran (ys_wrongAt w (-1))) (ya_broken (ys_wrongAt w (-1))) (ya_outcome (ys_wrongAt w (-1))) (ya_lists (ys_wrongAt w (-1))) (ya_sizes (ys_wrongAt w (-1))) (ya_tokens (ys_wrongAt w (-1))) (ya_counts (ys_wrongAt w (-1))) (ya_kinds (ys_wrongAt w (-1))) (ya_numbers (ys_wrongAt w (-1))) (ya_left (ys_wrongAt w (-1))) (ya_last (ys_wrongAt w (-1))) (ya_place (ys_wrongAt w (-1))) (ya_begun (ys_wrongAt w (-1))) (ya_held (ys_wrongAt w (-1))) (ya_keys (ys_wrongAt w (-1))) (ya_holds (ys_wrongAt w (-1))) (ya_applied (ys_wrongAt w (-1))) (ya_reads (ys_wrongAt w (-1))) (ya_seen (ys_wrongAt w (-1))) (ya_vals (ys_wrongAt w (-1))) (ya_ops (ys_wrongAt w (-1))) := by
    intro h6 hp
    refine br_c (fun e6 => hb (fun z => h6 e6 (z.1 e6))) (fun e6 => ?_)
    rcases i3_cases c with ⟨j, hj, rfl⟩ | ⟨_, hy⟩
    · refine yw_list_in hj ?_
      exact br_f (by decide) (hg ⟨fun z => absurd z e6, fun _ => ⟨j, hj, rfl⟩⟩)
    · refine hy _ ?_
      refine br_t rfl (hb (fun z => ?_))
      obtain ⟨j, hj, rfl⟩ := z.2 (hp.resolve_left e6)
      have hp1 : wpY_isList (fun r => r = 1) (nI j) := yw_list_in hj rfl
      have hp0 : wpY_isList (fun r => r = 0) (nI j) := hy _ rfl
      have hn : ¬ nI j < 0 := nI_pos (by omega)
      have h2 : ¬ 2 < nI j := nI_nlt (a := 2) (by omega) (by omega)
      exact absurd ((hp0.2 hn).2 h2) (by decide)
  have h36 : (p = 6 ∨ p = 9 ∨ p = 10 ∨ p = 11) → wY_stage_36 post p c (ya_stages w + 1) (ya_limit (ys_wrongAt w (-1))) (ya_source (ys_wrongAt w (-1))) (ya_stages (ys_wrongAt w (-1))) (ya_wrongAt (ys_wrongAt w (-1))) (ya_paid (ys_wrongAt w (-1))) (ya_at (ys_wrongAt w (-1))) (ya_seenCount (ys_wrongAt w (-1))) (ya_failedAt (ys_wrongAt w (-1))) (ya_v (ys_wrongAt w (-1))) (ya_valTop (ys_wrongAt w (-1))) (ya_opTop (ys_wrongAt w (-1))) (ya_ran (ys_wrongAt w (-1))) (ya_broken (ys_wrongAt w (-1))) (ya_outcome (ys_wrongAt w (-1))) (ya_lists (ys_wrongAt w (-1))) (ya_sizes (ys_wrongAt w (-1))) (ya_tokens (ys_wrongAt w (-1))) (ya_counts (ys_wrongAt w (-1))) (ya_kinds (ys_wrongAt w (-1))) (ya_numbers (ys_wrongAt w (-1))) (ya_left (ys_wrongAt w (-1))) (ya_last (ys_wrongAt w (-1))) (ya_place (ys_wrongAt w (-1))) (ya_begun (ys_wrongAt w (-1))) (ya_held (ys_wrongAt w (-1))) (ya_keys (ys_wrongAt w (-1))) (ya_holds (ys_wrongAt w (-1))) (ya_applied (ys_wrongAt w (-1))) (ya_reads (ys_wrongAt w (-1))) (ya_seen (ys_wrongAt w (-1))) (ya_vals (ys_wrongAt w (-1))) (ya_ops (ys_wrongAt w (-1))) := by
    intro hp
    refine br_c (fun e6 => ?_) (fun e6 => h52 (fun z => absurd z e6) hp)
    refine br_c (fun c1 => h52 (fun _ => ?_) hp) (fun c1 => br_c (fun c4 => ?_) (fun c4 => h52 (fun _ => ?_) hp))
    · rintro ⟨j, h1, h4, rfl⟩
      exact nI_nlt (b := 1) h1 (by omega) c1
    · obtain ⟨j, hj, rfl⟩ := nI_of (x := c) (fun hn => c1 (by
        rw [Int32.lt_iff_toInt_lt] at hn ⊢
        have e0 : (0 : Int32).toInt = 0 := by decide
        have e1 : (1 : Int32).toInt = 1 := by decide
        omega))
      refine hg ⟨fun _ => ⟨j, ?_, (nI_leI (b := 4) hj (by omega)).mp c4, rfl⟩, fun z => ?_⟩
      · exact Nat.le_of_not_lt (fun z => c1 (nI_lt (b := 1) z (by omega)))
      · subst e6
        rcases z with z | z | z <;> exact absurd z (by decide)
    · rintro ⟨j, h1, h4, rfl⟩
      exact c4 (nI_le (b := 4) h4 (by omega))
  refine nm_e (br_c (fun e => h36 (Or.inl e)) (fun e6 => br_c (fun e => h36 (Or.inr (Or.inl e))) (fun e9 => br_c (fun e => h36 (Or.inr (Or.inr (Or.inl e)))) (fun e10 => br_c (fun e => h36 (Or.inr (Or.inr (Or.inr e)))) (fun e11 => ?_)))))
  refine hg ⟨fun z => absurd z e6, fun z => ?_⟩
  rcases z with z | z | z
  · exact absurd z e9
  · exact absurd z e10
  · exact absurd z e11
theorem yw_70 {z : Int32} (h : (¬ (∃ k, k ≤ 16 ∧ p = nI k) ∨ z = 0 → yl_173 post p c (-1) (ys_ops w (upd (ya_ops w) 0 0))) ∧
    ((∃ k, k ≤ 16 ∧ p = nI k) → ¬ z = 0 → ((ya_stages w = 8 → yl_173 post p c (-2) (ys_ops w (upd (ya_ops w) 0 0))) ∧ (¬ ya_stages w = 8 →
      wpY_hasExpression (fun r => (r = 0 → ((ya_counts w 0 ≤ 0 → yl_160 post p c x3 (-1) (ys_ops w (upd (ya_ops w) 0 0))) ∧ (¬ ya_counts w 0 ≤ 0 → yl_160 post p c x3 0 (ys_ops w (upd (ya_ops w) 0 0))))) ∧
        (¬ r = 0 → ((p = 10 → wpY_misfit (fun r w' => yl_160 post p c x3 r w') (ys_ops w (upd (ya_ops w) 0 0)) 1) ∧ (¬ p = 10 → ((p = 12 → wpY_misfit (fun r w' => yl_160 post p c x3 r w') (ys_ops w (upd (ya_ops w) 0 0)) 1) ∧
          (¬ p = 12 → wpY_misfit (fun r w' => yl_160 post p c x3 r w') (ys_ops w (upd (ya_ops w) 0 0)) 0)))))) p)))) : yl_70 post p c x3 z w := by
  refine nm_e (br_c (fun hn => h.1 (Or.inl ?_)) (fun hn => br_c (fun h16 => h.1 (Or.inl ?_)) (fun h16 => br_c (fun z0 => h.1 (Or.inr z0)) (fun z0 => ?_))))
  · rintro ⟨k, hk, rfl⟩
    exact nI_pos (by omega) hn
  · rintro ⟨k, hk, rfl⟩
    exact nI_nlt (a := 16) hk (by omega) h16
  · obtain ⟨k, hk, rfl⟩ := nI_of hn
    have hk' : k ≤ 16 := Nat.le_of_not_lt (fun z => h16 (nI_lt (a := 16) z hk))
    exact h.2 ⟨k, hk', rfl⟩ z0
theorem yw_has_y {post : Int32 → Prop} (h : rl_hx k) (hp : post 1) : wpY_hasExpression post (nI k) := by
  unfold wpY_hasExpression
  have h' : k = 0 ∨ k = 1 ∨ k = 4 ∨ k = 5 ∨ k = 7 ∨ k = 10 ∨ k = 12 ∨ k = 14 ∨ k = 16 := by unfold rl_hx at h; omega
  rcases h' with rfl | rfl | rfl | rfl | rfl | rfl | rfl | rfl | rfl <;>
  exact br_f (by decide) (br_f (by decide) (br_f (by decide) (br_f (by decide) (br_f (by decide) (br_f (by decide) (br_f (by decide) (br_f (by decide) hp)))))))
theorem yw_has_n {post : Int32 → Prop} (hk : k ≤ 16) (h : ¬ rl_hx k) (hp : post 0) : wpY_hasExpression post (nI k) := by
  unfold wpY_hasExpression
  have h' : k = 2 ∨ k = 3 ∨ k = 6 ∨ k = 8 ∨ k = 9 ∨ k = 11 ∨ k = 13 ∨ k = 15 := by unfold rl_hx at h; omega
  rcases h' with rfl | rfl | rfl | rfl | rfl | rfl | rfl | rfl
  · exact br_t rfl hp
  · exact br_f (by decide) (br_t rfl hp)
  · exact br_f (by decide) (br_f (by decide) (br_t rfl hp))
  · exact br_f (by decide) (br_f (by decide) (br_f (by decide) (br_t rfl hp)))
  · exact br_f (by decide) (br_f (by decide) (br_f (by decide) (br_f (by decide) (br_t rfl hp))))
  · exact br_f (by decide) (br_f (by decide) (br_f (by decide) (br_f (by decide) (br_f (by decide) (br_t rfl hp)))))
  · exact br_f (by decide) (br_f (by decide) (br_f (by decide) (br_f (by decide) (br_f (by decide) (br_f (by decide) (br_t rfl hp))))))
  · exact br_f (by decide) (br_f (by decide) (br_f (by decide) (br_f (by decide) (br_f (by decide) (br_f (by decide) (br_f (by decide) (br_t rfl hp)))))))
theorem yg_neg (h : x3 ≤ 0) (hp : post x3 (ys_counts w (upd (ya_counts w) 0 0))) : yl_173 post p c x3 w := br_t h (nm_e hp)
theorem yg_160w {z : Int32} (h : ¬ z < 0) (hp : post (-3) (ys_counts (ys_wrongAt w z) (upd (ya_counts w) 0 0))) : yl_160 post p c x3 z w := br_f h (yg_neg (w := ys_wrongAt w z) (by decide) hp)
theorem yg_160g {f : Nat} {a : Nat} (ha : 0 < a) (ha2 : a < 100) (hp : yl_180 post p c (nI a) f 0 (ys_wrongAt w (-1))) : yl_160 post p c (nI a) (-1) w :=
  br_t (by decide) (br_f (nI_nle ha (by omega)) (Exists.intro f hp))
theorem yg_copy1 {N n i f : Nat} (hn : n ≤ 16) (hN : N < 8) (hc : ya_counts w 0 = nI n) (hi : i < n)
    (hp : yl_180 post p c (nI (N + 1)) f (nI (i + 1)) (ys_tokens w (upd (ya_tokens w) (16 * (N + 1) + i) (ya_tokens w i)))) : yl_180 post p c (nI (N + 1)) (f + 1) (nI i) w := by
  have e : (16 : Int32) * nI (N + 1) + nI i = nI (16 * (N + 1) + i) := zn_16 _ _
  have e1 : (nI i).toNatClampNeg = i := nI_clamp (by omega)
  have e2 : (nI (16 * (N + 1) + i)).toNatClampNeg = 16 * (N + 1) + i := nI_clamp (by omega)
  refine br_f (by rw [hc]; exact nI_ge hi (by omega)) (And.intro (vp_in_nI (by omega) (by omega)) ?_)
  rw [e, e1, e2]
  exact And.intro (vp_in_nI (by omega) (by omega)) (nm_e (nm_r (nI_1 i) hp))
theorem yg_copy0 {N n f : Nat} (hn : n ≤ 16) (hN : N < 8) (hc : ya_counts w 0 = nI n) (hS : ya_stages w = nI N)
    (hp : post (nI (N + 1)) (ym_sg w (nI (N + 1)) (ya_wrongAt w) (ya_tokens w) (upd (upd (ya_counts w) (N + 1) (nI n)) 0 0) (upd (ya_kinds w) N p) (upd (ya_numbers w) N c) (ya_ops w))) :
    yl_180 post p c (nI (N + 1)) (f + 1) (nI n) w := by
  have h8 : vp_in (ya_stages w) 8 := by rw [hS]; exact vp_in_nI hN (by omega)
  have e : (ya_stages w).toNatClampNeg = N := by rw [hS]; exact nI_clamp (by omega)
  have e1 : ya_stages w + 1 = nI (N + 1) := by rw [hS, nI_1]
  have e9 : (nI (N + 1)).toNatClampNeg = N + 1 := nI_clamp (by omega)
  refine br_t (by rw [hc]; exact nI_le (Nat.le_refl _) (by omega)) (And.intro (vp_in_nI (by omega) (by omega)) ?_)
  rw [e9]
  refine nm_r (e' := upd (ya_counts w) (N + 1) (nI n)) (by rw [hc]) (And.intro h8 ?_)
  rw [e]
  exact nm_e (And.intro h8 (nm_e (nm_r e1 (nm_e hp))))
end
theorem ys_tt (w : SY) (a b : Nat → Int32) : ys_tokens (ys_tokens w a) b = ys_tokens w b := rfl
theorem ys_tself (w : SY) : ys_tokens w (ya_tokens w) = w := rfl
theorem yg_copy {p c : Int32} {N n : Nat} (w : SY) (hn : n ≤ 16) (hN : N < 8) (hc : ya_counts w 0 = nI n) (hS : ya_stages w = nI N) :
    ∀ d i, i + d = n → ∀ tok : Nat → Int32, (∀ j, j < i → tok (16 * (N + 1) + j) = ya_tokens w j) → (∀ j, j < 16 * (N + 1) → tok j = ya_tokens w j) →
    ∃ tok', (∀ j, j < n → tok' (16 * (N + 1) + j) = ya_tokens w j) ∧ (∀ j, j < 16 * (N + 1) → tok' j = ya_tokens w j) ∧ ∀ post : Int32 → SY → Prop,
      post (nI (N + 1)) (ym_sg w (nI (N + 1)) (ya_wrongAt w) tok' (upd (upd (ya_counts w) (N + 1) (nI n)) 0 0) (upd (ya_kinds w) N p) (upd (ya_numbers w) N c) (ya_ops w)) →
      yl_180 post p c (nI (N + 1)) (d + 1) (nI i) (ys_tokens w tok) := by
  intro d
  induction d with
  | zero =>
    intro i e tok h1 h2
    have e' : i = n := by omega
    subst e'
    exact ⟨tok, h1, h2, fun post hp => yg_copy0 (w := ys_tokens w tok) hn hN hc hS hp⟩
  | succ d ih =>
    intro i e tok h1 h2
    obtain ⟨tok', g1, g2, g3⟩ := ih (i + 1) (by omega) (upd tok (16 * (N + 1) + i) (ya_tokens w i)) (fun j hj => by
      by_cases c : j = i
      · subst c; exact pk_us
      · exact (pk_un (by omega)).trans (h1 j (by omega))) (fun j hj => (pk_un (by omega)).trans (h2 j hj))
    refine ⟨tok', g1, g2, fun post hp => yg_copy1 (w := ys_tokens w tok) (n := n) hn hN hc (by omega) ?_⟩
    rw [ys_tt, show ya_tokens (ys_tokens w tok) i = ya_tokens w i from h2 i (by omega)]
    exact g3 post hp
end
section
/-! stage: the two together -/
theorem cd_ar_congr {sp nm sp' nm' : Nat → Int32} {b : Nat} : ∀ cs : List (Nat × Int32), (∀ j, b ≤ j → j < b + cs.length → sp' j = sp j ∧ nm' j = nm j) → cd_ar sp nm b cs → cd_ar sp' nm' b cs
  | [], _, _ => trivial
  | (_, _) :: cs, h, g => by
    have h0 := h (b + cs.length) (by omega) (by simp only [List.length_cons]; omega)
    exact ⟨h0.1.trans g.1, h0.2.trans g.2.1, cd_ar_congr cs (fun j h1 h2 => h j h1 (by simp only [List.length_cons]; omega)) g.2.2⟩
section
variable {u : SX} {v : SY} {L N : Nat} {K : Nat → Nat} {st tkn wp ws ps st' wp' : Int32} {kd cn sp nm ss q wt cp tok cnt oa : Nat → Int32}
theorem sg_old {s k : Nat} (h : rl_sg u v s k) (hs : s < N) (hk : kd s = xa_kind u s) (hc : cn s = xa_constant u s) (hss : ss s = xa_steps u s) (hq : q s = xa_quick u s)
    (hsp : ∀ j, j < 16 * N → sp j = xa_step u j ∧ nm j = xa_number u j) (htok : ∀ j, 16 ≤ j → j < 16 * (N + 1) → tok j = ya_tokens v j) (hcnt : ∀ j, 0 < j → j ≤ N → cnt j = ya_counts v j) :
    rl_sg (xn_s u st tkn wp ws ps kd cn sp nm ss q wt cp) (ym_sg v st' wp' tok cnt kd cn oa) s k := by
  obtain ⟨g1, g2, g3, g4, g5⟩ := h
  have hk' : xa_kind (xn_s u st tkn wp ws ps kd cn sp nm ss q wt cp) s = xa_kind u s := hk
  have hc' : xa_constant (xn_s u st tkn wp ws ps kd cn sp nm ss q wt cp) s = xa_constant u s := hc
  refine ⟨g1, by rw [hk']; exact g2, fun e => by rw [hc']; exact g3 e, fun e => by rw [hc']; exact g4 e, fun hx => ?_⟩
  obtain ⟨n, tk, y1, x1⟩ := g5 hx
  obtain ⟨a1, a2, a3, a4, a5⟩ := y1
  obtain ⟨cs, b1, b2, b3, b4, b5⟩ := x1
  refine ⟨n, tk, ⟨a1, (hcnt (s + 1) (by omega) (by omega)).trans a2, fun i hi => (htok _ (by omega) (by omega)).trans (a3 i hi), a4, a5⟩, ⟨cs, b1, b2, hss.trans b3, ?_, ?_⟩⟩
  · exact cd_ar_congr cs (fun j h1 h2 => hsp j (by omega)) b4
  · rcases b5 with b5 | ⟨b5, b6⟩
    · exact Or.inl (hq.trans b5)
    · exact Or.inr ⟨hq.trans b5, b6⟩
theorem st_new {N' : Nat} {K' : Nat → Nat} (h : rl_st u v L N K) (hN' : N' ≤ 8)
    (hs : ∀ s, s < N' → rl_sg (xn_s u (nI N') tkn wp ws ps kd cn sp nm ss q wt cp) (ym_sg v (nI N') wp' tok cnt kd cn oa) s (K' s)) :
    rl_st (xn_s u (nI N') tkn wp ws ps kd cn sp nm ss q wt cp) (ym_sg v (nI N') wp' tok cnt kd cn oa) L N' K' := by
  obtain ⟨h1, h2, h3, h4, h5, h6, h7, h8, h9, h10, h11, h12, h13, h14⟩ := h
  exact ⟨h1, h2, h3, h4, rfl, rfl, hN', h8, h9, h10, h11, rfl, rfl, hs⟩
theorem tk_new (hc : cnt 0 = 0) : rl_tk (xn_s u st 0 wp ws ps kd cn sp nm ss q wt cp) (ym_sg v st' wp' tok cnt kd cn oa) 0 (fun _ => 0) :=
  ⟨by omega, rfl, hc, fun i hi => absurd hi (by omega)⟩
theorem rs_new (h : rl_rs u v) : rl_rs (xn_s u st tkn wp ws ps kd cn sp nm ss q wt cp) (ym_sg v st' wp tok cnt kd cn oa) := ⟨rfl, h.2⟩
/-- the relation behind a stage that isn't taken -/
theorem stg_keep {n : Nat} {tk : Nat → Nat} {k0 : Nat} (h : rl_st u v L N K) (hr : rl_rs u v)
    (hss : ∀ j, j ≠ N → ss j = xa_steps u j) (hq : ∀ j, j ≠ N → q j = xa_quick u j)
    (hsp : ∀ j, j < 16 * N → sp j = xa_step u j ∧ nm j = xa_number u j) :
    i_Rel k0 (xn_s u (nI N) 0 wp ws ps (xa_kind u) (xa_constant u) sp nm ss q wt cp) (ym_sg v (nI N) wp (ya_tokens v) (upd (ya_counts v) 0 0) (xa_kind u) (xa_constant u) oa) :=
  ⟨L, N, K, 0, fun _ => 0, st_new h h.2.2.2.2.2.2.1 (fun s hs => sg_old (N := N) (h.2.2.2.2.2.2.2.2.2.2.2.2.2 s hs) hs rfl rfl (hss s (by omega)) (hq s (by omega)) hsp (fun _ _ _ => rfl) (fun j h0 _ => pk_un (by omega))), tk_new pk_us, rs_new hr⟩
/-- and behind one that is -/
theorem stg_new {n k : Nat} {tk : Nat → Nat} {k0 : Nat} {c : Int32} (h : rl_st u v L N K) (hr : rl_rs u v) (hN : N < 8) (hk : k ≤ 16) (hg : sg_G (nI k) c)
    (hss : ∀ j, j ≠ N → ss j = xa_steps u j) (hq : ∀ j, j ≠ N → q j = xa_quick u j)
    (hsp : ∀ j, j < 16 * N → sp j = xa_step u j ∧ nm j = xa_number u j) (htok : ∀ j, j < 16 * (N + 1) → tok j = ya_tokens v j)
    (hx : rl_hx k → yt_rel (ym_sg v (nI (N + 1)) wp tok (upd (upd (ya_counts v) (N + 1) (nI n)) 0 0) (upd (xa_kind u) N (nI k)) (upd (xa_constant u) N c) oa) N n tk ∧
      xc_rel (xn_s u (nI (N + 1)) 0 wp ws ps (upd (xa_kind u) N (nI k)) (upd (xa_constant u) N c) sp nm ss q wt cp) N (sy_out tk n)) :
    i_Rel k0 (xn_s u (nI (N + 1)) 0 wp ws ps (upd (xa_kind u) N (nI k)) (upd (xa_constant u) N c) sp nm ss q wt cp)
      (ym_sg v (nI (N + 1)) wp tok (upd (upd (ya_counts v) (N + 1) (nI n)) 0 0) (upd (xa_kind u) N (nI k)) (upd (xa_constant u) N c) oa) := by
  refine ⟨L, N + 1, fun s => if s = N then k else K s, 0, fun _ => 0, st_new h (by omega) (fun s hs => ?_), tk_new pk_us, rs_new hr⟩
  by_cases cN : s = N
  · subst cN
    show rl_sg _ _ s (if s = s then k else K s)
    rw [if_pos rfl]
    refine ⟨hk, pk_us, fun e => ?_, fun e => ?_, fun e => ⟨n, tk, hx e⟩⟩
    · obtain ⟨j, h1, h4, e2⟩ := hg.1 (by rw [e]; rfl)
      exact ⟨j, h1, h4, (pk_us (f := xa_constant u) (k := s) (x := c)).trans e2⟩
    · obtain ⟨j, h1, e2⟩ := hg.2 (by rcases e with e | e | e <;> subst e <;> first | exact Or.inl rfl | exact Or.inr (Or.inl rfl) | exact Or.inr (Or.inr rfl))
      exact ⟨j, h1, (pk_us (f := xa_constant u) (k := s) (x := c)).trans e2⟩
  · show rl_sg _ _ s (if s = N then k else K s)
    rw [if_neg cN]
    exact sg_old (N := N) (h.2.2.2.2.2.2.2.2.2.2.2.2.2 s (by omega)) (by omega) (pk_un cN) (pk_un cN) (hss s cN) (hq s cN) hsp (fun j _ hj => htok j hj) (fun j h0 hj => (pk_un (by omega)).trans (pk_un (by omega)))
end
section
variable (u : SX) (v : SY) (a ws ps r st : Int32) (wt cp sp nm ss q kd cn oa cnt tok : Nat → Int32)
theorem xn_e0 : xm_rs u 0 a = xn_s u (xa_stages u) 0 a (xa_waits u) (xa_parens u) (xa_kind u) (xa_constant u) (xa_step u) (xa_number u) (xa_steps u) (xa_quick u) (xa_waiting u) (xa_compared u) := rfl
theorem xn_e1 : xs_wrongPlace (xm_rs u 0 a) r = xm_rs u 0 r := rfl
theorem xn_e2 : xm_kc (xm_rs u 0 a) st kd cn = xn_s u st 0 a (xa_waits u) (xa_parens u) kd cn (xa_step u) (xa_number u) (xa_steps u) (xa_quick u) (xa_waiting u) (xa_compared u) := rfl
theorem xn_e3 : xs_wrongPlace (xt_s (xm_rs u 0 a) ws ps wt cp sp nm ss) r = xn_s u (xa_stages u) 0 r ws ps (xa_kind u) (xa_constant u) sp nm ss (xa_quick u) wt cp := rfl
theorem xn_e4 : xm_kc (xs_wrongPlace (xs_quick (xt_s (xm_rs u 0 a) ws ps wt cp sp nm ss) q) r) st kd cn = xn_s u st 0 r ws ps kd cn sp nm ss q wt cp := rfl
theorem yn_e0 : ys_ops (ys_wrongAt v a) oa = ym_wo v a oa := rfl
theorem yn_e1 : ys_counts (ym_wo v a oa) cnt = ym_sg v (ya_stages v) a (ya_tokens v) cnt (ya_kinds v) (ya_numbers v) oa := rfl
theorem yn_e2 : ys_wrongAt (ym_wo v a oa) r = ym_wo v r oa := rfl
theorem yn_e3 : ym_sg (ym_wo v a oa) st a tok cnt kd cn oa = ym_sg v st a tok cnt kd cn oa := rfl
theorem yn_e4 (oa' : Nat → Int32) : ys_ops (ym_wo v a oa) oa' = ym_wo v a oa' := rfl
end
theorem yw_stage_go {post : Int32 → SY → Prop} {v : SY} {k : Nat} {c : Int32} (hk : k ≤ 16) (hg : sg_G (nI k) c)
    (h : (ya_stages v = 8 → yl_173 post (nI k) c (-2) (ym_wo v (-1) (upd (ya_ops v) 0 0))) ∧ (¬ ya_stages v = 8 →
      wpY_hasExpression (fun r => (r = 0 → ((ya_counts v 0 ≤ 0 → yl_160 post (nI k) c (ya_stages v + 1) (-1) (ym_wo v (-1) (upd (ya_ops v) 0 0))) ∧ (¬ ya_counts v 0 ≤ 0 → yl_160 post (nI k) c (ya_stages v + 1) 0 (ym_wo v (-1) (upd (ya_ops v) 0 0))))) ∧
        (¬ r = 0 → wpY_misfit (fun r w' => yl_160 post (nI k) c (ya_stages v + 1) r w') (ym_wo v (-1) (upd (ya_ops v) 0 0)) (yb_i (decide (k = 10 ∨ k = 12))))) (nI k))) : wpY_stage post v (nI k) c := by
  refine yg_in (fun _ => yw_70 ⟨fun z => ?_, fun _ _ => ⟨h.1, fun n8 => ?_⟩⟩) (fun z => absurd hg z)
  · rcases z with z | z
    · exact absurd ⟨k, hk, rfl⟩ z
    · exact absurd z (by decide)
  · have h2 := h.2 n8
    by_cases hx : rl_hx k
    · refine yw_has_y hx (br_f (by decide) ?_)
      have hm : wpY_misfit (fun r w' => yl_160 post (nI k) c (ya_stages v + 1) r w') (ym_wo v (-1) (upd (ya_ops v) 0 0)) (yb_i (decide (k = 10 ∨ k = 12))) := by
        have hq : ∀ P : Int32 → Prop, wpY_hasExpression P (nI k) → P 1 := by
          intro P hP
          have h' : k = 0 ∨ k = 1 ∨ k = 4 ∨ k = 5 ∨ k = 7 ∨ k = 10 ∨ k = 12 ∨ k = 14 ∨ k = 16 := by unfold rl_hx at hx; omega
          rcases h' with rfl | rfl | rfl | rfl | rfl | rfl | rfl | rfl | rfl <;>
          exact (((((((hP.2 (by decide)).2 (by decide)).2 (by decide)).2 (by decide)).2 (by decide)).2 (by decide)).2 (by decide)).2 (by decide)
        exact (hq _ h2).2 (by decide)
      refine br_c (fun e => ?_) (fun e10 => br_c (fun e => ?_) (fun e12 => ?_))
      · rw [decide_eq_true (Or.inl ((nI_eq (b := 10) (by omega) (by omega)).mp e))] at hm
        exact hm
      · rw [decide_eq_true (Or.inr ((nI_eq (b := 12) (by omega) (by omega)).mp e))] at hm
        exact hm
      · rw [decide_eq_false (fun z => by
          rcases z with z | z
          · exact e10 (by rw [z]; rfl)
          · exact e12 (by rw [z]; rfl))] at hm
        exact hm
    · refine yw_has_n hk hx (br_t rfl ?_)
      have hq : ∀ P : Int32 → Prop, wpY_hasExpression P (nI k) → P 0 := by
        intro P hP
        have h' : k = 2 ∨ k = 3 ∨ k = 6 ∨ k = 8 ∨ k = 9 ∨ k = 11 ∨ k = 13 ∨ k = 15 := by unfold rl_hx at hx; omega
        rcases h' with rfl | rfl | rfl | rfl | rfl | rfl | rfl | rfl
        · exact hP.1 rfl
        · exact (hP.2 (by decide)).1 rfl
        · exact ((hP.2 (by decide)).2 (by decide)).1 rfl
        · exact (((hP.2 (by decide)).2 (by decide)).2 (by decide)).1 rfl
        · exact ((((hP.2 (by decide)).2 (by decide)).2 (by decide)).2 (by decide)).1 rfl
        · exact (((((hP.2 (by decide)).2 (by decide)).2 (by decide)).2 (by decide)).2 (by decide)).1 rfl
        · exact ((((((hP.2 (by decide)).2 (by decide)).2 (by decide)).2 (by decide)).2 (by decide)).2 (by decide)).1 rfl
        · exact (((((((hP.2 (by decide)).2 (by decide)).2 (by decide)).2 (by decide)).2 (by decide)).2 (by decide)).2 (by decide)).1 rfl
      exact (hq _ h2).1 rfl
end
section
/-! stage: the owed statement -/
section
variable (u : SX) (v : SY) (a b : Int32) (oa : Nat → Int32)
theorem rz_st : xa_stages (xm_rs u a b) = xa_stages u := rfl
theorem rz_tk : xa_token (xm_rs u a b) = xa_token u := rfl
theorem rz_wp : xa_wrongPlace (xm_rs u a b) = b := rfl
theorem rz_kd : xa_kind (xm_rs u a b) = xa_kind u := rfl
theorem rz_cn : xa_constant (xm_rs u a b) = xa_constant u := rfl
theorem wz_ct : ya_counts (ym_wo v a oa) = ya_counts v := rfl
theorem wz_tk : ya_tokens (ym_wo v a oa) = ya_tokens v := rfl
theorem wz_st : ya_stages (ym_wo v a oa) = ya_stages v := rfl
theorem wz_kd : ya_kinds (ym_wo v a oa) = ya_kinds v := rfl
theorem wz_nb : ya_numbers (ym_wo v a oa) = ya_numbers v := rfl
theorem wz_wr : ya_wrongAt (ym_wo v a oa) = a := rfl
theorem wz_op : ya_ops (ym_wo v a oa) = oa := rfl
end
theorem rz_fr {u : SX} {a b : Int32} {S : Nat} {sp nm ss : Nat → Int32} (h : xt_fr S (xm_rs u a b) sp nm ss) :
    (∀ j, j ≠ S → ss j = xa_steps u j) ∧ (∀ j, j < 16 * S → sp j = xa_step u j ∧ nm j = xa_number u j) := ⟨h.1, fun j hj => h.2 j (Or.inl hj)⟩
section
variable {u : SX} {v : SY} {L N n k k0 : Nat} {K tk : Nat → Nat} {c : Int32}
/-- Y: a wrong one -/
theorem yv_wrong {post : Int32 → SY → Prop} {r x3 : Int32} {oa : Nat → Int32} (hr : ¬ r < 0)
    (hp : post (-3) (ym_sg v (ya_stages v) r (ya_tokens v) (upd (ya_counts v) 0 0) (ya_kinds v) (ya_numbers v) oa)) : yl_160 post (nI k) c x3 r (ym_wo v (-1) oa) := by
  refine yg_160w hr ?_
  rw [yn_e2, wz_ct, yn_e1]
  exact hp
/-- Y: a taken one -/
theorem yv_taken (h6 : ya_stages v = nI N) (hN : N < 8) (hn : n ≤ 16) (hc : ya_counts v 0 = nI n) (oa : Nat → Int32) :
    ∃ tok, (∀ j, j < n → tok (16 * (N + 1) + j) = ya_tokens v j) ∧ (∀ j, j < 16 * (N + 1) → tok j = ya_tokens v j) ∧ ∀ post : Int32 → SY → Prop,
      post (nI (N + 1)) (ym_sg v (nI (N + 1)) (-1) tok (upd (upd (ya_counts v) (N + 1) (nI n)) 0 0) (upd (ya_kinds v) N (nI k)) (upd (ya_numbers v) N c) oa) →
      yl_160 post (nI k) c (ya_stages v + 1) (-1) (ym_wo v (-1) oa) := by
  obtain ⟨tok, g1, g2, g3⟩ := yg_copy (p := nI k) (c := c) (N := N) (n := n) (ym_wo v (-1) oa) hn hN (by rw [wz_ct]; exact hc) (by rw [wz_st]; exact h6) n 0 (by omega) (ya_tokens v)
    (fun j hj => absurd hj (by omega)) (fun j _ => by rw [wz_tk])
  rw [wz_tk] at g1 g2
  refine ⟨tok, g1, g2, fun post hp => ?_⟩
  rw [h6, nI_1]
  refine yg_160g (f := n + 1) (by omega) (by omega) ?_
  rw [yn_e2]
  refine g3 post ?_
  rw [wz_wr, wz_ct, wz_kd, wz_nb, wz_op, yn_e3]
  exact hp
theorem yt_new {st wp : Int32} {tok cnt kd cn oa : Nat → Int32} (hn : n ≤ 16) (hc : cnt (N + 1) = nI n) (ht : ∀ j, j < n → tok (16 * (N + 1) + j) = nI (tk j)) (hb : ∀ j, j < n → tk j < 1000000) (hv : sy_valid tk n) :
    yt_rel (ym_sg v st wp tok cnt kd cn oa) N n tk := ⟨hn, hc, ht, hb, hv⟩
theorem xc_new {st wp ws ps a : Int32} {kd cn sp nm ss q wt cp : Nat → Int32} {o : List Nat} (h : xc_rel (xs_quick (xt_s (xm_rs u 0 a) ws ps wt cp sp nm ss) q) N o) :
    xc_rel (xn_s u st 0 wp ws ps kd cn sp nm ss q wt cp) N o := h
theorem i_vc_stage {k : Nat} {u : SX} {v : SY} (I : i_Rel k u v) (hk : k + 4 ≤ 2049) (v1 : Int32) (v2 : Int32) : wpX_stage (fun r u' => wpY_stage (fun r' v' => r' = r ∧ i_Rel (k + 4) u' v') v v1 v2) u v1 v2 := by
  obtain ⟨L, N, K, n, tk, hst, htk, hrs⟩ := I
  have hst0 := hst
  obtain ⟨h1, h2, h3, h4, h5, h6, h7, h8, h9, h10, h11, h12, h13, h14⟩ := hst
  obtain ⟨t1, t2, t3, t4⟩ := htk
  -- the states behind a refusal
  have keep : ∀ (r : Int32) (oa : Nat → Int32), i_Rel (k + 4) (xm_rs u 0 r) (ym_sg v (ya_stages v) r (ya_tokens v) (upd (ya_counts v) 0 0) (ya_kinds v) (ya_numbers v) oa) := by
    intro r oa
    rw [xn_e0, h5, h6, h12, h13]
    exact stg_keep (n := n) (tk := tk) hst0 hrs (fun _ _ => rfl) (fun _ _ => rfl) (fun _ _ => ⟨rfl, rfl⟩)
  by_cases hgood : (∃ k, k ≤ 16 ∧ v1 = nI k) ∧ sg_G v1 v2
  · obtain ⟨⟨kd, hkd, rfl⟩, hg⟩ := hgood
    refine xw_stage_go hkd hg ?_
    rw [t2]
    by_cases c8 : N = 8
    · subst c8
      refine xg_full (by rw [rz_st]; exact h5) (yw_stage_go hkd hg (br_t h6 (yg_neg (by decide) ?_)))
      rw [wz_ct, yn_e1]
      exact ⟨rfl, keep (-1) _⟩
    · have hN : N < 8 := by omega
      have n8 : ¬ ya_stages v = 8 := by rw [h6]; exact fun e => absurd ((nI_eq (b := 8) (by omega) (by omega)).mp e) (by omega)
      by_cases hx : rl_hx kd
      · -- with an expression
        have hS : xa_stages (xm_rs u 0 (-1)) = nI N := h5
        have htX : ∀ i, i < n → xa_token (xm_rs u 0 (-1)) i = nI (tk i) := fun i hi => (t4 i hi).1
        have htb : ∀ i, i < n → tk i < 1000000 ∧ (tk i ≤ 13 ∨ 1000 ≤ tk i) := fun i hi => (t4 i hi).2.2.2
        have htY : ∀ i, i < n → ya_tokens (ym_wo v (-1) (upd (ya_ops v) 0 0)) i = nI (tk i) := fun i hi => by rw [wz_tk]; exact (t4 i hi).2.1
        have hcY : ya_counts (ym_wo v (-1) (upd (ya_ops v) 0 0)) 0 = nI n := by rw [wz_ct]; exact t3
        have hoY : ya_ops (ym_wo v (-1) (upd (ya_ops v) 0 0)) 0 = 0 := by rw [wz_op]; exact pk_us
        -- a wrong one, both sides
        have wrong : ∀ (i : Nat), i ≤ n → (∃ ws ps wt cp sp nm ss, xt_fr N (xm_rs u 0 (-1)) sp nm ss ∧ ∀ post : Int32 → SX → Prop, post (nI i) (xt_s (xm_rs u 0 (-1)) ws ps wt cp sp nm ss) →
              wpX_translate post (xm_rs u 0 (-1)) (nI n) (yb_i (decide (kd = 10 ∨ kd = 12)))) →
            (∃ oa, ∀ post : Int32 → SY → Prop, post (nI i) (ys_ops (ym_wo v (-1) (upd (ya_ops v) 0 0)) oa) → wpY_misfit post (ym_wo v (-1) (upd (ya_ops v) 0 0)) (yb_i (decide (kd = 10 ∨ kd = 12)))) →
            xl_64 (fun r u' => wpY_stage (fun r' v' => r' = r ∧ i_Rel (k + 4) u' v') v (nI kd) v2) (nI kd) v2 (nI n) (xm_rs u 0 (-1)) := by
          rintro i hi ⟨ws, ps, wt, cp, sp, nm, ss, hf, hX⟩ ⟨oa, hY⟩
          refine xg_expr (J := decide (kd = 10 ∨ kd = 12)) hkd hS hN hx rfl (hX _ (xg_wrong (nI_pos (by omega)) ?_))
          refine yw_stage_go hkd hg (br_f n8 (yw_has_y hx (br_f (by decide) (hY _ ?_))))
          rw [yn_e4]
          refine yv_wrong (nI_pos (by omega)) ⟨rfl, ?_⟩
          rw [xn_e3, h5, h6, h12, h13]
          exact stg_keep (n := n) (tk := tk) hst0 hrs (rz_fr hf).1 (fun _ _ => rfl) (rz_fr hf).2
        by_cases hbad : ∃ i, i < n ∧ ¬ sc_ok (decide (kd = 10 ∨ kd = 12)) (sy_run tk i).2.2 (sc_run tk i) (tk i)
        · obtain ⟨i, ⟨hi, hno⟩, hleast⟩ := pk_least _ hbad
          have hok : ∀ j, j < i → sc_ok (decide (kd = 10 ∨ kd = 12)) (sy_run tk j).2.2 (sc_run tk j) (tk j) := fun j hj => by
            by_cases z : sc_ok (decide (kd = 10 ∨ kd = 12)) (sy_run tk j).2.2 (sc_run tk j) (tk j)
            · exact z
            · exact absurd ⟨by omega, z⟩ (hleast j hj)
          exact wrong i (by omega) (xw_tr_bad hS hN t1 htX htb hi hok hno) (yw_misfit hcY t1 htY (fun i hi => (htb i hi).1) hoY (by omega) hok (Or.inl ⟨hi, hno, rfl⟩))
        · have hok : ∀ j, j < n → sc_ok (decide (kd = 10 ∨ kd = 12)) (sy_run tk j).2.2 (sc_run tk j) (tk j) := fun j hj => by
            by_cases z : sc_ok (decide (kd = 10 ∨ kd = 12)) (sy_run tk j).2.2 (sc_run tk j) (tk j)
            · exact z
            · exact absurd ⟨j, hj, z⟩ hbad
          have hsc := sc_inv_run n hok
          by_cases hinc : (sy_run tk n).2.2 = true ∨ 1 < (sc_run tk n).length
          · exact wrong n (Nat.le_refl n) (xw_tr_inc hS hN t1 htX htb hok hinc) (yw_misfit hcY t1 htY (fun i hi => (htb i hi).1) hoY (Nat.le_refl n) hok (Or.inr ⟨rfl, Or.inr ⟨rfl, hinc⟩⟩))
          · have ho : (sy_run tk n).2.2 = false := by
              cases e : (sy_run tk n).2.2 with
              | false => rfl
              | true => exact absurd (Or.inl e) hinc
            have hl : (sc_run tk n).length = 1 := by
              have := hsc.2.1
              have : ¬ 1 < (sc_run tk n).length := fun z => hinc (Or.inr z)
              omega
            have hgd : sc_good (decide (kd = 10 ∨ kd = 12)) tk n := ⟨hok, ho, hl⟩
            obtain ⟨ws, ps, wt, cp, sp, nm, ss, z, hf, hxc, hX⟩ := xw_tr_good hS hN t1 htX htb hgd
            obtain ⟨oa, hY⟩ := yw_misfit (r := -1) hcY t1 htY (fun i hi => (htb i hi).1) hoY (Nat.le_refl n) hok (Or.inr ⟨rfl, Or.inl ⟨rfl, ho, by omega⟩⟩)
            obtain ⟨tok, g1, g2, g3⟩ := yv_taken (v := v) (N := N) (n := n) (k := kd) (c := v2) h6 hN t1 t3 oa
            refine xg_expr (J := decide (kd = 10 ∨ kd = 12)) hkd hS hN hx rfl (hX _ (xg_new (by show (-1 : Int32) < 0; decide) hkd h5 hN ?_))
            refine yw_stage_go hkd hg (br_f n8 (yw_has_y hx (br_f (by decide) (hY _ ?_))))
            rw [yn_e4]
            refine g3 _ ⟨rfl, ?_⟩
            rw [xn_e4, h12, h13]
            refine stg_new hst0 hrs hN hkd hg (rz_fr hf).1 (fun j hj => pk_un hj) (rz_fr hf).2 g2 (fun _ => ⟨?_, xc_new hxc⟩)
            exact yt_new t1 ((pk_un (by omega)).trans pk_us) (fun j hj => (g1 j hj).trans (t4 j hj).2.1) (fun j hj => (htb j hj).1) (sc_valid hgd)
      · -- without one
        refine xg_plain hkd (by rw [rz_st]; exact h5) hN hx t1 (fun n0 => ?_) (fun n0 => ?_)
        · subst n0
          obtain ⟨tok, g1, g2, g3⟩ := yv_taken (v := v) (N := N) (n := 0) (k := kd) (c := v2) h6 hN t1 t3 (upd (ya_ops v) 0 0)
          refine xg_new (by show (-1 : Int32) < 0; decide) hkd (by rw [rz_st]; exact h5) hN (yw_stage_go hkd hg (br_f n8 (yw_has_n hkd hx (br_t rfl (br_t (by rw [t3]; decide) (g3 _ ⟨rfl, ?_⟩))))))
          rw [rz_kd, rz_cn, xn_e2, h12, h13]
          exact stg_new (tk := tk) hst0 hrs hN hkd hg (fun _ _ => rfl) (fun _ _ => rfl) (fun _ _ => ⟨rfl, rfl⟩) g2 (fun z => absurd z hx)
        · rw [xn_e1]
          refine xg_wrong (by rw [rz_wp]; decide) (yw_stage_go hkd hg (br_f n8 (yw_has_n hkd hx (br_t rfl (br_f (by rw [t3]; exact nI_nle (by omega) (by omega)) (yv_wrong (by decide) ⟨rfl, keep 0 _⟩))))))
  · refine xw_stage_ref hgood (yg_in (fun hg => yw_70 ⟨fun _ => ?_, fun hk' _ => absurd ⟨hk', hg⟩ hgood⟩) (fun _ => yw_70 ⟨fun _ => ?_, fun _ z => absurd rfl z⟩))
    · rw [yn_e0]
      refine yg_neg (by decide) ?_
      rw [wz_ct, yn_e1]
      exact ⟨rfl, keep (-1) _⟩
    · rw [yn_e0]
      refine yg_neg (by decide) ?_
      rw [wz_ct, yn_e1]
      exact ⟨rfl, keep (-1) _⟩
end
end
section
/-! pure: chains and search trees in arrays -/
def ch_l (nx : Nat → Int32) : Int32 → List Nat → Prop
  | h, [] => h = -1
  | h, i :: C => h = nI i ∧ ch_l nx (nx i) C
def ch_s (nx : Nat → Int32) : Int32 → List Nat → Int32 → Prop
  | h, [], m => h = m
  | h, i :: C, m => h = nI i ∧ ch_s nx (nx i) C m
theorem ch_app {nx : Nat → Int32} {B : List Nat} : ∀ (A : List Nat) (h m : Int32), ch_s nx h A m → ch_l nx m B → ch_l nx h (A ++ B)
  | [], h, m, e, g => by rw [show h = m from e]; exact g
  | i :: A, h, m, e, g => ⟨e.1, ch_app A _ m e.2 g⟩
theorem ch_snoc {nx : Nat → Int32} {b : Nat} : ∀ (A : List Nat) (h : Int32), ch_s nx h A (nI b) → ch_s nx h (A ++ [b]) (nx b)
  | [], h, e => ⟨e, rfl⟩
  | i :: A, h, e => ⟨e.1, ch_snoc A _ e.2⟩
theorem ch_upd {nx : Nat → Int32} {n : Nat} {z : Int32} : ∀ (C : List Nat) (h : Int32), ¬ n ∈ C → ch_l nx h C → ch_l (upd nx n z) h C
  | [], _, _, g => g
  | i :: C, h, hn, g => by
    have h1 : i ≠ n := fun e => hn (by rw [e]; exact List.mem_cons_self ..)
    refine ⟨g.1, ?_⟩
    rw [pk_un h1]
    exact ch_upd C _ (fun z => hn (List.mem_cons_of_mem _ z)) g.2
theorem ch_supd {nx : Nat → Int32} {n : Nat} {z : Int32} : ∀ (C : List Nat) (h m : Int32), ¬ n ∈ C → ch_s nx h C m → ch_s (upd nx n z) h C m
  | [], _, _, _, g => g
  | i :: C, h, m, hn, g => by
    have h1 : i ≠ n := fun e => hn (by rw [e]; exact List.mem_cons_self ..)
    refine ⟨g.1, ?_⟩
    rw [pk_un h1]
    exact ch_supd C _ m (fun z => hn (List.mem_cons_of_mem _ z)) g.2
theorem ch_congr {nx nx' : Nat → Int32} : ∀ (C : List Nat) (h : Int32), (∀ i, i ∈ C → nx' i = nx i) → ch_l nx h C → ch_l nx' h C
  | [], _, _, g => g
  | i :: C, h, hc, g => by
    refine ⟨g.1, ?_⟩
    rw [hc i (List.mem_cons_self ..)]
    exact ch_congr C _ (fun j hj => hc j (List.mem_cons_of_mem _ hj)) g.2
def so_le (Ky : Nat → Int32) (i j : Nat) : Prop := Ky i < Ky j ∨ (Ky i = Ky j ∧ i < j)
/-- the chain with one index more, behind all whose key is not greater -/
theorem ch_ins {Ky : Nat → Int32} {key : Int32} {n : Nat} {A B : List Nat} (hs : List.Pairwise (so_le Ky) (A ++ B)) (hm : ∀ i, i ∈ A ++ B ↔ i < n)
    (hA : ∀ i, i ∈ A → Ky i ≤ key) (hB : ∀ j C, B = j :: C → key < Ky j) :
    List.Pairwise (so_le (upd Ky n key)) (A ++ n :: B) ∧ ∀ i, i ∈ A ++ n :: B ↔ i < n + 1 := by
  have nA : ∀ i, i ∈ A → i < n := fun i hi => (hm i).mp (List.mem_append_left _ hi)
  have nB : ∀ i, i ∈ B → i < n := fun i hi => (hm i).mp (List.mem_append_right _ hi)
  obtain ⟨pA, pB, pAB⟩ := List.pairwise_append.mp hs
  have hB' : ∀ j, j ∈ B → key < Ky j := by
    intro j hj
    match B, hB, pB, hj with
    | b :: C, hB, pB, hj =>
    have h0 := hB b C rfl
    rcases List.mem_cons.mp hj with e | e
    · rw [e]; exact h0
    · have := (List.pairwise_cons.mp pB).1 j e
      rcases this with z | z
      · exact Int32.lt_trans h0 z
      · rw [← z.1]; exact h0
  have eq : ∀ i, i < n → upd Ky n key i = Ky i := fun i hi => pk_un (by omega)
  constructor
  · rw [List.pairwise_append]
    refine ⟨?_, ?_, ?_⟩
    · refine List.Pairwise.imp_of_mem ?_ pA
      intro a b ha hb hab
      unfold so_le
      rw [eq a (nA a ha), eq b (nA b hb)]
      exact hab
    · rw [List.pairwise_cons]
      refine ⟨fun j hj => ?_, ?_⟩
      · unfold so_le
        rw [pk_us, eq j (nB j hj)]
        exact Or.inl (hB' j hj)
      · refine List.Pairwise.imp_of_mem ?_ pB
        intro a b ha hb hab
        unfold so_le
        rw [eq a (nB a ha), eq b (nB b hb)]
        exact hab
    · intro a ha b hb
      unfold so_le
      rw [eq a (nA a ha)]
      rcases List.mem_cons.mp hb with e | e
      · subst e
        rw [pk_us]
        by_cases z : Ky a = key
        · exact Or.inr ⟨z, nA a ha⟩
        · exact Or.inl (Int32.lt_of_le_of_ne (hA a ha) z)
      · rw [eq b (nB b e)]
        exact pAB a ha b e
  · intro i
    rw [List.mem_append, List.mem_cons]
    have := hm i
    rw [List.mem_append] at this
    constructor
    · rintro (h | h | h)
      · have := nA i h; omega
      · omega
      · have := nB i h; omega
    · intro h
      by_cases c : i = n
      · exact Or.inr (Or.inl c)
      · rcases this.mpr (by omega) with z | z
        · exact Or.inl z
        · exact Or.inr (Or.inr z)
/-! search trees: left child plus one in Kc, right child in R -/
noncomputable def tr_ch (H Kc R : Nat → Int32) (v : Int32) (e : Nat) : Int32 := if H e ≤ v then R e else Kc e - 1
def tr_re (H Kc R : Nat → Int32) (v : Int32) : Nat → Nat → Nat → Prop
  | 0, e, j => e = j
  | m + 1, e, j => H e ≠ v ∧ ∃ e', tr_ch H Kc R v e = nI e' ∧ e' < 150 ∧ tr_re H Kc R v m e' j
def tr_ok (H Kc R : Nat → Int32) (n : Nat) : Prop :=
  (∀ e, e < n → (Kc e = 0 ∨ ∃ j, e < j ∧ j < n ∧ Kc e = nI (j + 1)) ∧ (R e = -1 ∨ ∃ j, e < j ∧ j < n ∧ R e = nI j)) ∧ ∀ j, j < n → ∃ m, tr_re H Kc R (H j) m 0 j
theorem tr_ch_or {H Kc R : Nat → Int32} {n e : Nat} {v : Int32} (h : tr_ok H Kc R n) (he : e < n) : tr_ch H Kc R v e = -1 ∨ ∃ j, e < j ∧ j < n ∧ tr_ch H Kc R v e = nI j := by
  unfold tr_ch
  obtain ⟨h1, h2⟩ := h.1 e he
  split
  · exact h2
  · rcases h1 with h1 | ⟨j, a, b, c⟩
    · left; rw [h1]; decide
    · right; exact ⟨j, a, b, by rw [c, nI_pred]⟩
theorem tr_snoc {H Kc R : Nat → Int32} {v : Int32} {j : Nat} : ∀ (m e i : Nat), tr_re H Kc R v m e i → H i ≠ v → tr_ch H Kc R v i = nI j → j < 150 → tr_re H Kc R v (m + 1) e j
  | 0, e, i, h, hi, hc, hj => by
    have : e = i := h
    subst this
    exact ⟨hi, j, hc, hj, rfl⟩
  | m + 1, e, i, h, hi, hc, hj => by
    obtain ⟨a, e', b, c, d⟩ := h
    exact ⟨a, e', b, c, tr_snoc m e' i d hi hc hj⟩
/-- two paths for one value: the shorter one ends before the other passes -/
theorem tr_det {H Kc R : Nat → Int32} {v : Int32} {i j : Nat} : ∀ (m k e : Nat), tr_re H Kc R v m e i → tr_re H Kc R v k e j → i = j ∨ (H i ≠ v ∧ ∃ e', tr_ch H Kc R v i = nI e' ∧ e' < 150) ∨ H j ≠ v
  | 0, 0, e, h, g => Or.inl ((show e = i from h).symm.trans (show e = j from g))
  | 0, k + 1, e, h, g => by
    have : e = i := h
    subst this
    exact Or.inr (Or.inl ⟨g.1, g.2.choose, g.2.choose_spec.1, g.2.choose_spec.2.1⟩)
  | m + 1, 0, e, h, g => by
    have : e = j := g
    subst this
    exact Or.inr (Or.inr h.1)
  | m + 1, k + 1, e, h, g => by
    obtain ⟨a, e1, b, c, d⟩ := h
    obtain ⟨a', e2, b', c', d'⟩ := g
    have : e1 = e2 := (nI_eq (by omega) (by omega)).mp (b.symm.trans b')
    subst this
    exact tr_det m k e1 d d'
/-- a path that ends at a leaf misses: the value isn't there -/
theorem tr_miss {H Kc R : Nat → Int32} {n m i : Nat} {v : Int32} (h : tr_ok H Kc R n) (hp : tr_re H Kc R v m 0 i) (hi : H i ≠ v) (hc : tr_ch H Kc R v i = -1) : ∀ j, j < n → H j ≠ v := by
  intro j hj e
  obtain ⟨k, hk⟩ := h.2 j hj
  rw [e] at hk
  rcases tr_det m k 0 hp hk with z | ⟨_, e', z, z'⟩ | z
  · subst z; exact hi e
  · rw [hc] at z
    exact absurd z (by
      intro z
      have h1 : (-1 : Int32).toInt = -1 := by decide
      have h2 : (nI e').toInt = e' := nI_toInt (by omega)
      rw [← z, h1] at h2
      omega)
  · exact z e
theorem tr_congr {H Kc R H' Kc' R' : Nat → Int32} {v : Int32} {j : Nat} (P : Nat → Prop) (hH : ∀ i, P i → H' i = H i) (hc : ∀ i e', P i → tr_ch H Kc R v i = nI e' → e' < 150 → tr_ch H' Kc' R' v i = nI e' ∧ P e') :
    ∀ (m e : Nat), P e → tr_re H Kc R v m e j → tr_re H' Kc' R' v m e j
  | 0, e, _, h => h
  | m + 1, e, hP, h => by
    obtain ⟨a, e', b, c, d⟩ := h
    obtain ⟨b', p'⟩ := hc e e' hP b c
    exact ⟨by rw [hH e hP]; exact a, e', b', c, tr_congr P hH hc m e' p' d⟩
theorem tr_empty {H Kc R : Nat → Int32} : tr_ok H Kc R 0 := ⟨fun e h => absurd h (by omega), fun j h => absurd h (by omega)⟩
/-- the first node -/
theorem tr_first {H Kc R : Nat → Int32} (h1 : Kc 0 = 0) (h2 : R 0 = -1) : tr_ok H Kc R 1 := by
  refine ⟨fun e he => ?_, fun j hj => ⟨0, ?_⟩⟩
  · have : e = 0 := by omega
    subst this
    exact ⟨Or.inl h1, Or.inl h2⟩
  · show 0 = j
    omega
/-- one node more, at the leaf where its search ended -/
theorem tr_add {H Kc R H' Kc' R' : Nat → Int32} {n m i : Nat} {v : Int32} (h : tr_ok H Kc R n) (hn : n < 150) (hp : tr_re H Kc R v m 0 i) (hin : i < n) (hi : H i ≠ v) (hc : tr_ch H Kc R v i = -1)
    (hH : ∀ e, e < n → H' e = H e) (hHn : H' n = v) (hKn : Kc' n = 0) (hRn : R' n = -1)
    (hl : (H i ≤ v ∧ R' i = nI n ∧ Kc' i = Kc i) ∨ (¬ H i ≤ v ∧ Kc' i = nI (n + 1) ∧ R' i = R i))
    (hK : ∀ e, e < n → e ≠ i → Kc' e = Kc e ∧ R' e = R e) : tr_ok H' Kc' R' (n + 1) := by
  -- old links stay
  have hold : ∀ (w : Int32) (e e' : Nat), e < n → tr_ch H Kc R w e = nI e' → e' < 150 → tr_ch H' Kc' R' w e = nI e' ∧ e' < n := by
    intro w e e' he hw he'
    have hlt : e' < n := by
      rcases tr_ch_or (v := w) h he with z | ⟨j, a, b, c⟩
      · exfalso
        rw [hw] at z
        have h1 : (-1 : Int32).toInt = -1 := by decide
        have h2 : (nI e').toInt = e' := nI_toInt (by omega)
        rw [z, h1] at h2
        omega
      · rw [hw] at c
        have := (nI_eq (by omega) (by omega)).mp c
        omega
    refine ⟨?_, hlt⟩
    by_cases c : e = i
    · subst c
      unfold tr_ch at hw hc ⊢
      rw [hH e he]
      rcases hl with ⟨l1, l2, l3⟩ | ⟨l1, l2, l3⟩
      · rw [if_pos l1] at hc
        by_cases q : H e ≤ w
        · rw [if_pos q] at hw
          rw [hc] at hw
          exfalso
          have h1 : (-1 : Int32).toInt = -1 := by decide
          have h2 : (nI e').toInt = e' := nI_toInt (by omega)
          rw [← hw, h1] at h2
          omega
        · rw [if_neg q] at hw ⊢
          rw [l3]; exact hw
      · rw [if_neg l1] at hc
        by_cases q : H e ≤ w
        · rw [if_pos q] at hw ⊢
          rw [l3]; exact hw
        · rw [if_neg q] at hw
          rw [hc] at hw
          exfalso
          have h1 : (-1 : Int32).toInt = -1 := by decide
          have h2 : (nI e').toInt = e' := nI_toInt (by omega)
          rw [← hw, h1] at h2
          omega
    · unfold tr_ch at hw ⊢
      rw [hH e he, (hK e he c).1, (hK e he c).2]
      exact hw
  have hnew : tr_ch H' Kc' R' v i = nI n := by
    unfold tr_ch
    rw [hH i hin]
    rcases hl with ⟨l1, l2, l3⟩ | ⟨l1, l2, l3⟩
    · rw [if_pos l1, l2]
    · rw [if_neg l1, l2, nI_pred]
  have lift : ∀ (w : Int32) (k e j : Nat), e < n → tr_re H Kc R w k e j → tr_re H' Kc' R' w k e j := fun w k e j he hr =>
    tr_congr (fun q => q < n) (fun q hq => hH q hq) (fun q e' hq hw he' => hold w q e' hq hw he') k e he hr
  refine ⟨fun e he => ?_, fun j hj => ?_⟩
  · by_cases c : e = n
    · subst c; exact ⟨Or.inl hKn, Or.inl hRn⟩
    · have hen : e < n := by omega
      obtain ⟨g1, g2⟩ := h.1 e hen
      have w1 : Kc e = 0 ∨ ∃ j, e < j ∧ j < n + 1 ∧ Kc e = nI (j + 1) := g1.imp id (fun ⟨j, a, b, c⟩ => ⟨j, a, by omega, c⟩)
      have w2 : R e = -1 ∨ ∃ j, e < j ∧ j < n + 1 ∧ R e = nI j := g2.imp id (fun ⟨j, a, b, c⟩ => ⟨j, a, by omega, c⟩)
      by_cases ci : e = i
      · subst ci
        rcases hl with ⟨l1, l2, l3⟩ | ⟨l1, l2, l3⟩
        · rw [l2, l3]; exact ⟨w1, Or.inr ⟨n, hen, by omega, rfl⟩⟩
        · rw [l2, l3]; exact ⟨Or.inr ⟨n, hen, by omega, rfl⟩, w2⟩
      · rw [(hK e hen ci).1, (hK e hen ci).2]
        exact ⟨w1, w2⟩
  · by_cases c : j = n
    · subst c
      rw [hHn]
      refine ⟨m + 1, tr_snoc m 0 i (lift v m 0 i (by omega) hp) ?_ hnew hn⟩
      rw [hH i hin]; exact hi
    · have hjn : j < n := by omega
      rw [hH j hjn]
      obtain ⟨k, hk⟩ := h.2 j hjn
      exact ⟨k, lift (H j) k 0 j (by omega) hk⟩
end
section
/-! X: isNew, insert, group -/
def xm_nw (u : SX) (z_held : Nat → Int32) (z_keyOf : Nat → Int32) (z_next : Nat → Int32) (z_size : Nat → Int32) : SX := (u.1, u.2.1, u.2.2.1, u.2.2.2.1, u.2.2.2.2.1, u.2.2.2.2.2.1, u.2.2.2.2.2.2.1, u.2.2.2.2.2.2.2.1, u.2.2.2.2.2.2.2.2.1, u.2.2.2.2.2.2.2.2.2.1, u.2.2.2.2.2.2.2.2.2.2.1, u.2.2.2.2.2.2.2.2.2.2.2.1, u.2.2.2.2.2.2.2.2.2.2.2.2.1, u.2.2.2.2.2.2.2.2.2.2.2.2.2.1, u.2.2.2.2.2.2.2.2.2.2.2.2.2.2.1, u.2.2.2.2.2.2.2.2.2.2.2.2.2.2.2.1, u.2.2.2.2.2.2.2.2.2.2.2.2.2.2.2.2.1, u.2.2.2.2.2.2.2.2.2.2.2.2.2.2.2.2.2.1, u.2.2.2.2.2.2.2.2.2.2.2.2.2.2.2.2.2.2.1, u.2.2.2.2.2.2.2.2.2.2.2.2.2.2.2.2.2.2.2.1, u.2.2.2.2.2.2.2.2.2.2.2.2.2.2.2.2.2.2.2.2.1, u.2.2.2.2.2.2.2.2.2.2.2.2.2.2.2.2.2.2.2.2.2.1, u.2.2.2.2.2.2.2.2.2.2.2.2.2.2.2.2.2.2.2.2.2.2.1, u.2.2.2.2.2.2.2.2.2.2.2.2.2.2.2.2.2.2.2.2.2.2.2.1, u.2.2.2.2.2.2.2.2.2.2.2.2.2.2.2.2.2.2.2.2.2.2.2.2.1, u.2.2.2.2.2.2.2.2.2.2.2.2.2.2.2.2.2.2.2.2.2.2.2.2.2.1, u.2.2.2.2.2.2.2.2.2.2.2.2.2.2.2.2.2.2.2.2.2.2.2.2.2.2.1, u.2.2.2.2.2.2.2.2.2.2.2.2.2.2.2.2.2.2.2.2.2.2.2.2.2.2.2.1, u.2.2.2.2.2.2.2.2.2.2.2.2.2.2.2.2.2.2.2.2.2.2.2.2.2.2.2.2.1, u.2.2.2.2.2.2.2.2.2.2.2.2.2.2.2.2.2.2.2.2.2.2.2.2.2.2.2.2.2.1, u.2.2.2.2.2.2.2.2.2.2.2.2.2.2.2.2.2.2.2.2.2.2.2.2.2.2.2.2.2.2.1, u.2.2.2.2.2.2.2.2.2.2.2.2.2.2.2.2.2.2.2.2.2.2.2.2.2.2.2.2.2.2.2.1, z_held, z_keyOf, z_next, z_size, u.2.2.2.2.2.2.2.2.2.2.2.2.2.2.2.2.2.2.2.2.2.2.2.2.2.2.2.2.2.2.2.2.2.2.2.2)
def xm_in (u : SX) (z_held : Nat → Int32) (z_keyOf : Nat → Int32) (z_next : Nat → Int32) (z_size : Nat → Int32) (z_head : Nat → Int32) : SX := (u.1, u.2.1, u.2.2.1, u.2.2.2.1, u.2.2.2.2.1, u.2.2.2.2.2.1, u.2.2.2.2.2.2.1, u.2.2.2.2.2.2.2.1, u.2.2.2.2.2.2.2.2.1, u.2.2.2.2.2.2.2.2.2.1, u.2.2.2.2.2.2.2.2.2.2.1, u.2.2.2.2.2.2.2.2.2.2.2.1, u.2.2.2.2.2.2.2.2.2.2.2.2.1, u.2.2.2.2.2.2.2.2.2.2.2.2.2.1, u.2.2.2.2.2.2.2.2.2.2.2.2.2.2.1, u.2.2.2.2.2.2.2.2.2.2.2.2.2.2.2.1, u.2.2.2.2.2.2.2.2.2.2.2.2.2.2.2.2.1, u.2.2.2.2.2.2.2.2.2.2.2.2.2.2.2.2.2.1, u.2.2.2.2.2.2.2.2.2.2.2.2.2.2.2.2.2.2.1, u.2.2.2.2.2.2.2.2.2.2.2.2.2.2.2.2.2.2.2.1, u.2.2.2.2.2.2.2.2.2.2.2.2.2.2.2.2.2.2.2.2.1, u.2.2.2.2.2.2.2.2.2.2.2.2.2.2.2.2.2.2.2.2.2.1, u.2.2.2.2.2.2.2.2.2.2.2.2.2.2.2.2.2.2.2.2.2.2.1, u.2.2.2.2.2.2.2.2.2.2.2.2.2.2.2.2.2.2.2.2.2.2.2.1, u.2.2.2.2.2.2.2.2.2.2.2.2.2.2.2.2.2.2.2.2.2.2.2.2.1, u.2.2.2.2.2.2.2.2.2.2.2.2.2.2.2.2.2.2.2.2.2.2.2.2.2.1, u.2.2.2.2.2.2.2.2.2.2.2.2.2.2.2.2.2.2.2.2.2.2.2.2.2.2.1, u.2.2.2.2.2.2.2.2.2.2.2.2.2.2.2.2.2.2.2.2.2.2.2.2.2.2.2.1, u.2.2.2.2.2.2.2.2.2.2.2.2.2.2.2.2.2.2.2.2.2.2.2.2.2.2.2.2.1, u.2.2.2.2.2.2.2.2.2.2.2.2.2.2.2.2.2.2.2.2.2.2.2.2.2.2.2.2.2.1, u.2.2.2.2.2.2.2.2.2.2.2.2.2.2.2.2.2.2.2.2.2.2.2.2.2.2.2.2.2.2.1, u.2.2.2.2.2.2.2.2.2.2.2.2.2.2.2.2.2.2.2.2.2.2.2.2.2.2.2.2.2.2.2.1, z_held, z_keyOf, z_next, z_size, z_head, u.2.2.2.2.2.2.2.2.2.2.2.2.2.2.2.2.2.2.2.2.2.2.2.2.2.2.2.2.2.2.2.2.2.2.2.2.2)
def xm_nh (u : SX) (z_next : Nat → Int32) (z_head : Nat → Int32) : SX := (u.1, u.2.1, u.2.2.1, u.2.2.2.1, u.2.2.2.2.1, u.2.2.2.2.2.1, u.2.2.2.2.2.2.1, u.2.2.2.2.2.2.2.1, u.2.2.2.2.2.2.2.2.1, u.2.2.2.2.2.2.2.2.2.1, u.2.2.2.2.2.2.2.2.2.2.1, u.2.2.2.2.2.2.2.2.2.2.2.1, u.2.2.2.2.2.2.2.2.2.2.2.2.1, u.2.2.2.2.2.2.2.2.2.2.2.2.2.1, u.2.2.2.2.2.2.2.2.2.2.2.2.2.2.1, u.2.2.2.2.2.2.2.2.2.2.2.2.2.2.2.1, u.2.2.2.2.2.2.2.2.2.2.2.2.2.2.2.2.1, u.2.2.2.2.2.2.2.2.2.2.2.2.2.2.2.2.2.1, u.2.2.2.2.2.2.2.2.2.2.2.2.2.2.2.2.2.2.1, u.2.2.2.2.2.2.2.2.2.2.2.2.2.2.2.2.2.2.2.1, u.2.2.2.2.2.2.2.2.2.2.2.2.2.2.2.2.2.2.2.2.1, u.2.2.2.2.2.2.2.2.2.2.2.2.2.2.2.2.2.2.2.2.2.1, u.2.2.2.2.2.2.2.2.2.2.2.2.2.2.2.2.2.2.2.2.2.2.1, u.2.2.2.2.2.2.2.2.2.2.2.2.2.2.2.2.2.2.2.2.2.2.2.1, u.2.2.2.2.2.2.2.2.2.2.2.2.2.2.2.2.2.2.2.2.2.2.2.2.1, u.2.2.2.2.2.2.2.2.2.2.2.2.2.2.2.2.2.2.2.2.2.2.2.2.2.1, u.2.2.2.2.2.2.2.2.2.2.2.2.2.2.2.2.2.2.2.2.2.2.2.2.2.2.1, u.2.2.2.2.2.2.2.2.2.2.2.2.2.2.2.2.2.2.2.2.2.2.2.2.2.2.2.1, u.2.2.2.2.2.2.2.2.2.2.2.2.2.2.2.2.2.2.2.2.2.2.2.2.2.2.2.2.1, u.2.2.2.2.2.2.2.2.2.2.2.2.2.2.2.2.2.2.2.2.2.2.2.2.2.2.2.2.2.1, u.2.2.2.2.2.2.2.2.2.2.2.2.2.2.2.2.2.2.2.2.2.2.2.2.2.2.2.2.2.2.1, u.2.2.2.2.2.2.2.2.2.2.2.2.2.2.2.2.2.2.2.2.2.2.2.2.2.2.2.2.2.2.2.1, u.2.2.2.2.2.2.2.2.2.2.2.2.2.2.2.2.2.2.2.2.2.2.2.2.2.2.2.2.2.2.2.2.1, u.2.2.2.2.2.2.2.2.2.2.2.2.2.2.2.2.2.2.2.2.2.2.2.2.2.2.2.2.2.2.2.2.2.1, z_next, u.2.2.2.2.2.2.2.2.2.2.2.2.2.2.2.2.2.2.2.2.2.2.2.2.2.2.2.2.2.2.2.2.2.2.2.1, z_head, u.2.2.2.2.2.2.2.2.2.2.2.2.2.2.2.2.2.2.2.2.2.2.2.2.2.2.2.2.2.2.2.2.2.2.2.2.2)
def xm_kn (u : SX) (z_keyOf : Nat → Int32) (z_next : Nat → Int32) : SX := (u.1, u.2.1, u.2.2.1, u.2.2.2.1, u.2.2.2.2.1, u.2.2.2.2.2.1, u.2.2.2.2.2.2.1, u.2.2.2.2.2.2.2.1, u.2.2.2.2.2.2.2.2.1, u.2.2.2.2.2.2.2.2.2.1, u.2.2.2.2.2.2.2.2.2.2.1, u.2.2.2.2.2.2.2.2.2.2.2.1, u.2.2.2.2.2.2.2.2.2.2.2.2.1, u.2.2.2.2.2.2.2.2.2.2.2.2.2.1, u.2.2.2.2.2.2.2.2.2.2.2.2.2.2.1, u.2.2.2.2.2.2.2.2.2.2.2.2.2.2.2.1, u.2.2.2.2.2.2.2.2.2.2.2.2.2.2.2.2.1, u.2.2.2.2.2.2.2.2.2.2.2.2.2.2.2.2.2.1, u.2.2.2.2.2.2.2.2.2.2.2.2.2.2.2.2.2.2.1, u.2.2.2.2.2.2.2.2.2.2.2.2.2.2.2.2.2.2.2.1, u.2.2.2.2.2.2.2.2.2.2.2.2.2.2.2.2.2.2.2.2.1, u.2.2.2.2.2.2.2.2.2.2.2.2.2.2.2.2.2.2.2.2.2.1, u.2.2.2.2.2.2.2.2.2.2.2.2.2.2.2.2.2.2.2.2.2.2.1, u.2.2.2.2.2.2.2.2.2.2.2.2.2.2.2.2.2.2.2.2.2.2.2.1, u.2.2.2.2.2.2.2.2.2.2.2.2.2.2.2.2.2.2.2.2.2.2.2.2.1, u.2.2.2.2.2.2.2.2.2.2.2.2.2.2.2.2.2.2.2.2.2.2.2.2.2.1, u.2.2.2.2.2.2.2.2.2.2.2.2.2.2.2.2.2.2.2.2.2.2.2.2.2.2.1, u.2.2.2.2.2.2.2.2.2.2.2.2.2.2.2.2.2.2.2.2.2.2.2.2.2.2.2.1, u.2.2.2.2.2.2.2.2.2.2.2.2.2.2.2.2.2.2.2.2.2.2.2.2.2.2.2.2.1, u.2.2.2.2.2.2.2.2.2.2.2.2.2.2.2.2.2.2.2.2.2.2.2.2.2.2.2.2.2.1, u.2.2.2.2.2.2.2.2.2.2.2.2.2.2.2.2.2.2.2.2.2.2.2.2.2.2.2.2.2.2.1, u.2.2.2.2.2.2.2.2.2.2.2.2.2.2.2.2.2.2.2.2.2.2.2.2.2.2.2.2.2.2.2.1, u.2.2.2.2.2.2.2.2.2.2.2.2.2.2.2.2.2.2.2.2.2.2.2.2.2.2.2.2.2.2.2.2.1, z_keyOf, z_next, u.2.2.2.2.2.2.2.2.2.2.2.2.2.2.2.2.2.2.2.2.2.2.2.2.2.2.2.2.2.2.2.2.2.2.2)
theorem zn_sm1 : vp_nar .short (-1 : Int32).toInt16.toInt32 = -1 := by rw [pk_vs]; decide
theorem zn_sm2 : vp_nar .short (-1 : Int32) = -1 := by rw [vp_nar_short]; decide
def xl_25 (post : Int32 → SX → Prop) (s v b : Int32) (n : Nat) (x4 x5 : Int32) (w : SX) : Prop := wX_isNew_25 post s v b (xa_limit w) (xa_source w) (xa_stages w) (xa_tokens w) (xa_wrongPlace w) (xa_waits w) (xa_parens w) (xa_opens w) (xa_from w) (xa_at w) (xa_ended w) (xa_spent w) (xa_stopped w) (xa_out w) (xa_lastStages w) (xa_failedStage w) (xa_shownCount w) (xa_element w) (xa_length w) (xa_kind w) (xa_constant w) (xa_step w) (xa_number w) (xa_steps w) (xa_quick w) (xa_token w) (xa_waiting w) (xa_compared w) (xa_operand w) (xa_memory w) (xa_begun w) (xa_place w) (xa_held w) (xa_keyOf w) (xa_next w) (xa_size w) (xa_head w) (xa_openStage w) (xa_openValue w) (xa_openLeft w) (xa_applications w) (xa_reads w) (xa_shown w) n x4 x5
def xl_20 (post : SX → Prop) (s k e : Int32) (n : Nat) (x5 x6 : Int32) (w : SX) : Prop := wX_insert_20 post s k e (xa_limit w) (xa_source w) (xa_stages w) (xa_tokens w) (xa_wrongPlace w) (xa_waits w) (xa_parens w) (xa_opens w) (xa_from w) (xa_at w) (xa_ended w) (xa_spent w) (xa_stopped w) (xa_out w) (xa_lastStages w) (xa_failedStage w) (xa_shownCount w) (xa_element w) (xa_length w) (xa_kind w) (xa_constant w) (xa_step w) (xa_number w) (xa_steps w) (xa_quick w) (xa_token w) (xa_waiting w) (xa_compared w) (xa_operand w) (xa_memory w) (xa_begun w) (xa_place w) (xa_held w) (xa_keyOf w) (xa_next w) (xa_size w) (xa_head w) (xa_openStage w) (xa_openValue w) (xa_openLeft w) (xa_applications w) (xa_reads w) (xa_shown w) n x5 x6
def xl_18 (post : SX → Prop) (s v k e : Int32) (n : Nat) (x4 : Int32) (w : SX) : Prop := wX_group_18 post s v k e (xa_limit w) (xa_source w) (xa_stages w) (xa_tokens w) (xa_wrongPlace w) (xa_waits w) (xa_parens w) (xa_opens w) (xa_from w) (xa_at w) (xa_ended w) (xa_spent w) (xa_stopped w) (xa_out w) (xa_lastStages w) (xa_failedStage w) (xa_shownCount w) (xa_element w) (xa_length w) (xa_kind w) (xa_constant w) (xa_step w) (xa_number w) (xa_steps w) (xa_quick w) (xa_token w) (xa_waiting w) (xa_compared w) (xa_operand w) (xa_memory w) (xa_begun w) (xa_place w) (xa_held w) (xa_keyOf w) (xa_next w) (xa_size w) (xa_head w) (xa_openStage w) (xa_openValue w) (xa_openLeft w) (xa_applications w) (xa_reads w) (xa_shown w) n x4
section
variable {w : SX} {s n f e l : Nat} {v key x5 : Int32}
/-- hold, as it is used -/
theorem xw_hold2 {post : Int32 → SX → Prop} (hs : s < 8) (hn : n < 150) (hz : xa_size w s = nI n)
    (hp : post (nI n) (xm_hd w (upd (xa_held w) (150 * s + n) v) (upd (xa_keyOf w) (150 * s + n) key) (upd (xa_size w) s (nI (n + 1))))) : wpX_hold post w (nI s) v key := by
  have e : (150 : Int32) * nI s + xa_size w s = nI (150 * s + n) := by rw [hz]; exact zn_150 _ _
  refine xw_hold (s := s) (c := 150 * s + n) (z := nI (n + 1)) (nI_clamp (by omega)) (vp_in_nI hs (by omega)) (by rw [e]; exact nI_clamp (by omega)) (by rw [e]; exact vp_in_nI (by omega) (by omega)) (by rw [hz, nI_1]; exact zn_vs (by omega)) ?_
  rw [hz]
  exact hp
theorem is_found {post : Int32 → SX → Prop} (hs : s < 8) (he : e < 150) (h : xa_held w (150 * s + e) = v) (hp : post 0 w) : xl_25 post (nI s) v (nI (150 * s)) (f + 1) (nI e) x5 w := by
  have e1 : nI (150 * s) + nI e = nI (150 * s + e) := nI_add _ _
  refine br_f (nI_pos (by omega)) ?_
  rw [e1]
  refine And.intro (vp_in_nI (by omega) (by omega)) ?_
  rw [nI_clamp (by omega)]
  exact br_t h hp
theorem is_step {post : Int32 → SX → Prop} (hs : s < 8) (he : e < 150) (h : ¬ xa_held w (150 * s + e) = v)
    (hp : xl_25 post (nI s) v (nI (150 * s)) f (tr_ch (fun i => xa_held w (150 * s + i)) (fun i => xa_keyOf w (150 * s + i)) (fun i => xa_next w (150 * s + i)) v e) (nI e) w) :
    xl_25 post (nI s) v (nI (150 * s)) (f + 1) (nI e) x5 w := by
  have e1 : nI (150 * s) + nI e = nI (150 * s + e) := nI_add _ _
  refine br_f (nI_pos (by omega)) ?_
  rw [e1]
  have hi : vp_in (nI (150 * s + e)) 1200 := vp_in_nI (by omega) (by omega)
  refine And.intro hi ?_
  rw [nI_clamp (by omega)]
  refine br_f h (And.intro hi (br_c (fun c => And.intro hi (nm_r ?_ hp)) (fun c => And.intro hi (nm_r ?_ hp))))
  · unfold tr_ch; rw [if_pos c]
  · unfold tr_ch; rw [if_neg c]
theorem is_nw0 (w : SX) (a b d c : Nat → Int32) : xs_next (xm_hd w a b c) d = xm_nw w a b d c := rfl
theorem is_nw1 (w : SX) (a b c b' d : Nat → Int32) : xm_kn (xm_hd w a b c) b' d = xm_nw w a b' d c := rfl
theorem is_hd (w : SX) (a b c : Nat → Int32) : xa_held (xm_hd w a b c) = a ∧ xa_keyOf (xm_hd w a b c) = b ∧ xa_next (xm_hd w a b c) = xa_next w ∧ xa_head (xm_hd w a b c) = xa_head w ∧ xa_size (xm_hd w a b c) = c := ⟨rfl, rfl, rfl, rfl, rfl⟩
theorem xw_hold3 {post : Int32 → SX → Prop} {A B C : Nat → Int32} (hs : s < 8) (hn : n < 150) (hz : xa_size w s = nI n)
    (hA : A = upd (xa_held w) (150 * s + n) v) (hB : B = upd (xa_keyOf w) (150 * s + n) key) (hC : C = upd (xa_size w) s (nI (n + 1)))
    (hp : post (nI n) (xm_hd w A B C)) : wpX_hold post w (nI s) v key := by
  subst hA
  subst hB
  subst hC
  exact xw_hold2 hs hn hz hp
def is_t (post : Int32 → SX → Prop) (v b r x : Int32) (w : SX) : Prop :=
  vp_in (b + r) 1200 ∧ ∀ a : Nat → Int32, a = upd (xa_next w) (b + r).toNatClampNeg (vp_nar .short (-1)) → ((x < 0 → wX_isNew_143 post b x r (xa_limit (xs_next w a)) (xa_source (xs_next w a)) (xa_stages (xs_next w a)) (xa_tokens (xs_next w a)) (xa_wrongPlace (xs_next w a)) (xa_waits (xs_next w a)) (xa_parens (xs_next w a)) (xa_opens (xs_next w a)) (xa_from (xs_next w a)) (xa_at (xs_next w a)) (xa_ended (xs_next w a)) (xa_spent (xs_next w a)) (xa_stopped (xs_next w a)) (xa_out (xs_next w a)) (xa_lastStages (xs_next w a)) (xa_failedStage (xs_next w a)) (xa_shownCount (xs_next w a)) (xa_element (xs_next w a)) (xa_length (xs_next w a)) (xa_kind (xs_next w a)) (xa_constant (xs_next w a)) (xa_step (xs_next w a)) (xa_number (xs_next w a)) (xa_steps (xs_next w a)) (xa_quick (xs_next w a)) (xa_token (xs_next w a)) (xa_waiting (xs_next w a)) (xa_compared (xs_next w a)) (xa_operand (xs_next w a)) (xa_memory (xs_next w a)) (xa_begun (xs_next w a)) (xa_place (xs_next w a)) (xa_held (xs_next w a)) (xa_keyOf (xs_next w a)) (xa_next (xs_next w a)) (xa_size (xs_next w a)) (xa_head (xs_next w a)) (xa_openStage (xs_next w a)) (xa_openValue (xs_next w a)) (xa_openLeft (xs_next w a)) (xa_applications (xs_next w a)) (xa_reads (xs_next w a)) (xa_shown (xs_next w a))) ∧ (¬ x < 0 → (vp_in (b + x) 1200 ∧
      ((xa_held w (b + x).toNatClampNeg ≤ v → wX_isNew_143 post b x r (xa_limit (xs_next w a)) (xa_source (xs_next w a)) (xa_stages (xs_next w a)) (xa_tokens (xs_next w a)) (xa_wrongPlace (xs_next w a)) (xa_waits (xs_next w a)) (xa_parens (xs_next w a)) (xa_opens (xs_next w a)) (xa_from (xs_next w a)) (xa_at (xs_next w a)) (xa_ended (xs_next w a)) (xa_spent (xs_next w a)) (xa_stopped (xs_next w a)) (xa_out (xs_next w a)) (xa_lastStages (xs_next w a)) (xa_failedStage (xs_next w a)) (xa_shownCount (xs_next w a)) (xa_element (xs_next w a)) (xa_length (xs_next w a)) (xa_kind (xs_next w a)) (xa_constant (xs_next w a)) (xa_step (xs_next w a)) (xa_number (xs_next w a)) (xa_steps (xs_next w a)) (xa_quick (xs_next w a)) (xa_token (xs_next w a)) (xa_waiting (xs_next w a)) (xa_compared (xs_next w a)) (xa_operand (xs_next w a)) (xa_memory (xs_next w a)) (xa_begun (xs_next w a)) (xa_place (xs_next w a)) (xa_held (xs_next w a)) (xa_keyOf (xs_next w a)) (xa_next (xs_next w a)) (xa_size (xs_next w a)) (xa_head (xs_next w a)) (xa_openStage (xs_next w a)) (xa_openValue (xs_next w a)) (xa_openLeft (xs_next w a)) (xa_applications (xs_next w a)) (xa_reads (xs_next w a)) (xa_shown (xs_next w a))) ∧ (¬ xa_held w (b + x).toNatClampNeg ≤ v → (vp_in (b + x) 1200 ∧ ∀ q : Nat → Int32, q = upd (xa_keyOf w) (b + x).toNatClampNeg (r + 1) → post 1 (xm_kn w q a)))))))
/-- what isNew does behind hold, over any state -/
theorem is_tail0 {post : Int32 → SX → Prop} {b r x : Int32} {c : Nat} (hi : vp_in (b + r) 1200) (e : (b + r).toNatClampNeg = c) (hx : x < 0)
    (hp : ∀ a : Nat → Int32, a = upd (xa_next w) c (-1) → post 1 (xs_next w a)) : is_t post v b r x w := by
  refine ⟨hi, fun a ea => ?_⟩
  rw [zn_sm2, e] at ea
  have hp' := hp a ea
  exact br_t hx (br_t hx hp')
theorem is_tail1 {post : Int32 → SX → Prop} {b r x r' : Int32} {c d : Nat} (hi : vp_in (b + r) 1200) (e : (b + r).toNatClampNeg = c) (hx : ¬ x < 0) (hi2 : vp_in (b + x) 1200) (e2 : (b + x).toNatClampNeg = d)
    (er : vp_nar .short r.toInt16.toInt32 = r')
    (hp1 : xa_held w d ≤ v → ∀ a : Nat → Int32, a = upd (upd (xa_next w) c (-1)) d r' → post 1 (xs_next w a))
    (hp2 : ¬ xa_held w d ≤ v → ∀ a q : Nat → Int32, a = upd (xa_next w) c (-1) → q = upd (xa_keyOf w) d (r + 1) → post 1 (xm_kn w q a)) : is_t post v b r x w := by
  refine ⟨hi, fun a ea => ?_⟩
  rw [zn_sm2, e] at ea
  rw [e2]
  refine br_f hx (And.intro hi2 (br_c (fun h => br_f hx (And.intro hi2 (fun a2 ea2 => ?_))) (fun h => And.intro hi2 (fun q eq => hp2 h a q ea eq))))
  rw [er, e2, show xa_next (xs_next w a) = a from rfl, ea] at ea2
  exact hp1 h a2 ea2
theorem is_new {post : Int32 → SX → Prop} {x : Int32} {A B C : Nat → Int32} (hs : s < 8) (hn : n < 150) (hz : xa_size w s = nI n)
    (hA : A = upd (xa_held w) (150 * s + n) v) (hB : B = upd (xa_keyOf w) (150 * s + n) 0) (hC : C = upd (xa_size w) s (nI (n + 1)))
    (h : is_t post v (nI (150 * s)) (nI n) x (xm_hd w A B C)) : xl_25 post (nI s) v (nI (150 * s)) (f + 1) (-1) x w :=
  br_t (by decide) (xw_hold3 hs hn hz hA hB hC h)
theorem xw_isNew0 {post : Int32 → SX → Prop} (hs : s < 8) (hz : xa_size w s = nI 0) (hp : xl_25 post (nI s) v (nI (150 * s)) f (-1) (-1) w) : wpX_isNew post w (nI s) v := by
  have e : (nI s).toNatClampNeg = s := nI_clamp (by omega)
  refine nm_r (e' := nI (150 * s)) (pk_mul 150 s) (And.intro (vp_in_nI hs (by omega)) ?_)
  rw [e]
  exact br_t hz (Exists.intro f hp)
theorem xw_isNew1 {post : Int32 → SX → Prop} (hs : s < 8) (hz : xa_size w s = nI n) (h0 : 0 < n) (hn : n ≤ 150) (hp : xl_25 post (nI s) v (nI (150 * s)) f (nI 0) (-1) w) : wpX_isNew post w (nI s) v := by
  have e : (nI s).toNatClampNeg = s := nI_clamp (by omega)
  have hne : ¬ xa_size w s = 0 := by rw [hz]; exact nI_ne0 h0 (by omega)
  refine nm_r (e' := nI (150 * s)) (pk_mul 150 s) (And.intro (vp_in_nI hs (by omega)) ?_)
  rw [e]
  exact br_f hne (Exists.intro f hp)
end
end
section
/-! X: isNew as a whole -/
section
variable {w : SX} {s n : Nat} {v : Int32}
theorem sg_un {a : Nat → Int32} {x : Int32} {i j : Nat} (h : i ≠ j) : upd a (150 * s + j) x (150 * s + i) = a (150 * s + i) := pk_un (by omega)
theorem is_loop (hs : s < 8) (hn : n < 150) (hz : xa_size w s = nI n)
    (ht : tr_ok (fun i => xa_held w (150 * s + i)) (fun i => xa_keyOf w (150 * s + i)) (fun i => xa_next w (150 * s + i)) n) :
    ∀ (d e : Nat), e < n → n - e ≤ d → (∃ m, tr_re (fun i => xa_held w (150 * s + i)) (fun i => xa_keyOf w (150 * s + i)) (fun i => xa_next w (150 * s + i)) v m 0 e) → ∀ x5 : Int32,
    ((∃ j, j < n ∧ xa_held w (150 * s + j) = v) → ∀ post : Int32 → SX → Prop, post 0 w → xl_25 post (nI s) v (nI (150 * s)) (d + 2) (nI e) x5 w) ∧
    ((∀ j, j < n → ¬ xa_held w (150 * s + j) = v) → ∃ A B D C, A = upd (xa_held w) (150 * s + n) v ∧ C = upd (xa_size w) s (nI (n + 1)) ∧
      (∀ j, (j < 150 * s ∨ 150 * s + 150 ≤ j) → B j = xa_keyOf w j ∧ D j = xa_next w j) ∧ tr_ok (fun i => A (150 * s + i)) (fun i => B (150 * s + i)) (fun i => D (150 * s + i)) (n + 1) ∧
      ∀ post : Int32 → SX → Prop, post 1 (xm_nw w A B D C) → xl_25 post (nI s) v (nI (150 * s)) (d + 2) (nI e) x5 w) := by
  intro d
  induction d with
  | zero => intro e he hd; omega
  | succ d ih =>
    intro e he hd hpath x5
    obtain ⟨m, hm⟩ := hpath
    by_cases hv : xa_held w (150 * s + e) = v
    · exact ⟨fun _ post hp => is_found hs (by omega) hv hp, fun h => absurd hv (h e he)⟩
    · rcases tr_ch_or (v := v) ht he with hc | ⟨j, hj1, hj2, hc⟩
      · have hmiss := tr_miss ht hm hv hc
        refine ⟨fun ⟨j, hj, e'⟩ => absurd e' (hmiss j hj), fun _ => ?_⟩
        have e1 : nI (150 * s) + nI n = nI (150 * s + n) := nI_add _ _
        have hi : vp_in (nI (150 * s) + nI n) 1200 := by rw [e1]; exact vp_in_nI (by omega) (by omega)
        have ec : (nI (150 * s) + nI n).toNatClampNeg = 150 * s + n := by rw [e1]; exact nI_clamp (by omega)
        have e2 : nI (150 * s) + nI e = nI (150 * s + e) := nI_add _ _
        have hi2 : vp_in (nI (150 * s) + nI e) 1200 := by rw [e2]; exact vp_in_nI (by omega) (by omega)
        have ec2 : (nI (150 * s) + nI e).toNatClampNeg = 150 * s + e := by rw [e2]; exact nI_clamp (by omega)
        obtain ⟨A, hA⟩ : ∃ A, A = upd (xa_held w) (150 * s + n) v := ⟨_, rfl⟩
        obtain ⟨B, hB⟩ : ∃ B, B = upd (xa_keyOf w) (150 * s + n) 0 := ⟨_, rfl⟩
        obtain ⟨C, hC⟩ : ∃ C, C = upd (xa_size w) s (nI (n + 1)) := ⟨_, rfl⟩
        have hAe : xa_held (xm_hd w A B C) (150 * s + e) = xa_held w (150 * s + e) := by
          rw [(is_hd w A B C).1, hA]; exact pk_un (by omega)
        by_cases hle : xa_held w (150 * s + e) ≤ v
        · obtain ⟨D, hD⟩ : ∃ D, D = upd (upd (xa_next w) (150 * s + n) (-1)) (150 * s + e) (nI n) := ⟨_, rfl⟩
          refine ⟨A, B, D, C, hA, hC, fun j hj => ⟨by rw [hB]; exact pk_un (by omega), by rw [hD]; exact (pk_un (by omega)).trans (pk_un (by omega))⟩, ?_, fun post hp => ?_⟩
          · refine tr_add ht hn hm he hv hc (fun q hq => ?_) ?_ ?_ ?_ (Or.inl ⟨hle, ?_, ?_⟩) (fun q hq hne => ⟨?_, ?_⟩)
            · show A (150 * s + q) = _; rw [hA]; exact pk_un (by omega)
            · show A (150 * s + n) = _; rw [hA]; exact pk_us
            · show B (150 * s + n) = _; rw [hB]; exact pk_us
            · show D (150 * s + n) = _; rw [hD]; exact (pk_un (by omega)).trans pk_us
            · show D (150 * s + e) = _; rw [hD]; exact pk_us
            · show B (150 * s + e) = _; rw [hB]; exact pk_un (by omega)
            · show B (150 * s + q) = _; rw [hB]; exact pk_un (by omega)
            · show D (150 * s + q) = _; rw [hD]; exact (pk_un (by omega)).trans (pk_un (by omega))
          · refine is_step hs (by omega) hv ?_
            rw [hc]
            refine is_new hs hn hz hA hB hC (is_tail1 (r' := nI n) (d := 150 * s + e) (c := 150 * s + n) hi ec (nI_pos (by omega)) hi2 ec2 (zn_vs (by omega)) (fun _ a ea => ?_) (fun h => absurd (by rw [hAe]; exact hle) h))
            rw [(is_hd w A B C).2.2.1, ← hD] at ea
            subst ea
            exact hp
        · obtain ⟨D, hD⟩ : ∃ D, D = upd (xa_next w) (150 * s + n) (-1) := ⟨_, rfl⟩
          obtain ⟨B2, hB2⟩ : ∃ B2, B2 = upd B (150 * s + e) (nI (n + 1)) := ⟨_, rfl⟩
          refine ⟨A, B2, D, C, hA, hC, fun j hj => ⟨by rw [hB2, hB]; exact (pk_un (by omega)).trans (pk_un (by omega)), by rw [hD]; exact pk_un (by omega)⟩, ?_, fun post hp => ?_⟩
          · refine tr_add ht hn hm he hv hc (fun q hq => ?_) ?_ ?_ ?_ (Or.inr ⟨hle, ?_, ?_⟩) (fun q hq hne => ⟨?_, ?_⟩)
            · show A (150 * s + q) = _; rw [hA]; exact pk_un (by omega)
            · show A (150 * s + n) = _; rw [hA]; exact pk_us
            · show B2 (150 * s + n) = _; rw [hB2, hB]; exact (pk_un (by omega)).trans pk_us
            · show D (150 * s + n) = _; rw [hD]; exact pk_us
            · show B2 (150 * s + e) = _; rw [hB2]; exact pk_us
            · show D (150 * s + e) = _; rw [hD]; exact pk_un (by omega)
            · show B2 (150 * s + q) = _; rw [hB2, hB]; exact (pk_un (by omega)).trans (pk_un (by omega))
            · show D (150 * s + q) = _; rw [hD]; exact pk_un (by omega)
          · refine is_step hs (by omega) hv ?_
            rw [hc]
            refine is_new hs hn hz hA hB hC (is_tail1 (r' := nI n) (d := 150 * s + e) (c := 150 * s + n) hi ec (nI_pos (by omega)) hi2 ec2 (zn_vs (by omega)) (fun h => absurd (by rw [← hAe]; exact h) hle) (fun _ a q ea eq => ?_))
            rw [(is_hd w A B C).2.2.1, ← hD] at ea
            rw [(is_hd w A B C).2.1, nI_1, ← hB2] at eq
            subst ea
            subst eq
            exact hp
      · obtain ⟨i1, i2⟩ := ih j hj2 (by omega) ⟨m + 1, tr_snoc m 0 e hm hv hc (by omega)⟩ (nI e)
        refine ⟨fun hx post hp => is_step hs (by omega) hv ?_, fun hx => ?_⟩
        · rw [hc]; exact i1 hx post hp
        · obtain ⟨A, B, D, C, g1, g2, g3, g4, g5⟩ := i2 hx
          refine ⟨A, B, D, C, g1, g2, g3, g4, fun post hp => is_step hs (by omega) hv ?_⟩
          rw [hc]; exact g5 post hp
theorem xw_known (hs : s < 8) (hn : n ≤ 150) (hz : xa_size w s = nI n)
    (ht : tr_ok (fun i => xa_held w (150 * s + i)) (fun i => xa_keyOf w (150 * s + i)) (fun i => xa_next w (150 * s + i)) n) (hx : ∃ j, j < n ∧ xa_held w (150 * s + j) = v)
    {post : Int32 → SX → Prop} (hp : post 0 w) (hn' : n < 150) : wpX_isNew post w (nI s) v := by
  have hx0 := hx
  obtain ⟨j, hj, _⟩ := hx0
  exact xw_isNew1 hs hz (by omega) hn ((is_loop hs hn' hz ht n 0 (by omega) (by omega) ⟨0, rfl⟩ (-1)).1 hx post hp)
theorem xw_new (hs : s < 8) (hn : n < 150) (hz : xa_size w s = nI n)
    (ht : tr_ok (fun i => xa_held w (150 * s + i)) (fun i => xa_keyOf w (150 * s + i)) (fun i => xa_next w (150 * s + i)) n) (hx : ∀ j, j < n → ¬ xa_held w (150 * s + j) = v) :
    ∃ A B D C, A = upd (xa_held w) (150 * s + n) v ∧ C = upd (xa_size w) s (nI (n + 1)) ∧
      (∀ j, (j < 150 * s ∨ 150 * s + 150 ≤ j) → B j = xa_keyOf w j ∧ D j = xa_next w j) ∧ tr_ok (fun i => A (150 * s + i)) (fun i => B (150 * s + i)) (fun i => D (150 * s + i)) (n + 1) ∧
      ∀ post : Int32 → SX → Prop, post 1 (xm_nw w A B D C) → wpX_isNew post w (nI s) v := by
  by_cases h0 : n = 0
  · subst h0
    obtain ⟨A, hA⟩ : ∃ A, A = upd (xa_held w) (150 * s + 0) v := ⟨_, rfl⟩
    obtain ⟨B, hB⟩ : ∃ B, B = upd (xa_keyOf w) (150 * s + 0) 0 := ⟨_, rfl⟩
    obtain ⟨C, hC⟩ : ∃ C, C = upd (xa_size w) s (nI (0 + 1)) := ⟨_, rfl⟩
    obtain ⟨D, hD⟩ : ∃ D, D = upd (xa_next w) (150 * s + 0) (-1) := ⟨_, rfl⟩
    have e1 : nI (150 * s) + nI 0 = nI (150 * s + 0) := nI_add _ _
    have hi : vp_in (nI (150 * s) + nI 0) 1200 := by rw [e1]; exact vp_in_nI (by omega) (by omega)
    have ec : (nI (150 * s) + nI 0).toNatClampNeg = 150 * s + 0 := by rw [e1]; exact nI_clamp (by omega)
    refine ⟨A, B, D, C, hA, hC, fun j hj => ⟨by rw [hB]; exact pk_un (by omega), by rw [hD]; exact pk_un (by omega)⟩, ?_, fun post hp => ?_⟩
    · refine tr_first ?_ ?_
      · show B (150 * s + 0) = 0; rw [hB]; exact pk_us
      · show D (150 * s + 0) = -1; rw [hD]; exact pk_us
    · refine xw_isNew0 (f := 1) hs hz (is_new hs hn hz hA hB hC (is_tail0 (c := 150 * s + 0) hi ec (by decide) (fun a ea => ?_)))
      rw [(is_hd w A B C).2.2.1, ← hD] at ea
      subst ea
      exact hp
  · obtain ⟨A, B, D, C, g1, g2, g3, g4, g5⟩ := (is_loop hs hn hz ht n 0 (by omega) (by omega) ⟨0, rfl⟩ (-1)).2 hx
    exact ⟨A, B, D, C, g1, g2, g3, g4, fun post hp => xw_isNew1 hs hz (by omega) (by omega) (g5 post hp)⟩
end
end
section
/-! X: insert and group -/
def in_64 (post : SX → Prop) (s e x5 x6 : Int32) (w : SX) : Prop := wX_insert_64 post s e x5 x6 (xa_limit w) (xa_source w) (xa_stages w) (xa_tokens w) (xa_wrongPlace w) (xa_waits w) (xa_parens w) (xa_opens w) (xa_from w) (xa_at w) (xa_ended w) (xa_spent w) (xa_stopped w) (xa_out w) (xa_lastStages w) (xa_failedStage w) (xa_shownCount w) (xa_element w) (xa_length w) (xa_kind w) (xa_constant w) (xa_step w) (xa_number w) (xa_steps w) (xa_quick w) (xa_token w) (xa_waiting w) (xa_compared w) (xa_operand w) (xa_memory w) (xa_begun w) (xa_place w) (xa_held w) (xa_keyOf w) (xa_next w) (xa_size w) (xa_head w) (xa_openStage w) (xa_openValue w) (xa_openLeft w) (xa_applications w) (xa_reads w) (xa_shown w)
section
variable {post : SX → Prop} {w : SX} {s n f i b : Nat} {v key x5 x6 z6 : Int32}
theorem in_0 {nx hd : Nat → Int32} (hs : s < 8) (hn : n < 150) (hz : vp_nar .short x6.toInt16.toInt32 = z6) (h5 : ¬ 0 ≤ x5) (hnx : nx = upd (xa_next w) (150 * s + n) z6) (hhd : hd = upd (xa_head w) s (nI n))
    (hp : post (xm_nh w nx hd)) : in_64 post (nI s) (nI n) x5 x6 w := by
  have e1 : (150 : Int32) * nI s + nI n = nI (150 * s + n) := zn_150 _ _
  have hi : vp_in (150 * nI s + nI n) 1200 := by rw [e1]; exact vp_in_nI (by omega) (by omega)
  have ec : ((150 : Int32) * nI s + nI n).toNatClampNeg = 150 * s + n := by rw [e1]; exact nI_clamp (by omega)
  have es : (nI s).toNatClampNeg = s := nI_clamp (by omega)
  refine And.intro hi (fun a ea => br_f h5 (And.intro (vp_in_nI hs (by omega)) (fun h eh => ?_)))
  rw [hz, ec, ← hnx] at ea
  rw [es, zn_vs (by omega), ← hhd] at eh
  subst ea
  subst eh
  exact hp
theorem in_1 {nx : Nat → Int32} (hs : s < 8) (hn : n < 150) (hb : b < 150) (hz : vp_nar .short x6.toInt16.toInt32 = z6) (hnx : nx = upd (upd (xa_next w) (150 * s + n) z6) (150 * s + b) (nI n))
    (hp : post (xs_next w nx)) : in_64 post (nI s) (nI n) (nI b) x6 w := by
  have e1 : (150 : Int32) * nI s + nI n = nI (150 * s + n) := zn_150 _ _
  have hi : vp_in (150 * nI s + nI n) 1200 := by rw [e1]; exact vp_in_nI (by omega) (by omega)
  have ec : ((150 : Int32) * nI s + nI n).toNatClampNeg = 150 * s + n := by rw [e1]; exact nI_clamp (by omega)
  have e2 : (150 : Int32) * nI s + nI b = nI (150 * s + b) := zn_150 _ _
  have hi2 : vp_in (150 * nI s + nI b) 1200 := by rw [e2]; exact vp_in_nI (by omega) (by omega)
  have ec2 : ((150 : Int32) * nI s + nI b).toNatClampNeg = 150 * s + b := by rw [e2]; exact nI_clamp (by omega)
  refine And.intro hi (fun a ea => br_t (nI_pos' (by omega)) (And.intro hi2 (fun a2 ea2 => ?_)))
  rw [hz, ec] at ea
  rw [ec2, zn_vs (by omega), ea, ← hnx] at ea2
  subst ea2
  exact hp
theorem in_stop (h : x6 < 0 ∨ ∃ i, i < 150 ∧ s < 8 ∧ x6 = nI i ∧ key < xa_keyOf w (150 * s + i)) (hp : in_64 post (nI s) (nI n) x5 x6 w) : xl_20 post (nI s) key (nI n) (f + 1) x5 x6 w := by
  refine br_c (fun _ => hp) (fun h6 => ?_)
  rcases h with h | ⟨i, hi, hs, rfl, hk⟩
  · exact absurd h h6
  · have e2 : (150 : Int32) * nI s + nI i = nI (150 * s + i) := zn_150 _ _
    rw [e2]
    refine And.intro (vp_in_nI (by omega) (by omega)) ?_
    rw [nI_clamp (by omega)]
    exact br_t hk hp
theorem in_go (hs : s < 8) (hi : i < 150) (hk : ¬ key < xa_keyOf w (150 * s + i)) (hp : xl_20 post (nI s) key (nI n) f (nI i) (xa_next w (150 * s + i)) w) :
    xl_20 post (nI s) key (nI n) (f + 1) x5 (nI i) w := by
  have e2 : (150 : Int32) * nI s + nI i = nI (150 * s + i) := zn_150 _ _
  refine br_f (nI_pos (by omega)) ?_
  rw [e2]
  have hi' : vp_in (nI (150 * s + i)) 1200 := vp_in_nI (by omega) (by omega)
  refine And.intro hi' ?_
  rw [nI_clamp (by omega)]
  exact br_f hk (And.intro hi' (nm_e hp))
theorem in_in {A B C : Nat → Int32} (hs : s < 8) (hn : n < 150) (hz : xa_size w s = nI n)
    (hA : A = upd (xa_held w) (150 * s + n) v) (hB : B = upd (xa_keyOf w) (150 * s + n) key) (hC : C = upd (xa_size w) s (nI (n + 1)))
    (hp : xl_20 post (nI s) key (nI n) f (-1) (xa_head w s) (xm_hd w A B C)) : wpX_insert post w (nI s) v key := by
  have es : (nI s).toNatClampNeg = s := nI_clamp (by omega)
  unfold wpX_insert
  refine xw_hold3 (w := w) hs hn hz hA hB hC (And.intro (vp_in_nI hs (by omega)) ?_)
  rw [es]
  exact nm_e (Exists.intro f hp)
end
theorem in_e0 (w : SX) (a b c d h : Nat → Int32) : xm_nh (xm_hd w a b c) d h = xm_in w a b d c h := rfl
theorem in_e1 (w : SX) (a b c d : Nat → Int32) : xs_next (xm_hd w a b c) d = xm_in w a b d c (xa_head w) := rfl
section
variable {w : SX} {s n : Nat} {v key : Int32} {A B C : Nat → Int32}
theorem in_loop (hs : s < 8) (hn : n < 150) {Cs : List Nat} (hB : B = upd (xa_keyOf w) (150 * s + n) key)
    (hps : List.Pairwise (so_le (fun i => xa_keyOf w (150 * s + i))) Cs) (hmem : ∀ i, i ∈ Cs ↔ i < n) :
    ∀ (Q P : List Nat) (x5 x6 : Int32), Cs = P ++ Q → ch_s (fun i => xa_next w (150 * s + i)) (xa_head w s) P x6 → ch_l (fun i => xa_next w (150 * s + i)) x6 Q →
    (∀ i, i ∈ P → xa_keyOf w (150 * s + i) ≤ key) → ((P = [] ∧ x5 = -1) ∨ ∃ P' b, P = P' ++ [b] ∧ x5 = nI b ∧ ch_s (fun i => xa_next w (150 * s + i)) (xa_head w s) P' (nI b)) →
    ∃ D h Cs', (∀ j, (j < 150 * s ∨ 150 * s + 150 ≤ j) → D j = xa_next w j) ∧ (∀ j, j ≠ s → h j = xa_head w j) ∧
      ch_l (fun i => D (150 * s + i)) (h s) Cs' ∧ List.Pairwise (so_le (fun i => B (150 * s + i))) Cs' ∧ (∀ i, i ∈ Cs' ↔ i < n + 1) ∧
      ∀ post : SX → Prop, post (xm_in w A B D C h) → xl_20 post (nI s) key (nI n) (Q.length + 1) x5 x6 (xm_hd w A B C) := by
  have hBi : ∀ i, i < n → B (150 * s + i) = xa_keyOf w (150 * s + i) := fun i hi => by rw [hB]; exact pk_un (by omega)
  have hBe : (fun i => B (150 * s + i)) = upd (fun i => xa_keyOf w (150 * s + i)) n key := by
    funext i
    rw [hB]
    by_cases c : i = n
    · subst c; rw [pk_us, pk_us]
    · rw [pk_un (by omega : 150 * s + i ≠ 150 * s + n), pk_un c]
  intro Q
  -- the end of the walk
  have fin : ∀ (Q P : List Nat) (x5 x6 : Int32), Cs = P ++ Q → ch_s (fun i => xa_next w (150 * s + i)) (xa_head w s) P x6 → ch_l (fun i => xa_next w (150 * s + i)) x6 Q →
      (∀ i, i ∈ P → xa_keyOf w (150 * s + i) ≤ key) → ((P = [] ∧ x5 = -1) ∨ ∃ P' b, P = P' ++ [b] ∧ x5 = nI b ∧ ch_s (fun i => xa_next w (150 * s + i)) (xa_head w s) P' (nI b)) →
      (∀ j C, Q = j :: C → key < xa_keyOf w (150 * s + j)) →
      ∃ D h Cs', (∀ j, (j < 150 * s ∨ 150 * s + 150 ≤ j) → D j = xa_next w j) ∧ (∀ j, j ≠ s → h j = xa_head w j) ∧
        ch_l (fun i => D (150 * s + i)) (h s) Cs' ∧ List.Pairwise (so_le (fun i => B (150 * s + i))) Cs' ∧ (∀ i, i ∈ Cs' ↔ i < n + 1) ∧
        ∀ (post : SX → Prop) (f : Nat), post (xm_in w A B D C h) → xl_20 post (nI s) key (nI n) (f + 1) x5 x6 (xm_hd w A B C) := by
    intro Q P x5 x6 hc h1 h2 hk h5 hQ
    obtain ⟨g1, g2⟩ := ch_ins (n := n) (key := key) (by rw [← hc]; exact hps) (by rw [← hc]; exact hmem) hk hQ
    rw [← hBe] at g1
    have nP : ∀ i, i ∈ P → i < n := fun i hi => (hmem i).mp (by rw [hc]; exact List.mem_append_left _ hi)
    have nQ : ∀ i, i ∈ Q → i < n := fun i hi => (hmem i).mp (by rw [hc]; exact List.mem_append_right _ hi)
    have hz : vp_nar .short x6.toInt16.toInt32 = x6 := by
      match Q, h2, nQ with
      | [], h2, _ => rw [show x6 = -1 from h2]; exact zn_sm1
      | q :: Q', h2, nQ => rw [h2.1]; exact zn_vs (by have := nQ q (List.mem_cons_self ..); omega)
    have hstop : x6 < 0 ∨ ∃ i, i < 150 ∧ s < 8 ∧ x6 = nI i ∧ key < xa_keyOf (xm_hd w A B C) (150 * s + i) := by
      match Q, h2, nQ, hQ with
      | [], h2, _, _ => rw [show x6 = -1 from h2]; exact Or.inl (by decide)
      | q :: Q', h2, nQ, hQ =>
        have hq := nQ q (List.mem_cons_self ..)
        refine Or.inr ⟨q, by omega, hs, h2.1, ?_⟩
        rw [(is_hd w A B C).2.1, hBi q hq]
        exact hQ q Q' rfl
    have nn : ¬ n ∈ Q := fun z => absurd (nQ n z) (by omega)
    have seg : ∀ (a : Nat → Int32) (k : Nat) (z : Int32), (fun i => upd a (150 * s + k) z (150 * s + i)) = upd (fun i => a (150 * s + i)) k z := by
      intro a k z
      funext i
      by_cases c : i = k
      · subst c; rw [pk_us, pk_us]
      · rw [pk_un (by omega : 150 * s + i ≠ 150 * s + k), pk_un c]
    rcases h5 with ⟨rfl, rfl⟩ | ⟨P', b, rfl, rfl, hb⟩
    · obtain ⟨D, hD⟩ : ∃ D, D = upd (xa_next w) (150 * s + n) x6 := ⟨_, rfl⟩
      obtain ⟨h, hh⟩ : ∃ h, h = upd (xa_head w) s (nI n) := ⟨_, rfl⟩
      refine ⟨D, h, n :: Q, fun j hj => by rw [hD]; exact pk_un (by omega), fun j hj => by rw [hh]; exact pk_un hj, ?_, g1, g2, fun post f hp => ?_⟩
      · rw [hh, pk_us, hD, seg]
        refine ⟨rfl, ?_⟩
        rw [pk_us]
        exact ch_upd Q x6 nn h2
      · refine in_stop hstop (in_0 hs hn hz (by decide) (hnx := hD) (hhd := hh) ?_)
        rw [in_e0]; exact hp
    · have hbn : b < n := nP b (List.mem_append_right _ (List.mem_cons_self ..))
      obtain ⟨D, hD⟩ : ∃ D, D = upd (upd (xa_next w) (150 * s + n) x6) (150 * s + b) (nI n) := ⟨_, rfl⟩
      refine ⟨D, xa_head w, (P' ++ [b]) ++ n :: Q, fun j hj => by rw [hD]; exact (pk_un (by omega)).trans (pk_un (by omega)), fun j hj => rfl, ?_, g1, g2, fun post f hp => ?_⟩
      · rw [hD, seg, seg]
        have hnd : List.Pairwise (so_le (fun i => xa_keyOf w (150 * s + i))) (P' ++ [b] ++ Q) := by rw [← hc]; exact hps
        have bP : ¬ b ∈ P' := by
          intro z
          have := (List.pairwise_append.mp (List.pairwise_append.mp hnd).1).2.2 b z b (List.mem_cons_self ..)
          rcases this with y | y
          · exact Int32.lt_irrefl y
          · omega
        have bQ : ¬ b ∈ Q := by
          intro z
          have := (List.pairwise_append.mp hnd).2.2 b (List.mem_append_right _ (List.mem_cons_self ..)) b z
          rcases this with y | y
          · exact Int32.lt_irrefl y
          · omega
        have nP' : ¬ n ∈ P' := fun z => absurd (nP n (List.mem_append_left _ z)) (by omega)
        have h3 := ch_supd (nx := upd (fun i => xa_next w (150 * s + i)) n x6) (n := b) (z := nI n) P' (xa_head w s) (nI b) bP (ch_supd P' (xa_head w s) (nI b) nP' hb)
        have h4 := ch_snoc P' (xa_head w s) h3
        rw [pk_us] at h4
        refine ch_app (P' ++ [b]) (xa_head w s) (nI n) h4 ⟨rfl, ?_⟩
        rw [pk_un (by omega : n ≠ b), pk_us]
        exact ch_upd Q x6 bQ (ch_upd Q x6 nn h2)
      · refine in_stop hstop (in_1 (b := b) hs hn (by omega) hz (hnx := hD) ?_)
        rw [in_e1]; exact hp
  induction Q with
  | nil =>
    intro P x5 x6 hc h1 h2 hk h5
    obtain ⟨D, h, Cs', f1, f2, f3, f4, f5, f6⟩ := fin [] P x5 x6 hc h1 h2 hk h5 (fun j C e => absurd e (by simp))
    exact ⟨D, h, Cs', f1, f2, f3, f4, f5, fun post hp => f6 post 0 hp⟩
  | cons q Q ih =>
    intro P x5 x6 hc h1 h2 hk h5
    by_cases ck : key < xa_keyOf w (150 * s + q)
    · obtain ⟨D, h, Cs', f1, f2, f3, f4, f5, f6⟩ := fin (q :: Q) P x5 x6 hc h1 h2 hk h5 (fun j C e => by cases e; exact ck)
      exact ⟨D, h, Cs', f1, f2, f3, f4, f5, fun post hp => f6 post _ hp⟩
    · have hq : q < n := (hmem q).mp (by rw [hc]; exact List.mem_append_right _ (List.mem_cons_self ..))
      have e6 : x6 = nI q := h2.1
      subst e6
      obtain ⟨D, h, Cs', f1, f2, f3, f4, f5, f6⟩ := ih (P ++ [q]) (nI q) (xa_next w (150 * s + q)) (by rw [hc, List.append_assoc]; rfl) (ch_snoc P (xa_head w s) h1) h2.2
        (fun i hi => by
          rcases List.mem_append.mp hi with z | z
          · exact hk i z
          · rw [List.mem_singleton.mp z]; exact Int32.not_lt.mp ck) (Or.inr ⟨P, q, rfl, rfl, h1⟩)
      refine ⟨D, h, Cs', f1, f2, f3, f4, f5, fun post hp => in_go hs (by omega) ?_ ?_⟩
      · rw [(is_hd w A B C).2.1, hBi q hq]; exact ck
      · rw [(is_hd w A B C).2.2.1]; exact f6 post hp
theorem xw_insert {Cs : List Nat} (hs : s < 8) (hn : n < 150) (hz : xa_size w s = nI n) (hch : ch_l (fun i => xa_next w (150 * s + i)) (xa_head w s) Cs)
    (hps : List.Pairwise (so_le (fun i => xa_keyOf w (150 * s + i))) Cs) (hmem : ∀ i, i ∈ Cs ↔ i < n)
    (hA : A = upd (xa_held w) (150 * s + n) v) (hB : B = upd (xa_keyOf w) (150 * s + n) key) (hC : C = upd (xa_size w) s (nI (n + 1))) :
    ∃ D h Cs', (∀ j, (j < 150 * s ∨ 150 * s + 150 ≤ j) → D j = xa_next w j) ∧ (∀ j, j ≠ s → h j = xa_head w j) ∧
      ch_l (fun i => D (150 * s + i)) (h s) Cs' ∧ List.Pairwise (so_le (fun i => B (150 * s + i))) Cs' ∧ (∀ i, i ∈ Cs' ↔ i < n + 1) ∧
      ∀ post : SX → Prop, post (xm_in w A B D C h) → wpX_insert post w (nI s) v key := by
  obtain ⟨D, h, Cs', f1, f2, f3, f4, f5, f6⟩ := in_loop (A := A) (C := C) hs hn hB hps hmem Cs [] (-1) (xa_head w s) rfl rfl hch (fun i hi => absurd hi (by simp)) (Or.inl ⟨rfl, rfl⟩)
  exact ⟨D, h, Cs', f1, f2, f3, f4, f5, fun post hp => in_in hs hn hz hA hB hC (f6 post hp)⟩
end
end
section
/-! X: group; Y: release -/
def ym_vp (u : SY) (z_v : Int32) (z_place : Nat → Int32) : SY := (u.1, u.2.1, u.2.2.1, u.2.2.2.1, u.2.2.2.2.1, u.2.2.2.2.2.1, u.2.2.2.2.2.2.1, u.2.2.2.2.2.2.2.1, z_v, u.2.2.2.2.2.2.2.2.2.1, u.2.2.2.2.2.2.2.2.2.2.1, u.2.2.2.2.2.2.2.2.2.2.2.1, u.2.2.2.2.2.2.2.2.2.2.2.2.1, u.2.2.2.2.2.2.2.2.2.2.2.2.2.1, u.2.2.2.2.2.2.2.2.2.2.2.2.2.2.1, u.2.2.2.2.2.2.2.2.2.2.2.2.2.2.2.1, u.2.2.2.2.2.2.2.2.2.2.2.2.2.2.2.2.1, u.2.2.2.2.2.2.2.2.2.2.2.2.2.2.2.2.2.1, u.2.2.2.2.2.2.2.2.2.2.2.2.2.2.2.2.2.2.1, u.2.2.2.2.2.2.2.2.2.2.2.2.2.2.2.2.2.2.2.1, u.2.2.2.2.2.2.2.2.2.2.2.2.2.2.2.2.2.2.2.2.1, u.2.2.2.2.2.2.2.2.2.2.2.2.2.2.2.2.2.2.2.2.2.1, z_place, u.2.2.2.2.2.2.2.2.2.2.2.2.2.2.2.2.2.2.2.2.2.2.2)
def ym_rl (u : SY) (z_v : Int32) (z_place : Nat → Int32) (z_held : Nat → Int32) (z_keys : Nat → Int32) : SY := (u.1, u.2.1, u.2.2.1, u.2.2.2.1, u.2.2.2.2.1, u.2.2.2.2.2.1, u.2.2.2.2.2.2.1, u.2.2.2.2.2.2.2.1, z_v, u.2.2.2.2.2.2.2.2.2.1, u.2.2.2.2.2.2.2.2.2.2.1, u.2.2.2.2.2.2.2.2.2.2.2.1, u.2.2.2.2.2.2.2.2.2.2.2.2.1, u.2.2.2.2.2.2.2.2.2.2.2.2.2.1, u.2.2.2.2.2.2.2.2.2.2.2.2.2.2.1, u.2.2.2.2.2.2.2.2.2.2.2.2.2.2.2.1, u.2.2.2.2.2.2.2.2.2.2.2.2.2.2.2.2.1, u.2.2.2.2.2.2.2.2.2.2.2.2.2.2.2.2.2.1, u.2.2.2.2.2.2.2.2.2.2.2.2.2.2.2.2.2.2.1, u.2.2.2.2.2.2.2.2.2.2.2.2.2.2.2.2.2.2.2.1, u.2.2.2.2.2.2.2.2.2.2.2.2.2.2.2.2.2.2.2.2.1, u.2.2.2.2.2.2.2.2.2.2.2.2.2.2.2.2.2.2.2.2.2.1, z_place, u.2.2.2.2.2.2.2.2.2.2.2.2.2.2.2.2.2.2.2.2.2.2.2.1, z_held, z_keys, u.2.2.2.2.2.2.2.2.2.2.2.2.2.2.2.2.2.2.2.2.2.2.2.2.2.2)
def ym_hk (u : SY) (z_held : Nat → Int32) (z_keys : Nat → Int32) : SY := (u.1, u.2.1, u.2.2.1, u.2.2.2.1, u.2.2.2.2.1, u.2.2.2.2.2.1, u.2.2.2.2.2.2.1, u.2.2.2.2.2.2.2.1, u.2.2.2.2.2.2.2.2.1, u.2.2.2.2.2.2.2.2.2.1, u.2.2.2.2.2.2.2.2.2.2.1, u.2.2.2.2.2.2.2.2.2.2.2.1, u.2.2.2.2.2.2.2.2.2.2.2.2.1, u.2.2.2.2.2.2.2.2.2.2.2.2.2.1, u.2.2.2.2.2.2.2.2.2.2.2.2.2.2.1, u.2.2.2.2.2.2.2.2.2.2.2.2.2.2.2.1, u.2.2.2.2.2.2.2.2.2.2.2.2.2.2.2.2.1, u.2.2.2.2.2.2.2.2.2.2.2.2.2.2.2.2.2.1, u.2.2.2.2.2.2.2.2.2.2.2.2.2.2.2.2.2.2.1, u.2.2.2.2.2.2.2.2.2.2.2.2.2.2.2.2.2.2.2.1, u.2.2.2.2.2.2.2.2.2.2.2.2.2.2.2.2.2.2.2.2.1, u.2.2.2.2.2.2.2.2.2.2.2.2.2.2.2.2.2.2.2.2.2.1, u.2.2.2.2.2.2.2.2.2.2.2.2.2.2.2.2.2.2.2.2.2.2.1, u.2.2.2.2.2.2.2.2.2.2.2.2.2.2.2.2.2.2.2.2.2.2.2.1, z_held, z_keys, u.2.2.2.2.2.2.2.2.2.2.2.2.2.2.2.2.2.2.2.2.2.2.2.2.2.2)
section
variable {post : SX → Prop} {w : SX} {s n f i j : Nat} {v key : Int32}
theorem gr_42n {A B C : Nat → Int32} (hs : s < 8) (hn : n < 150) (hz : xa_size w s = nI n) (hA : A = upd (xa_held w) (150 * s + n) v) (hB : B = upd (xa_keyOf w) (150 * s + n) key) (hC : C = upd (xa_size w) s (nI (n + 1)))
    (hp : post (xm_hd w A B C)) : wX_group_42 post (nI s) v key (nI (150 * s + n)) (nI (150 * s + n)) (xa_limit w) (xa_source w) (xa_stages w) (xa_tokens w) (xa_wrongPlace w) (xa_waits w) (xa_parens w) (xa_opens w) (xa_from w) (xa_at w) (xa_ended w) (xa_spent w) (xa_stopped w) (xa_out w) (xa_lastStages w) (xa_failedStage w) (xa_shownCount w) (xa_element w) (xa_length w) (xa_kind w) (xa_constant w) (xa_step w) (xa_number w) (xa_steps w) (xa_quick w) (xa_token w) (xa_waiting w) (xa_compared w) (xa_operand w) (xa_memory w) (xa_begun w) (xa_place w) (xa_held w) (xa_keyOf w) (xa_next w) (xa_size w) (xa_head w) (xa_openStage w) (xa_openValue w) (xa_openLeft w) (xa_applications w) (xa_reads w) (xa_shown w) :=
  br_t (nI_le (Nat.le_refl _) (by omega)) (xw_hold3 (w := w) hs hn hz hA hB hC hp)
theorem gr_42f {A : Nat → Int32} (hs : s < 8) (hn : n ≤ 150) (hj : j < n) (hA : A = upd (xa_held w) (150 * s + j) (xa_held w (150 * s + j) + v))
    (hp : post (xs_held w A)) : wX_group_42 post (nI s) v key (nI (150 * s + j)) (nI (150 * s + n)) (xa_limit w) (xa_source w) (xa_stages w) (xa_tokens w) (xa_wrongPlace w) (xa_waits w) (xa_parens w) (xa_opens w) (xa_from w) (xa_at w) (xa_ended w) (xa_spent w) (xa_stopped w) (xa_out w) (xa_lastStages w) (xa_failedStage w) (xa_shownCount w) (xa_element w) (xa_length w) (xa_kind w) (xa_constant w) (xa_step w) (xa_number w) (xa_steps w) (xa_quick w) (xa_token w) (xa_waiting w) (xa_compared w) (xa_operand w) (xa_memory w) (xa_begun w) (xa_place w) (xa_held w) (xa_keyOf w) (xa_next w) (xa_size w) (xa_head w) (xa_openStage w) (xa_openValue w) (xa_openLeft w) (xa_applications w) (xa_reads w) (xa_shown w) := by
  have hi : vp_in (nI (150 * s + j)) 1200 := vp_in_nI (by omega) (by omega)
  have e : (nI (150 * s + j)).toNatClampNeg = 150 * s + j := nI_clamp (by omega)
  refine br_f (nI_ge (by omega) (by omega)) (And.intro hi (And.intro hi (fun a ea => ?_)))
  rw [e, ← hA] at ea
  subst ea
  exact hp
theorem gr_loop (hs : s < 8) (hn : n ≤ 150) (hb : ∀ i, i < j → ¬ xa_keyOf w (150 * s + i) = key) (hj : j = n ∨ (j < n ∧ xa_keyOf w (150 * s + j) = key))
    (hp : wX_group_42 post (nI s) v key (nI (150 * s + j)) (nI (150 * s + n)) (xa_limit w) (xa_source w) (xa_stages w) (xa_tokens w) (xa_wrongPlace w) (xa_waits w) (xa_parens w) (xa_opens w) (xa_from w) (xa_at w) (xa_ended w) (xa_spent w) (xa_stopped w) (xa_out w) (xa_lastStages w) (xa_failedStage w) (xa_shownCount w) (xa_element w) (xa_length w) (xa_kind w) (xa_constant w) (xa_step w) (xa_number w) (xa_steps w) (xa_quick w) (xa_token w) (xa_waiting w) (xa_compared w) (xa_operand w) (xa_memory w) (xa_begun w) (xa_place w) (xa_held w) (xa_keyOf w) (xa_next w) (xa_size w) (xa_head w) (xa_openStage w) (xa_openValue w) (xa_openLeft w) (xa_applications w) (xa_reads w) (xa_shown w)) : ∀ d i, i + d = j → xl_18 post (nI s) v key (nI (150 * s + n)) (d + 1) (nI (150 * s + i)) w := by
  intro d
  induction d with
  | zero =>
    intro i e
    have e' : i = j := by omega
    subst e'
    rcases hj with h | ⟨h1, h2⟩
    · subst h
      exact br_t (nI_le (Nat.le_refl _) (by omega)) hp
    · refine br_f (nI_ge (by omega) (by omega)) (And.intro (vp_in_nI (by omega) (by omega)) ?_)
      rw [nI_clamp (by omega)]
      exact br_t h2 hp
  | succ d ih =>
    intro i e
    have hlt : i < n := by omega
    refine br_f (nI_ge (by omega) (by omega)) (And.intro (vp_in_nI (by omega) (by omega)) ?_)
    rw [nI_clamp (by omega)]
    exact br_f (hb i (by omega)) (nm_r (nI_1 _) (ih (i + 1) (by omega)))
theorem xw_group (hs : s < 8) (hn : n ≤ 150) (hz : xa_size w s = nI n) (hb : ∀ i, i < j → ¬ xa_keyOf w (150 * s + i) = key) (hj : j = n ∨ (j < n ∧ xa_keyOf w (150 * s + j) = key))
    (hp : wX_group_42 post (nI s) v key (nI (150 * s + j)) (nI (150 * s + n)) (xa_limit w) (xa_source w) (xa_stages w) (xa_tokens w) (xa_wrongPlace w) (xa_waits w) (xa_parens w) (xa_opens w) (xa_from w) (xa_at w) (xa_ended w) (xa_spent w) (xa_stopped w) (xa_out w) (xa_lastStages w) (xa_failedStage w) (xa_shownCount w) (xa_element w) (xa_length w) (xa_kind w) (xa_constant w) (xa_step w) (xa_number w) (xa_steps w) (xa_quick w) (xa_token w) (xa_waiting w) (xa_compared w) (xa_operand w) (xa_memory w) (xa_begun w) (xa_place w) (xa_held w) (xa_keyOf w) (xa_next w) (xa_size w) (xa_head w) (xa_openStage w) (xa_openValue w) (xa_openLeft w) (xa_applications w) (xa_reads w) (xa_shown w)) : wpX_group post w (nI s) v key := by
  have e : (nI s).toNatClampNeg = s := nI_clamp (by omega)
  have e2 : nI (150 * s) + xa_size w s = nI (150 * s + n) := by rw [hz, nI_add]
  refine nm_r (e' := nI (150 * s)) (pk_mul 150 s) (And.intro (vp_in_nI hs (by omega)) ?_)
  rw [e]
  exact nm_r e2 (Exists.intro (j + 1) (gr_loop hs hn hb hj hp j 0 (by omega)))
end
def yl_152 (post : Int32 → SY → Prop) (x1 x2 x4 : Int32) (f : Nat) (x5 : Int32) (w : SY) : Prop := wY_release_152 post x1 x2 x4 (ya_limit w) (ya_source w) (ya_stages w) (ya_wrongAt w) (ya_paid w) (ya_at w) (ya_seenCount w) (ya_failedAt w) (ya_v w) (ya_valTop w) (ya_opTop w) (ya_ran w) (ya_broken w) (ya_outcome w) f x5 (ya_lists w) (ya_sizes w) (ya_tokens w) (ya_counts w) (ya_kinds w) (ya_numbers w) (ya_left w) (ya_last w) (ya_place w) (ya_begun w) (ya_held w) (ya_keys w) (ya_holds w) (ya_applied w) (ya_reads w) (ya_seen w) (ya_vals w) (ya_ops w)
def yl_127 (post : Int32 → SY → Prop) (x1 x2 x3 : Int32) (w : SY) : Prop := wY_release_127 post x1 x2 x3 (ya_limit w) (ya_source w) (ya_stages w) (ya_wrongAt w) (ya_paid w) (ya_at w) (ya_seenCount w) (ya_failedAt w) (ya_v w) (ya_valTop w) (ya_opTop w) (ya_ran w) (ya_broken w) (ya_outcome w) (ya_lists w) (ya_sizes w) (ya_tokens w) (ya_counts w) (ya_kinds w) (ya_numbers w) (ya_left w) (ya_last w) (ya_place w) (ya_begun w) (ya_held w) (ya_keys w) (ya_holds w) (ya_applied w) (ya_reads w) (ya_seen w) (ya_vals w) (ya_ops w)
def yl_76 (post : Int32 → SY → Prop) (x1 x2 : Int32) (f : Nat) (x3 x4 : Int32) (w : SY) : Prop := wY_release_76 post x1 x2 (ya_limit w) (ya_source w) (ya_stages w) (ya_wrongAt w) (ya_paid w) (ya_at w) (ya_seenCount w) (ya_failedAt w) (ya_v w) (ya_valTop w) (ya_opTop w) (ya_ran w) (ya_broken w) (ya_outcome w) (ya_lists w) (ya_sizes w) (ya_tokens w) (ya_counts w) (ya_kinds w) (ya_numbers w) (ya_left w) (ya_last w) (ya_place w) (ya_begun w) (ya_held w) (ya_keys w) (ya_holds w) (ya_applied w) (ya_reads w) (ya_seen w) (ya_vals w) (ya_ops w) f x3 x4
section
variable {post : Int32 → SY → Prop} {w : SY} {s n f i pl : Nat} {key x4 : Int32}
theorem rl_end {P H Q : Nat → Int32} (hs : s < 8) (hp8 : pl < 160) (hpl : ya_place w s = nI pl) (hH : H = upd (ya_held w) (160 * s + pl) (ya_v w)) (hQ : Q = upd (ya_keys w) (160 * s + pl) key)
    (hP : P = upd (ya_place w) s (nI (pl + 1))) (hp : post 1 (ym_rl w (ya_v w) P H Q)) : yl_152 post (nI s) (nI (160 * s)) key (f + 1) (nI pl) w := by
  have es : (nI s).toNatClampNeg = s := nI_clamp (by omega)
  have e1 : nI (160 * s) + ya_place w s = nI (160 * s + pl) := by rw [hpl, nI_add]
  have ec : (nI (160 * s + pl)).toNatClampNeg = 160 * s + pl := nI_clamp (by omega)
  have hi : vp_in (nI (160 * s + pl)) 1280 := vp_in_nI (by omega) (by omega)
  have h8 : vp_in (nI s) 8 := vp_in_nI hs (by omega)
  refine And.intro h8 ?_
  rw [es]
  refine br_t (by rw [hpl]; exact nI_le (Nat.le_refl _) (by omega)) (And.intro h8 ?_)
  rw [e1, ec]
  refine And.intro hi (fun a ea => And.intro h8 (And.intro hi (fun b eb => And.intro h8 (And.intro h8 (fun c ec' => ?_)))))
  rw [hpl, nI_1, ← hP] at ec'
  rw [← hH] at ea
  rw [← hQ] at eb
  subst ea
  subst eb
  subst ec'
  exact hp
theorem rl_shift {H Q : Nat → Int32} (hs : s < 8) (hi : i < 159) (hpl : ya_place w s = nI pl) (hlt : pl ≤ i) (hH : H = upd (ya_held w) (160 * s + (i + 1)) (ya_held w (160 * s + i))) (hQ : Q = upd (ya_keys w) (160 * s + (i + 1)) (ya_keys w (160 * s + i)))
    (hp : yl_152 post (nI s) (nI (160 * s)) key f (nI i) (ym_hk w H Q)) : yl_152 post (nI s) (nI (160 * s)) key (f + 1) (nI (i + 1)) w := by
  have es : (nI s).toNatClampNeg = s := nI_clamp (by omega)
  have e1 : nI (160 * s) + nI (i + 1) = nI (160 * s + (i + 1)) := nI_add _ _
  have e2 : nI (160 * s + (i + 1)) - 1 = nI (160 * s + i) := nI_pred _
  have h8 : vp_in (nI s) 8 := vp_in_nI hs (by omega)
  have hi1 : vp_in (nI (160 * s + (i + 1))) 1280 := vp_in_nI (by omega) (by omega)
  have hi2 : vp_in (nI (160 * s + i)) 1280 := vp_in_nI (by omega) (by omega)
  have c1 : (nI (160 * s + (i + 1))).toNatClampNeg = 160 * s + (i + 1) := nI_clamp (by omega)
  have c2 : (nI (160 * s + i)).toNatClampNeg = 160 * s + i := nI_clamp (by omega)
  refine And.intro h8 ?_
  rw [es]
  refine br_f (by rw [hpl]; exact nI_ge (by omega) (by omega)) ?_
  rw [e1, e2, c1, c2]
  refine And.intro hi2 (And.intro hi1 (fun a ea => And.intro hi2 (And.intro hi1 (fun b eb => nm_r (pk_m1 i) ?_))))
  rw [← hH] at ea
  rw [← hQ] at eb
  subst ea
  subst eb
  exact hp
theorem rl_127 {b : Nat} {z key : Int32} (hs : s < 8) (hb : b < 160) (hz : ya_held w (160 * s + b) = z) (hk : ya_keys w (160 * s + b) = key) (hp : yl_152 post (nI s) (nI (160 * s)) key f (nI b) (ys_v w z)) :
    yl_127 post (nI s) (nI (160 * s)) (nI b) w := by
  have e1 : nI (160 * s) + nI b = nI (160 * s + b) := nI_add _ _
  have c1 : (nI (160 * s + b)).toNatClampNeg = 160 * s + b := nI_clamp (by omega)
  have hi : vp_in (nI (160 * s + b)) 1280 := vp_in_nI (by omega) (by omega)
  unfold yl_127 wY_release_127
  rw [e1, c1]
  exact And.intro hi (nm_r hz (And.intro hi (nm_r hk (Exists.intro f hp))))
theorem rl_76o (hs : s < 8) {k : Nat} {x3 x4 : Int32} (hk : ya_kinds w s = nI k) (hk14 : k ≠ 14) (hk16 : k ≤ 16) (hp : yl_127 post (nI s) (nI (160 * s)) x3 w) : yl_76 post (nI s) (nI (160 * s)) (f + 1) x3 x4 w := by
  have es : (nI s).toNatClampNeg = s := nI_clamp (by omega)
  refine And.intro (vp_in_nI hs (by omega)) ?_
  rw [es]
  exact br_f (by rw [hk]; exact fun e => hk14 ((nI_eq (b := 14) (by omega) (by omega)).mp e)) hp
theorem rl_76e (hs : s < 8) {x3 : Int32} (hk : ya_kinds w s = nI 14) (hh : ya_holds w s = nI n) (hn : n ≤ 160) (hp : yl_127 post (nI s) (nI (160 * s)) x3 w) : yl_76 post (nI s) (nI (160 * s)) (f + 1) x3 (nI n) w := by
  have es : (nI s).toNatClampNeg = s := nI_clamp (by omega)
  have h8 : vp_in (nI s) 8 := vp_in_nI hs (by omega)
  refine And.intro h8 ?_
  rw [es]
  exact br_t hk (And.intro h8 (br_t (by rw [hh]; exact nI_le (Nat.le_refl _) (by omega)) hp))
theorem rl_76s (hs : s < 8) {b : Nat} (hk : ya_kinds w s = nI 14) (hh : ya_holds w s = nI n) (hn : n ≤ 160) (hi : i < n) (hb : b < i)
    (h1 : ya_keys w (160 * s + b) ≤ ya_keys w (160 * s + i) → yl_76 post (nI s) (nI (160 * s)) f (nI b) (nI (i + 1)) w)
    (h2 : ¬ ya_keys w (160 * s + b) ≤ ya_keys w (160 * s + i) → yl_76 post (nI s) (nI (160 * s)) f (nI i) (nI (i + 1)) w) : yl_76 post (nI s) (nI (160 * s)) (f + 1) (nI b) (nI i) w := by
  have es : (nI s).toNatClampNeg = s := nI_clamp (by omega)
  have h8 : vp_in (nI s) 8 := vp_in_nI hs (by omega)
  have e1 : nI (160 * s) + nI b = nI (160 * s + b) := nI_add _ _
  have e2 : nI (160 * s) + nI i = nI (160 * s + i) := nI_add _ _
  have c1 : (nI (160 * s + b)).toNatClampNeg = 160 * s + b := nI_clamp (by omega)
  have c2 : (nI (160 * s + i)).toNatClampNeg = 160 * s + i := nI_clamp (by omega)
  refine And.intro h8 ?_
  rw [es]
  refine br_t hk (And.intro h8 (br_f (by rw [hh]; exact nI_ge hi (by omega)) ?_))
  rw [e1, e2, c1, c2]
  exact And.intro (vp_in_nI (by omega) (by omega)) (And.intro (vp_in_nI (by omega) (by omega)) (br_c (fun h => nm_r (nI_1 i) (h1 h)) (fun h => nm_r (nI_1 i) (h2 h))))
theorem rl_in0 {P : Nat → Int32} {m : Nat} {z : Int32} (hs : s < 8) (hm : m < 160) (hk : ya_kinds w s = nI 15) (hpl : ya_place w s = nI m) (hz : ya_held w (160 * s + m) = z) (hP : P = upd (ya_place w) s (nI m - 1))
    (hp : post 1 (ym_vp w z P)) : wpY_release post w (nI s) := by
  have es : (nI s).toNatClampNeg = s := nI_clamp (by omega)
  have h8 : vp_in (nI s) 8 := vp_in_nI hs (by omega)
  have e1 : nI (160 * s) + ya_place w s = nI (160 * s + m) := by rw [hpl, nI_add]
  have c1 : (nI (160 * s + m)).toNatClampNeg = 160 * s + m := nI_clamp (by omega)
  have hk' : ya_kinds w (nI s).toNatClampNeg = 15 := by rw [es]; exact hk
  have hge : (0 : Int32) ≤ ya_place w s := by rw [hpl]; exact nI_pos' (by omega)
  refine nm_r (e' := nI (160 * s)) (pk_mul 160 s) (And.intro h8 (br_t hk' (And.intro h8 ?_)))
  rw [es]
  refine br_t hge (And.intro h8 (And.intro h8 (fun a ea => ?_)))
  have ea' : a = P := by rw [ea, hP]; exact congrArg (fun q => upd (ya_place w) s (q - 1)) hpl
  subst ea'
  rw [show nI (160 * s) + w.2.2.2.2.2.2.2.2.2.2.2.2.2.2.2.2.2.2.2.2.2.2.1 s = nI (160 * s + m) from e1, c1]
  exact And.intro (vp_in_nI (by omega) (by omega)) (nm_r hz hp)
theorem rl_in0e {z : Int32} (hs : s < 8) (hk : ya_kinds w s = nI 15) (hpl : ya_place w s < 0) (hp : post 0 w) : wpY_release post w (nI s) := by
  have es : (nI s).toNatClampNeg = s := nI_clamp (by omega)
  have h8 : vp_in (nI s) 8 := vp_in_nI hs (by omega)
  have hk' : ya_kinds w (nI s).toNatClampNeg = 15 := by rw [es]; exact hk
  have hge : ¬ (0 : Int32) ≤ ya_place w s := Int32.not_le.mpr hpl
  refine nm_r (e' := nI (160 * s)) (pk_mul 160 s) (And.intro h8 (br_t hk' (And.intro h8 ?_)))
  rw [es]
  exact br_f hge hp
theorem rl_in1 {k m : Nat} (hs : s < 8) (hk : ya_kinds w s = nI k) (hk15 : k ≠ 15) (hk16 : k ≤ 16) (hpl : ya_place w s = nI m) (hh : ya_holds w s = nI n) (hmn : m < n) (hn : n ≤ 160)
    (hp : yl_76 post (nI s) (nI (160 * s)) f (nI m) (nI (m + 1)) w) : wpY_release post w (nI s) := by
  have es : (nI s).toNatClampNeg = s := nI_clamp (by omega)
  have h8 : vp_in (nI s) 8 := vp_in_nI hs (by omega)
  have hk' : ¬ ya_kinds w (nI s).toNatClampNeg = 15 := by rw [es, hk]; exact fun e => hk15 ((nI_eq (b := 15) (by omega) (by omega)).mp e)
  have hne : ¬ nI m = ya_holds w s := by rw [hh]; exact fun e => absurd ((nI_eq (by omega) (by omega)).mp e) (by omega)
  refine nm_r (e' := nI (160 * s)) (pk_mul 160 s) (And.intro h8 (br_f hk' (And.intro h8 ?_)))
  rw [es]
  exact nm_r hpl (And.intro h8 (br_f hne (nm_r (nI_1 m) (Exists.intro f hp))))
theorem rl_in1e {k m : Nat} (hs : s < 8) (hk : ya_kinds w s = nI k) (hk15 : k ≠ 15) (hk16 : k ≤ 16) (hpl : ya_place w s = nI m) (hh : ya_holds w s = nI m) (hp : post 0 w) : wpY_release post w (nI s) := by
  have es : (nI s).toNatClampNeg = s := nI_clamp (by omega)
  have h8 : vp_in (nI s) 8 := vp_in_nI hs (by omega)
  have hk' : ¬ ya_kinds w (nI s).toNatClampNeg = 15 := by rw [es, hk]; exact fun e => hk15 ((nI_eq (b := 15) (by omega) (by omega)).mp e)
  refine nm_r (e' := nI (160 * s)) (pk_mul 160 s) (And.intro h8 (br_f hk' (And.intro h8 ?_)))
  rw [es]
  exact nm_r hpl (And.intro h8 (br_t hh.symm hp))
end
end
section
/-! Y: release as a whole -/
theorem hk_hk (w : SY) (a b c d : Nat → Int32) : ym_hk (ym_hk w a b) c d = ym_hk w c d := rfl
theorem hk_self (w : SY) : ym_hk w (ya_held w) (ya_keys w) = w := rfl
theorem hk_rl (w : SY) (z : Int32) (a b P H Q : Nat → Int32) : ym_rl (ym_hk (ys_v w z) a b) z P H Q = ym_rl w z P H Q := rfl
section
variable {w : SY} {s n pl b : Nat}
/-- the shift: position pl takes the chosen one, those before it move up -/
theorem rl_sh {z key : Int32} {P : Nat → Int32} (hs : s < 8) (hb : b < 160) (hpl : ya_place w s = nI pl) (hle : pl ≤ b) (hP : P = upd (ya_place w) s (nI (pl + 1))) :
    ∀ (d : Nat), d ≤ b - pl → ∀ (H Q : Nat → Int32), (∀ j, (j < 160 * s + (pl + d + 1) ∨ 160 * s + b < j) → H j = ya_held w j ∧ Q j = ya_keys w j) →
    (∀ i, pl + d < i → i ≤ b → H (160 * s + i) = ya_held w (160 * s + (i - 1)) ∧ Q (160 * s + i) = ya_keys w (160 * s + (i - 1))) →
    ∃ H' Q', H' (160 * s + pl) = z ∧ Q' (160 * s + pl) = key ∧ (∀ i, pl < i → i ≤ b → H' (160 * s + i) = ya_held w (160 * s + (i - 1)) ∧ Q' (160 * s + i) = ya_keys w (160 * s + (i - 1))) ∧
      (∀ j, (j < 160 * s + pl ∨ 160 * s + b < j) → H' j = ya_held w j ∧ Q' j = ya_keys w j) ∧
      ∀ post : Int32 → SY → Prop, post 1 (ym_rl w z P H' Q') → yl_152 post (nI s) (nI (160 * s)) key (d + 1) (nI (pl + d)) (ym_hk (ys_v w z) H Q) := by
  intro d
  induction d with
  | zero =>
    intro hd H Q h1 h2
    obtain ⟨H', hH'⟩ : ∃ H', H' = upd H (160 * s + pl) z := ⟨_, rfl⟩
    obtain ⟨Q', hQ'⟩ : ∃ Q', Q' = upd Q (160 * s + pl) key := ⟨_, rfl⟩
    refine ⟨H', Q', by rw [hH', pk_us], by rw [hQ', pk_us], fun i hi1 hi2 => ?_, fun j hj => ?_, fun post hp => ?_⟩
    · have := h2 i (by omega) hi2
      rw [hH', hQ', pk_un (by omega), pk_un (by omega)]
      exact this
    · have := h1 j (by omega)
      rw [hH', hQ', pk_un (by omega), pk_un (by omega)]
      exact this
    · refine rl_end (w := ym_hk (ys_v w z) H Q) (P := P) hs (by omega) hpl hH' hQ' hP ?_
      show post 1 (ym_rl (ym_hk (ys_v w z) H Q) z P H' Q')
      rw [hk_rl]
      exact hp
  | succ d ih =>
    intro hd H Q h1 h2
    obtain ⟨H1, hH1⟩ : ∃ H1, H1 = upd H (160 * s + (pl + d + 1)) (H (160 * s + (pl + d))) := ⟨_, rfl⟩
    obtain ⟨Q1, hQ1⟩ : ∃ Q1, Q1 = upd Q (160 * s + (pl + d + 1)) (Q (160 * s + (pl + d))) := ⟨_, rfl⟩
    obtain ⟨H', Q', g1, g2, g3, g4, g5⟩ := ih (by omega) H1 Q1 (fun j hj => by
        have := h1 j (by omega)
        rw [hH1, hQ1, pk_un (by omega), pk_un (by omega)]
        exact this) (fun i hi1 hi2 => by
        by_cases c : i = pl + d + 1
        · subst c
          rw [hH1, hQ1, pk_us, pk_us]
          have := h1 (160 * s + (pl + d)) (by omega)
          exact this
        · have := h2 i (by omega) hi2
          rw [hH1, hQ1, pk_un (by omega), pk_un (by omega)]
          exact this)
    refine ⟨H', Q', g1, g2, g3, g4, fun post hp => ?_⟩
    refine rl_shift (w := ym_hk (ys_v w z) H Q) (i := pl + d) (pl := pl) hs (by omega) hpl (by omega) hH1 hQ1 ?_
    rw [hk_hk]
    exact g5 post hp
/-- the choice: the first of the least -/
theorem rl_sel (hs : s < 8) (hk : ya_kinds w s = nI 14) (hh : ya_holds w s = nI n) (hn : n ≤ 160) :
    ∀ (d i b0 : Nat), i + d = n → pl ≤ b0 → b0 < i → (∀ q, pl ≤ q → q < i → ya_keys w (160 * s + b0) ≤ ya_keys w (160 * s + q)) → (∀ q, pl ≤ q → q < b0 → ya_keys w (160 * s + b0) < ya_keys w (160 * s + q)) →
    ∃ b, pl ≤ b ∧ b < n ∧ (∀ q, pl ≤ q → q < n → ya_keys w (160 * s + b) ≤ ya_keys w (160 * s + q)) ∧ (∀ q, pl ≤ q → q < b → ya_keys w (160 * s + b) < ya_keys w (160 * s + q)) ∧
      ∀ post : Int32 → SY → Prop, yl_127 post (nI s) (nI (160 * s)) (nI b) w → yl_76 post (nI s) (nI (160 * s)) (d + 1) (nI b0) (nI i) w := by
  intro d
  induction d with
  | zero =>
    intro i b0 e h1 h2 h3 h4
    have e' : i = n := by omega
    subst e'
    exact ⟨b0, h1, h2, h3, h4, fun post hp => rl_76e hs hk hh hn hp⟩
  | succ d ih =>
    intro i b0 e h1 h2 h3 h4
    by_cases c : ya_keys w (160 * s + b0) ≤ ya_keys w (160 * s + i)
    · obtain ⟨b, g1, g2, g3, g4, g5⟩ := ih (i + 1) b0 (by omega) h1 (by omega) (fun q hq1 hq2 => by
        by_cases z : q = i
        · rw [z]; exact c
        · exact h3 q hq1 (by omega)) h4
      exact ⟨b, g1, g2, g3, g4, fun post hp => rl_76s hs hk hh hn (by omega) h2 (fun _ => g5 post hp) (fun z => absurd c z)⟩
    · have hlt : ya_keys w (160 * s + i) < ya_keys w (160 * s + b0) := Int32.not_le.mp c
      obtain ⟨b, g1, g2, g3, g4, g5⟩ := ih (i + 1) i (by omega) (by omega) (by omega) (fun q hq1 hq2 => by
        by_cases z : q = i
        · rw [z]; exact Int32.le_refl _
        · exact Int32.le_of_lt (Int32.lt_of_lt_of_le hlt (h3 q hq1 (by omega)))) (fun q hq1 hq2 => Int32.lt_of_lt_of_le hlt (h3 q hq1 hq2))
      exact ⟨b, g1, g2, g3, g4, fun post hp => rl_76s hs hk hh hn (by omega) h2 (fun z => absurd z c) (fun _ => g5 post hp)⟩
theorem yw_rel14 {P : Nat → Int32} (hs : s < 8) (hk : ya_kinds w s = nI 14) (hh : ya_holds w s = nI n) (hn : n ≤ 160) (hpl : ya_place w s = nI pl) (hlt : pl < n) (hP : P = upd (ya_place w) s (nI (pl + 1))) :
    ∃ b H' Q', pl ≤ b ∧ b < n ∧ (∀ q, pl ≤ q → q < n → ya_keys w (160 * s + b) ≤ ya_keys w (160 * s + q)) ∧ (∀ q, pl ≤ q → q < b → ya_keys w (160 * s + b) < ya_keys w (160 * s + q)) ∧
      (∀ i, pl < i → i ≤ b → H' (160 * s + i) = ya_held w (160 * s + (i - 1)) ∧ Q' (160 * s + i) = ya_keys w (160 * s + (i - 1))) ∧
      (∀ j, (j < 160 * s + pl ∨ 160 * s + b < j) → H' j = ya_held w j ∧ Q' j = ya_keys w j) ∧
      ∀ post : Int32 → SY → Prop, post 1 (ym_rl w (ya_held w (160 * s + b)) P H' Q') → wpY_release post w (nI s) := by
  obtain ⟨b, g1, g2, g3, g4, g5⟩ := rl_sel (pl := pl) hs hk hh hn (n - (pl + 1)) (pl + 1) pl (by omega) (Nat.le_refl _) (by omega) (fun q h1 h2 => by
    have : q = pl := by omega
    rw [this]; exact Int32.le_refl _) (fun q h1 h2 => absurd h2 (by omega))
  obtain ⟨H', Q', f1, f2, f3, f4, f5⟩ := rl_sh (b := b) (z := ya_held w (160 * s + b)) (key := ya_keys w (160 * s + b)) hs (by omega) hpl g1 hP (b - pl) (Nat.le_refl _) (ya_held w) (ya_keys w) (fun _ _ => ⟨rfl, rfl⟩) (fun i h1 h2 => absurd h1 (by omega))
  rw [show pl + (b - pl) = b by omega] at f5
  exact ⟨b, H', Q', g1, g2, g3, g4, f3, f4, fun post hp => rl_in1 (k := 14) hs hk (by omega) (by omega) hpl hh hlt hn (g5 post (rl_127 (f := b - pl + 1) hs (by omega) rfl rfl (f5 post hp)))⟩
theorem yw_rel16 {P : Nat → Int32} (hs : s < 8) (hk : ya_kinds w s = nI 16) (hh : ya_holds w s = nI n) (hn : n ≤ 160) (hpl : ya_place w s = nI pl) (hlt : pl < n) (hP : P = upd (ya_place w) s (nI (pl + 1))) :
    ∃ H' Q', (∀ j, H' j = ya_held w j ∧ Q' j = ya_keys w j) ∧ ∀ post : Int32 → SY → Prop, post 1 (ym_rl w (ya_held w (160 * s + pl)) P H' Q') → wpY_release post w (nI s) := by
  obtain ⟨H', Q', f1, f2, f3, f4, f5⟩ := rl_sh (b := pl) (z := ya_held w (160 * s + pl)) (key := ya_keys w (160 * s + pl)) hs (by omega) hpl (Nat.le_refl _) hP 0 (by omega) (ya_held w) (ya_keys w) (fun _ _ => ⟨rfl, rfl⟩) (fun i h1 h2 => absurd h1 (by omega))
  refine ⟨H', Q', fun j => ?_, fun post hp => rl_in1 (k := 16) (f := 1) hs hk (by omega) (by omega) hpl hh hlt hn (rl_76o hs hk (by omega) (by omega) (rl_127 (b := pl) hs (by omega) rfl rfl (f5 post hp)))⟩
  by_cases c : j = 160 * s + pl
  · subst c; exact ⟨f1, f2⟩
  · exact f4 j (by omega)
end
end
section
/-! the relation of a run -/
def xV_s (u : SX) (z_memory : Nat → Int32) (z_begun : Nat → Int32) (z_place : Nat → Int32) (z_held : Nat → Int32) (z_keyOf : Nat → Int32) (z_next : Nat → Int32) (z_size : Nat → Int32) (z_head : Nat → Int32) : SX := (u.1, u.2.1, u.2.2.1, u.2.2.2.1, u.2.2.2.2.1, u.2.2.2.2.2.1, u.2.2.2.2.2.2.1, u.2.2.2.2.2.2.2.1, u.2.2.2.2.2.2.2.2.1, u.2.2.2.2.2.2.2.2.2.1, u.2.2.2.2.2.2.2.2.2.2.1, u.2.2.2.2.2.2.2.2.2.2.2.1, u.2.2.2.2.2.2.2.2.2.2.2.2.1, u.2.2.2.2.2.2.2.2.2.2.2.2.2.1, u.2.2.2.2.2.2.2.2.2.2.2.2.2.2.1, u.2.2.2.2.2.2.2.2.2.2.2.2.2.2.2.1, u.2.2.2.2.2.2.2.2.2.2.2.2.2.2.2.2.1, u.2.2.2.2.2.2.2.2.2.2.2.2.2.2.2.2.2.1, u.2.2.2.2.2.2.2.2.2.2.2.2.2.2.2.2.2.2.1, u.2.2.2.2.2.2.2.2.2.2.2.2.2.2.2.2.2.2.2.1, u.2.2.2.2.2.2.2.2.2.2.2.2.2.2.2.2.2.2.2.2.1, u.2.2.2.2.2.2.2.2.2.2.2.2.2.2.2.2.2.2.2.2.2.1, u.2.2.2.2.2.2.2.2.2.2.2.2.2.2.2.2.2.2.2.2.2.2.1, u.2.2.2.2.2.2.2.2.2.2.2.2.2.2.2.2.2.2.2.2.2.2.2.1, u.2.2.2.2.2.2.2.2.2.2.2.2.2.2.2.2.2.2.2.2.2.2.2.2.1, u.2.2.2.2.2.2.2.2.2.2.2.2.2.2.2.2.2.2.2.2.2.2.2.2.2.1, u.2.2.2.2.2.2.2.2.2.2.2.2.2.2.2.2.2.2.2.2.2.2.2.2.2.2.1, u.2.2.2.2.2.2.2.2.2.2.2.2.2.2.2.2.2.2.2.2.2.2.2.2.2.2.2.1, u.2.2.2.2.2.2.2.2.2.2.2.2.2.2.2.2.2.2.2.2.2.2.2.2.2.2.2.2.1, z_memory, z_begun, z_place, z_held, z_keyOf, z_next, z_size, z_head, u.2.2.2.2.2.2.2.2.2.2.2.2.2.2.2.2.2.2.2.2.2.2.2.2.2.2.2.2.2.2.2.2.2.2.2.2.2)
def yV_s (u : SY) (z_left : Nat → Int32) (z_last : Nat → Int32) (z_place : Nat → Int32) (z_begun : Nat → Int32) (z_held : Nat → Int32) (z_keys : Nat → Int32) (z_holds : Nat → Int32) : SY := (u.1, u.2.1, u.2.2.1, u.2.2.2.1, u.2.2.2.2.1, u.2.2.2.2.2.1, u.2.2.2.2.2.2.1, u.2.2.2.2.2.2.2.1, u.2.2.2.2.2.2.2.2.1, u.2.2.2.2.2.2.2.2.2.1, u.2.2.2.2.2.2.2.2.2.2.1, u.2.2.2.2.2.2.2.2.2.2.2.1, u.2.2.2.2.2.2.2.2.2.2.2.2.1, u.2.2.2.2.2.2.2.2.2.2.2.2.2.1, u.2.2.2.2.2.2.2.2.2.2.2.2.2.2.1, u.2.2.2.2.2.2.2.2.2.2.2.2.2.2.2.1, u.2.2.2.2.2.2.2.2.2.2.2.2.2.2.2.2.1, u.2.2.2.2.2.2.2.2.2.2.2.2.2.2.2.2.2.1, u.2.2.2.2.2.2.2.2.2.2.2.2.2.2.2.2.2.2.1, u.2.2.2.2.2.2.2.2.2.2.2.2.2.2.2.2.2.2.2.1, z_left, z_last, z_place, z_begun, z_held, z_keys, z_holds, u.2.2.2.2.2.2.2.2.2.2.2.2.2.2.2.2.2.2.2.2.2.2.2.2.2.2.2)
/-- per kind: the stage's own state -/
def sr_2 (c : Int32) (s : Nat) (u : SX) (v : SY) : Prop := ∃ n m, ya_left v s = nI n ∧ xa_memory u s = nI n ∧ c = nI m ∧ n < m ∧ m < 2 ^ 31
def sr_3 (c : Int32) (p b s : Nat) (u : SX) (v : SY) : Prop := ∃ n, ya_left v s = nI n ∧ n + p ≤ b ∧ ((c < 1 ∧ xa_memory u s = 0) ∨ ∃ m, c = nI m ∧ m < 2 ^ 31 ∧ 1 ≤ m ∧ xa_memory u s = nI (min n m))
def sr_8 (p b s : Nat) (u : SX) (v : SY) : Prop := ∃ n, n + p ≤ b ∧ xa_size u s = nI n ∧ ya_holds v s = nI n ∧ (∀ i, i < n → ya_keys v (160 * s + i) = xa_held u (150 * s + i)) ∧
  tr_ok (fun i => xa_held u (150 * s + i)) (fun i => xa_keyOf u (150 * s + i)) (fun i => xa_next u (150 * s + i)) n
def sr_14 (p q s : Nat) (u : SX) (v : SY) : Prop := ya_begun v s = 0 ∧ ya_place v s = 0 ∧ ∃ n, n + p ≤ q ∧ xa_size u s = nI n ∧ ya_holds v s = nI n ∧
  (∀ i, i < n → ya_held v (160 * s + i) = xa_held u (150 * s + i) ∧ ya_keys v (160 * s + i) = xa_keyOf u (150 * s + i)) ∧
  ∃ C, ch_l (fun i => xa_next u (150 * s + i)) (xa_head u s) C ∧ List.Pairwise (so_le (fun i => xa_keyOf u (150 * s + i))) C ∧ ∀ i, i ∈ C ↔ i < n
def sr_15 (p q s : Nat) (u : SX) (v : SY) : Prop := ya_begun v s = 0 ∧ ∃ n, n + p ≤ q ∧ xa_size u s = nI n ∧ ya_holds v s = nI n ∧ ∀ i, i < n → ya_held v (160 * s + i) = xa_held u (150 * s + i)
def sr_16 (p q s : Nat) (u : SX) (v : SY) : Prop := ya_begun v s = 0 ∧ ya_place v s = 0 ∧ ∃ n, n + p ≤ q ∧ xa_size u s = nI n ∧ ya_holds v s = nI n ∧
  ∀ i, i < n → ya_held v (160 * s + i) = xa_held u (150 * s + i) ∧ ya_keys v (160 * s + i) = xa_keyOf u (150 * s + i)
def sr_ (k : Nat) (c : Int32) (p q b s : Nat) (u : SX) (v : SY) : Prop :=
  p ≤ q ∧ q ≤ b ∧ (k = 2 → sr_2 c s u v) ∧ (k = 3 → sr_3 c p b s u v) ∧ (k = 5 → xa_begun u s = ya_begun v s) ∧ (k = 8 → sr_8 p b s u v) ∧ (k = 9 → ya_begun v s = 0 ∧ ya_place v s = 0) ∧
  (k = 10 → ∃ n, n ≤ 24 ∧ xa_place u s = nI n ∧ ya_place v s = nI n) ∧ (k = 12 ∨ k = 13 → xa_memory u s = ya_last v s ∧ xa_begun u s = ya_begun v s) ∧
  (k = 14 → sr_14 p q s u v) ∧ (k = 15 → sr_15 p q s u v) ∧ (k = 16 → sr_16 p q s u v)
/-- the stack of open stages, the top first: stage, value, left -/
def sk_st (a b c : Nat → Int32) : List (Nat × Int32 × Nat) → Prop
  | [] => True
  | (o, x, l) :: r => a r.length = nI o ∧ b r.length = x ∧ c r.length = nI l ∧ sk_st a b c r
def sk_ok (fr : Int) (N : Nat) (K : Nat → Nat) : List (Nat × Int32 × Nat) → Prop
  | [] => True
  | (o, _, l) :: r => fr < o ∧ o < N ∧ (K o = 6 ∨ K o = 7 ∨ K o = 11) ∧ l ≤ 24 ∧ (∀ e, e ∈ r → e.1 < o) ∧ sk_ok fr N K r
def op_rel (K : Nat → Nat) (v : SY) (e : Nat × Int32 × Nat) : Prop :=
  ya_last v e.1 = e.2.1 ∧ ((K e.1 = 6 ∨ K e.1 = 7) → ya_left v e.1 = nI e.2.2) ∧ (K e.1 = 11 → ya_begun v e.1 = 1 ∧ ya_place v e.1 = nI e.2.2)
def id_rel (K : Nat → Nat) (v : SY) (s : Nat) : Prop := (K s = 6 ∨ K s = 7 → ya_left v s = 0) ∧ (K s = 11 → ya_begun v s = 0)
def li_v (fr en : Int) (N s : Nat) : Prop := fr < s ∧ en < s ∧ s < N
/-- where elements come from at present -/
def so_9 (rem s : Nat) (u : SX) (v : SY) : Prop := rem = 0 ∧ ya_begun v s = 1 ∧ ∃ a, a ≤ 24 ∧ xa_at u = nI a ∧ ya_place v s = nI a
def so_14 (rem s : Nat) (u : SX) (v : SY) : Prop := ya_begun v s = 1 ∧ ∃ n pl C D, n ≤ 150 ∧ xa_size u s = nI n ∧ ya_holds v s = nI n ∧ ya_place v s = nI pl ∧ pl + D.length = n ∧ rem = C.length ∧
  ch_l (fun i => xa_next u (150 * s + i)) (xa_at u) C ∧ List.Pairwise (so_le (fun i => xa_keyOf u (150 * s + i))) C ∧ List.Pairwise (· < ·) D ∧ (∀ i, i ∈ C ↔ i ∈ D) ∧ (∀ i, i ∈ D → i < n) ∧
  ∀ q i, D[q]? = some i → ya_held v (160 * s + (pl + q)) = xa_held u (150 * s + i) ∧ ya_keys v (160 * s + (pl + q)) = xa_keyOf u (150 * s + i)
def so_15 (rem s : Nat) (u : SX) (v : SY) : Prop := ya_begun v s = 1 ∧ ∃ n, n ≤ 150 ∧ rem ≤ n ∧ xa_size u s = nI n ∧ xa_at u = nI rem - 1 ∧ ya_place v s = nI rem - 1 ∧ ∀ i, i < n → ya_held v (160 * s + i) = xa_held u (150 * s + i)
def so_16 (rem s : Nat) (u : SX) (v : SY) : Prop := ya_begun v s = 1 ∧ ∃ n a, n ≤ 150 ∧ a + rem = n ∧ xa_size u s = nI n ∧ ya_holds v s = nI n ∧ xa_at u = nI a ∧ ya_place v s = nI a ∧ ∀ i, i < n → ya_held v (160 * s + i) = xa_held u (150 * s + i)
def so_rel (K : Nat → Nat) (fr : Int) (rem : Nat) (u : SX) (v : SY) : Prop :=
  (fr = -1 → rem = 0 ∧ ∃ a, a ≤ 24 ∧ xa_at u = nI a ∧ ya_at v = nI a) ∧
  ∀ s : Nat, fr = s → ((K s = 9 ∨ K s = 14 ∨ K s = 15 ∨ K s = 16) ∧ (K s = 9 → so_9 rem s u v) ∧ (K s = 14 → so_14 rem s u v) ∧ (K s = 15 → so_15 rem s u v) ∧ (K s = 16 → so_16 rem s u v))
/-- counts and results -/
def gl_ (L N sp : Nat) (u : SX) (v : SY) : Prop :=
  sp ≤ L ∧ xa_spent u = nI sp ∧ ya_paid v = nI sp ∧ xa_stopped u = 0 ∧ xa_failedStage u = -1 ∧ rl_rs u v ∧ ya_ran v = 1 ∧ xa_lastStages u = nI N
def rn_c (fr en : Int) (N : Nat) (K : Nat → Nat) (stk : List (Nat × Int32 × Nat)) (u : SX) : Prop :=
  (xa_from u).toInt = fr ∧ (xa_ended u).toInt = en ∧ -1 ≤ fr ∧ fr < N ∧ -2 ≤ en ∧ en < N ∧ xa_opens u = nI stk.length ∧ sk_st (xa_openStage u) (xa_openValue u) (xa_openLeft u) stk ∧ sk_ok fr N K stk
def rn_o (fr en : Int) (N : Nat) (K : Nat → Nat) (stk : List (Nat × Int32 × Nat)) (v : SY) : Prop :=
  (∀ e, e ∈ stk → en < e.1 → op_rel K v e) ∧ ∀ s, li_v fr en N s → (∀ e, e ∈ stk → e.1 ≠ s) → id_rel K v s
def rn_d (fr en : Int) (N : Nat) (K : Nat → Nat) (b P : Nat → Nat) (u : SX) (v : SY) : Prop := ∀ s, li_v fr en N s → sr_ (K s) (xa_constant u s) (P s) (P (s + 1)) (b s) s u v
def rn_f (fr : Int) (N sp rem cnt : Nat) (b P : Nat → Nat) : Prop := rem ≤ P (fr + 1).toNat ∧ rem ≤ 150 ∧ cnt + P N ≤ b N ∧ ∀ s, b s ≤ sp
/-- the tokens, and how many elements have been shown -/
def rt_ (u : SX) (v : SY) (n : Nat) (tk : Nat → Nat) : Prop := rl_tk u v n tk ∧ xa_shownCount u = nI (tk 100) ∧ ya_seenCount v = nI (tk 100)
def rn_ (L N : Nat) (K : Nat → Nat) (n : Nat) (tk : Nat → Nat) (fr en : Int) (sp rem cnt : Nat) (b P : Nat → Nat) (stk : List (Nat × Int32 × Nat)) (u : SX) (v : SY) : Prop :=
  rl_st u v L N K ∧ rt_ u v n tk ∧ gl_ L N sp u v ∧ rn_c fr en N K stk u ∧ rn_o fr en N K stk v ∧ rn_d fr en N K b P u v ∧ (en < fr → so_rel K fr rem u v) ∧ rn_f fr N sp rem cnt b P
/-- a take at the end, when it holds the present source -/
def rn_t (fr en : Int) (K : Nat → Nat) (v : SY) : Prop := fr ≤ en → ∃ e : Nat, en = e ∧ K e = 2 ∧ ¬ ya_left v e < ya_numbers v e
def bd_ (sp pos s : Nat) : Nat := if s < pos then sp else sp - 1

theorem sr_mono {k : Nat} {c : Int32} {p q b b' s : Nat} {u : SX} {v : SY} (h : sr_ k c p q b s u v) (hb : b ≤ b') : sr_ k c p q b' s u v := by
  obtain ⟨h1, h2, h3, h4, h5, h6, h7, h8, h9, h10, h11, h12⟩ := h
  refine ⟨h1, by omega, h3, fun e => ?_, h5, fun e => ?_, h7, h8, h9, h10, h11, h12⟩
  · obtain ⟨n, a, b, d⟩ := h4 e
    exact ⟨n, a, by omega, d⟩
  · obtain ⟨n, a, b⟩ := h6 e
    exact ⟨n, by omega, b⟩
/-- one element more that waits ahead, one more paid -/
theorem sr_up {k : Nat} {c : Int32} {p q b s : Nat} {u : SX} {v : SY} (h : sr_ k c p q b s u v) : sr_ k c (p + 1) (q + 1) (b + 1) s u v := by
  obtain ⟨h1, h2, h3, h4, h5, h6, h7, h8, h9, h10, h11, h12⟩ := h
  refine ⟨by omega, by omega, h3, fun e => ?_, h5, fun e => ?_, h7, h8, h9, fun e => ?_, fun e => ?_, fun e => ?_⟩
  · obtain ⟨n, a, b, d⟩ := h4 e
    exact ⟨n, a, by omega, d⟩
  · obtain ⟨n, a, b⟩ := h6 e
    exact ⟨n, by omega, b⟩
  · obtain ⟨a, b, n, d, f⟩ := h10 e
    exact ⟨a, b, n, by omega, f⟩
  · obtain ⟨a, n, d, f⟩ := h11 e
    exact ⟨a, n, by omega, f⟩
  · obtain ⟨a, b, n, d, f⟩ := h12 e
    exact ⟨a, b, n, by omega, f⟩
theorem sr_dn {k : Nat} {c : Int32} {p q b s : Nat} {u : SX} {v : SY} (h : sr_ k c (p + 1) (q + 1) (b + 1) s u v) : sr_ k c p q b s u v := by
  obtain ⟨h1, h2, h3, h4, h5, h6, h7, h8, h9, h10, h11, h12⟩ := h
  refine ⟨by omega, by omega, h3, fun e => ?_, h5, fun e => ?_, h7, h8, h9, fun e => ?_, fun e => ?_, fun e => ?_⟩
  · obtain ⟨n, a, b, d⟩ := h4 e
    exact ⟨n, a, by omega, d⟩
  · obtain ⟨n, a, b⟩ := h6 e
    exact ⟨n, by omega, b⟩
  · obtain ⟨a, b, n, d, f⟩ := h10 e
    exact ⟨a, b, n, by omega, f⟩
  · obtain ⟨a, n, d, f⟩ := h11 e
    exact ⟨a, n, by omega, f⟩
  · obtain ⟨a, b, n, d, f⟩ := h12 e
    exact ⟨a, b, n, by omega, f⟩
/-- the two states agree at stage s -/
def ve_x (s : Nat) (u u' : SX) : Prop := xa_memory u' s = xa_memory u s ∧ xa_begun u' s = xa_begun u s ∧ xa_place u' s = xa_place u s ∧ xa_size u' s = xa_size u s ∧ xa_head u' s = xa_head u s ∧
  ∀ i, i < 150 → xa_held u' (150 * s + i) = xa_held u (150 * s + i) ∧ xa_keyOf u' (150 * s + i) = xa_keyOf u (150 * s + i) ∧ xa_next u' (150 * s + i) = xa_next u (150 * s + i)
def ve_y (s : Nat) (v v' : SY) : Prop := ya_left v' s = ya_left v s ∧ ya_last v' s = ya_last v s ∧ ya_place v' s = ya_place v s ∧ ya_begun v' s = ya_begun v s ∧ ya_holds v' s = ya_holds v s ∧
  ∀ i, i < 160 → ya_held v' (160 * s + i) = ya_held v (160 * s + i) ∧ ya_keys v' (160 * s + i) = ya_keys v (160 * s + i)
theorem tr_cg {H Kc R H' Kc' R' : Nat → Int32} {n : Nat} (hn : n ≤ 150) (h : tr_ok H Kc R n) (e : ∀ i, i < 150 → H' i = H i ∧ Kc' i = Kc i ∧ R' i = R i) : tr_ok H' Kc' R' n := by
  refine ⟨fun i hi => ?_, fun j hj => ?_⟩
  · rw [(e i (by omega)).2.1, (e i (by omega)).2.2]; exact h.1 i hi
  · obtain ⟨m, hm⟩ := h.2 j hj
    rw [(e j (by omega)).1]
    refine ⟨m, tr_congr (fun i => i < 150) (fun i hi => (e i hi).1) (fun i e' hi hw he' => ⟨?_, he'⟩) m 0 (by omega) hm⟩
    unfold tr_ch at hw ⊢
    rw [(e i hi).1, (e i hi).2.1, (e i hi).2.2]
    exact hw
theorem sr_cg {k : Nat} {c : Int32} {p q b s : Nat} {u u' : SX} {v v' : SY} (h : sr_ k c p q b s u v) (hb : b ≤ 150) (hx : ve_x s u u') (hy : ve_y s v v') : sr_ k c p q b s u' v' := by
  obtain ⟨h1, h2, h3, h4, h5, h6, h7, h8, h9, h10, h11, h12⟩ := h
  obtain ⟨x1, x2, x3, x4, x5, x6⟩ := hx
  obtain ⟨y1, y2, y3, y4, y5, y6⟩ := hy
  refine ⟨h1, h2, fun e => ?_, fun e => ?_, fun e => ?_, fun e => ?_, fun e => ?_, fun e => ?_, fun e => ?_, fun e => ?_, fun e => ?_, fun e => ?_⟩
  · unfold sr_2; rw [y1, x1]; exact h3 e
  · unfold sr_3; rw [y1, x1]; exact h4 e
  · rw [x2, y4]; exact h5 e
  · obtain ⟨n, a1, a2, a3, a4, a5⟩ := h6 e
    exact ⟨n, a1, x4.trans a2, y5.trans a3, fun i hi => by rw [(y6 i (by omega)).2, (x6 i (by omega)).1]; exact a4 i hi, tr_cg (by omega) a5 (fun i hi => x6 i hi)⟩
  · rw [y4, y3]; exact h7 e
  · rw [x3, y3]; exact h8 e
  · rw [x1, x2, y2, y4]; exact h9 e
  · obtain ⟨a1, a2, n, a3, a4, a5, a6, C, a7, a8, a9⟩ := h10 e
    refine ⟨y4.trans a1, y3.trans a2, n, a3, x4.trans a4, y5.trans a5, fun i hi => ?_, C, ?_, ?_, a9⟩
    · rw [(y6 i (by omega)).1, (y6 i (by omega)).2, (x6 i (by omega)).1, (x6 i (by omega)).2.1]; exact a6 i hi
    · rw [x5]
      exact ch_congr C _ (fun i hi => (x6 i (by have := (a9 i).mp hi; omega)).2.2) a7
    · refine List.Pairwise.imp_of_mem ?_ a8
      intro i j hi hj hij
      unfold so_le at hij ⊢
      dsimp only at hij ⊢
      rw [(x6 i (by have := (a9 i).mp hi; omega)).2.1, (x6 j (by have := (a9 j).mp hj; omega)).2.1]
      exact hij
  · obtain ⟨a1, n, a3, a4, a5, a6⟩ := h11 e
    exact ⟨y4.trans a1, n, a3, x4.trans a4, y5.trans a5, fun i hi => by rw [(y6 i (by omega)).1, (x6 i (by omega)).1]; exact a6 i hi⟩
  · obtain ⟨a1, a2, n, a3, a4, a5, a6⟩ := h12 e
    exact ⟨y4.trans a1, y3.trans a2, n, a3, x4.trans a4, y5.trans a5, fun i hi => by rw [(y6 i (by omega)).1, (y6 i (by omega)).2, (x6 i (by omega)).1, (x6 i (by omega)).2.1]; exact a6 i hi⟩
end
section
/-! the relation of a run under single changes -/
def xm_fa (u : SX) (z_from : Int32) (z_at : Int32) : SX := (u.1, u.2.1, u.2.2.1, u.2.2.2.1, u.2.2.2.2.1, u.2.2.2.2.2.1, u.2.2.2.2.2.2.1, u.2.2.2.2.2.2.2.1, z_from, z_at, u.2.2.2.2.2.2.2.2.2.2)
section
variable {L N : Nat} {K : Nat → Nat} {n : Nat} {tk : Nat → Nat} {fr en : Int} {sp rem cnt : Nat} {b P : Nat → Nat} {stk : List (Nat × Int32 × Nat)} {u : SX} {v : SY}
theorem R_mono {b' : Nat → Nat} (h : rn_ L N K n tk fr en sp rem cnt b P stk u v) (hb : ∀ s, b s ≤ b' s) (hs : ∀ s, b' s ≤ sp) : rn_ L N K n tk fr en sp rem cnt b' P stk u v := by
  obtain ⟨h1, h2, h3, h4, h5, h6, h7, g1, g2, g3, g4⟩ := h
  exact ⟨h1, h2, h3, h4, h5, fun s hl => sr_mono (h6 s hl) (hb s), h7, g1, g2, by have := hb N; omega, hs⟩
theorem R_x1 {z : Nat → Int32} (h : rn_ L N K n tk fr en sp rem cnt b P stk u v) : rn_ L N K n tk fr en sp rem cnt b P stk (xs_operand u z) v := h
theorem R_x2 {z : Int32} (h : rn_ L N K n tk fr en sp rem cnt b P stk u v) : rn_ L N K n tk fr en sp rem cnt b P stk (xs_out u z) v := h
theorem R_y1 {a c d : Int32} {e f : Nat → Int32} (h : rn_ L N K n tk fr en sp rem cnt b P stk u v) : rn_ L N K n tk fr en sp rem cnt b P stk u (yz_s v a c d e f) := h
theorem R_y2 {z : Int32} (h : rn_ L N K n tk fr en sp rem cnt b P stk u v) : rn_ L N K n tk fr en sp rem cnt b P stk u (ys_v v z) := h
theorem gl_N {m : Nat} (h : gl_ L N sp u v) (hN : N ≤ 8) (hm : m ≤ 8) (e : xa_lastStages u = nI m) : m = N := by
  have := h.2.2.2.2.2.2.2
  rw [e] at this
  exact (nI_eq (by omega) (by omega)).mp this
/-- a stage is paid for -/
theorem R_ps {a : Int32} {c : Nat → Int32} {s0 : Nat} {z : Int32} (h : rn_ L N K n tk fr en sp rem cnt b P stk u v) (hL : sp < L) (hs : s0 < N) (ha : a = nI (sp + 1)) (hc : c = upd (xa_applications u) s0 z) :
    rn_ L N K n tk fr en (sp + 1) rem cnt b P stk (xm_ps u a c) (ym_pa v a c) := by
  obtain ⟨h1, h2, h3, h4, h5, h6, h7, g1, g2, g3, g4⟩ := h
  have h30 := h3
  obtain ⟨k1, k2, k3, k4, k5, ⟨r1, r2, r3, r4, r5, r6, ⟨m, m1, m2, m3⟩, r8⟩, k7, k8⟩ := h3
  have hm : m = N := gl_N h30 h1.2.2.2.2.2.2.1 m1 m2
  refine ⟨h1, h2, ⟨by omega, ha, ha, k4, k5, ⟨r1, rfl, r3, r4, r5, r6, ⟨m, m1, m2, fun s hs1 hs2 => ?_⟩, r8⟩, k7, k8⟩, h4, h5, h6, h7, g1, g2, g3, fun s => by have := g4 s; omega⟩
  show c s = 0
  rw [hc, pk_un (by omega)]
  exact m3 s hs1 hs2
/-- a list's element is paid for -/
theorem R_pr {a z : Int32} {c : Nat → Int32} (h : rn_ L N K n tk fr en sp rem cnt b P stk u v) (hL : sp < L) (ha : a = nI (sp + 1)) :
    rn_ L N K n tk fr en (sp + 1) rem cnt b P stk (xm_pr u a c) (ym_ft v a z c) := by
  obtain ⟨h1, h2, h3, h4, h5, h6, h7, g1, g2, g3, g4⟩ := h
  obtain ⟨k1, k2, k3, k4, k5, ⟨r1, r2, r3, r4, r5, r6, r7, r8⟩, k7, k8⟩ := h3
  refine ⟨h1, h2, ⟨by omega, ha, ha, k4, k5, ⟨r1, r2, rfl, r4, r5, r6, r7, fun e => ?_⟩, k7, k8⟩, h4, h5, h6, h7, g1, g2, g3, fun s => by have := g4 s; omega⟩
  have e' : ya_ran v = 0 := e
  rw [k7] at e'
  exact absurd e' (by decide)
theorem so_cg {u' : SX} {v' : SY} (h : so_rel K fr rem u v) (ha : xa_at u' = xa_at u) (hb : fr = -1 → ya_at v' = ya_at v) (hx : ∀ s : Nat, fr = s → ve_x s u u') (hy : ∀ s : Nat, fr = s → ve_y s v v') : so_rel K fr rem u' v' := by
  refine ⟨fun e => ?_, fun s e => ?_⟩
  · rw [ha, hb e]; exact h.1 e
  · obtain ⟨h1, h2, h3, h4, h5⟩ := h.2 s e
    obtain ⟨x1, x2, x3, x4, x5, x6⟩ := hx s e
    obtain ⟨y1, y2, y3, y4, y5, y6⟩ := hy s e
    refine ⟨h1, fun k => ?_, fun k => ?_, fun k => ?_, fun k => ?_⟩
    · unfold so_9; rw [ha, y3, y4]; exact h2 k
    · obtain ⟨a1, m, pl, C, D, a2, a3, a4, a5, a6, a7, a8, a9, a10, a11, a12, a13⟩ := h3 k
      refine ⟨y4.trans a1, m, pl, C, D, a2, x4.trans a3, y5.trans a4, y3.trans a5, a6, a7, ?_, ?_, a10, a11, a12, fun q i hq => ?_⟩
      · rw [ha]
        exact ch_congr C _ (fun i hi => (x6 i (by have := a12 i ((a11 i).mp hi); omega)).2.2) a8
      · refine List.Pairwise.imp_of_mem ?_ a9
        intro i j hi hj hij
        unfold so_le at hij ⊢
        dsimp only at hij ⊢
        rw [(x6 i (by have := a12 i ((a11 i).mp hi); omega)).2.1, (x6 j (by have := a12 j ((a11 j).mp hj); omega)).2.1]
        exact hij
      · have hqi : i ∈ D := List.mem_of_getElem? hq
        have hql : q < D.length := by
          rcases Nat.lt_or_ge q D.length with z | z
          · exact z
          · rw [List.getElem?_eq_none z] at hq; cases hq
        have := a12 i hqi
        rw [(y6 (pl + q) (by omega)).1, (y6 (pl + q) (by omega)).2, (x6 i (by omega)).1, (x6 i (by omega)).2.1]
        exact a13 q i hq
    · obtain ⟨a1, m, a2, a3, a4, a5, a6, a7⟩ := h4 k
      exact ⟨y4.trans a1, m, a2, a3, x4.trans a4, ha.trans a5, y3.trans a6, fun i hi => by rw [(y6 i (by omega)).1, (x6 i (by omega)).1]; exact a7 i hi⟩
    · obtain ⟨a1, m, a, a2, a3, a4, a5, a6, a7, a8⟩ := h5 k
      exact ⟨y4.trans a1, m, a, a2, a3, x4.trans a4, y5.trans a5, ha.trans a6, y3.trans a7, fun i hi => by rw [(y6 i (by omega)).1, (x6 i (by omega)).1]; exact a8 i hi⟩
theorem op_cg {v' : SY} {e : Nat × Int32 × Nat} (h : op_rel K v e) (hy : ve_y e.1 v v') : op_rel K v' e := by
  obtain ⟨y1, y2, y3, y4, y5, y6⟩ := hy
  unfold op_rel
  rw [y1, y2, y3, y4]
  exact h
theorem id_cg {v' : SY} {s : Nat} (h : id_rel K v s) (hy : ve_y s v v') : id_rel K v' s := by
  obtain ⟨y1, y2, y3, y4, y5, y6⟩ := hy
  unfold id_rel
  rw [y1, y4]
  exact h
theorem sk_in {e : Nat × Int32 × Nat} : ∀ l : List (Nat × Int32 × Nat), sk_ok fr N K l → e ∈ l → fr < e.1 ∧ e.1 < N ∧ (K e.1 = 6 ∨ K e.1 = 7 ∨ K e.1 = 11) ∧ e.2.2 ≤ 24
  | (_, _, _) :: r, h, he => by
    rcases List.mem_cons.mp he with z | z
    · rw [z]; exact ⟨h.1, h.2.1, h.2.2.1, h.2.2.2.1⟩
    · exact sk_in r h.2.2.2.2.2 z
section
variable {m1 m2 m3 m4 m5 m6 m7 m8 l1 l2 l3 l4 l5 l6 l7 : Nat → Int32} {s0 : Nat}
/-- stage s0 behind the source changes its own state -/
theorem R_V {P' : Nat → Nat} {b' : Nat → Nat} (h : rn_ L N K n tk fr en sp rem cnt b P stk u v) (hf : fr < s0)
    (hx : ∀ s, s ≠ s0 → s < 8 → ve_x s u (xV_s u m1 m2 m3 m4 m5 m6 m7 m8)) (hy : ∀ s, s ≠ s0 → s < 8 → ve_y s v (yV_s v l1 l2 l3 l4 l5 l6 l7))
    (hn : li_v fr en N s0 → sr_ (K s0) (xa_constant u s0) (P' s0) (P' (s0 + 1)) (b' s0) s0 (xV_s u m1 m2 m3 m4 m5 m6 m7 m8) (yV_s v l1 l2 l3 l4 l5 l6 l7))
    (hid : id_rel K v s0 → id_rel K (yV_s v l1 l2 l3 l4 l5 l6 l7) s0) (hop : ∀ e, e ∈ stk → e.1 = s0 → en < e.1 → op_rel K v e → op_rel K (yV_s v l1 l2 l3 l4 l5 l6 l7) e)
    (hP : ∀ s, li_v fr en N s → s ≠ s0 → sr_ (K s) (xa_constant u s) (P s) (P (s + 1)) (b s) s u v → sr_ (K s) (xa_constant u s) (P' s) (P' (s + 1)) (b' s) s u v)
    (hP0 : rem ≤ P' (fr + 1).toNat) (hPN : cnt + P' N ≤ b' N) (hb' : ∀ s, b' s ≤ sp) :
    rn_ L N K n tk fr en sp rem cnt b' P' stk (xV_s u m1 m2 m3 m4 m5 m6 m7 m8) (yV_s v l1 l2 l3 l4 l5 l6 l7) := by
  obtain ⟨h1, h2, h3, h4, h5, h6, h7, g1, g2, g3, g4⟩ := h
  have hN := h1.2.2.2.2.2.2.1
  have hL := h1.2.2.2.1
  have hsp := h3.1
  refine ⟨h1, h2, h3, h4, ⟨fun e he hen => ?_, fun s hl hne => ?_⟩, fun s hl => ?_, fun hlt => ?_, hP0, g2, hPN, hb'⟩
  · have ho := h5.1 e he hen
    by_cases c : e.1 = s0
    · exact hop e he c hen ho
    · have := sk_in stk h4.2.2.2.2.2.2.2.2 he
      exact op_cg ho (hy e.1 c (by omega))
  · have hi := h5.2 s hl hne
    by_cases c : s = s0
    · subst c; exact hid hi
    · exact id_cg hi (hy s c (by have := hl.2.2; omega))
  · by_cases c : s = s0
    · subst c; exact hn hl
    · have := hb' s
      exact sr_cg (hP s hl c (h6 s hl)) (by omega) (hx s c (by have := hl.2.2; omega)) (hy s c (by have := hl.2.2; omega))
  · refine so_cg (h7 hlt) rfl (fun _ => rfl) (fun s e => ?_) (fun s e => ?_)
    · exact hx s (by omega) (by have := h4.2.2.2.1; omega)
    · exact hy s (by omega) (by have := h4.2.2.2.1; omega)
end
/-- a stage ends -/
theorem R_end {z : Int32} {s0 : Nat} (h : rn_ L N K n tk fr en sp rem cnt b P stk u v) (hz : z.toInt = s0) (hs : s0 < N) (he : en < s0) (hf : fr < s0 ∨ (fr ≤ s0 ∧ rem = rem)) :
    rn_ L N K n tk fr s0 sp rem cnt b P stk (xs_ended u z) v := by
  obtain ⟨h1, h2, h3, h4, h5, h6, h7, h8⟩ := h
  obtain ⟨c1, c2, c3, c4, c5, c6, c7, c8, c9⟩ := h4
  refine ⟨h1, h2, h3, ⟨c1, hz, c3, c4, by omega, by omega, c7, c8, c9⟩, ⟨fun e he' hen => h5.1 e he' (by omega), fun s hl hne => h5.2 s ⟨hl.1, by have := hl.2.1; omega, hl.2.2⟩ hne⟩, fun s hl => h6 s ⟨hl.1, by have := hl.2.1; omega, hl.2.2⟩, fun hlt => ?_, h8⟩
  exfalso
  rcases hf with z | z <;> omega
end
end
section
/-! X: flow; Y: the asking loop -/
def xF_n (post : Int32 → SX → Prop) (f : Nat) (s : Int32) (w : SX) : Prop := wX_flow_7 post f s (xa_limit w) (xa_source w) (xa_stages w) (xa_tokens w) (xa_wrongPlace w) (xa_waits w) (xa_parens w) (xa_opens w) (xa_from w) (xa_at w) (xa_ended w) (xa_spent w) (xa_stopped w) (xa_out w) (xa_lastStages w) (xa_failedStage w) (xa_shownCount w) (xa_element w) (xa_length w) (xa_kind w) (xa_constant w) (xa_step w) (xa_number w) (xa_steps w) (xa_quick w) (xa_token w) (xa_waiting w) (xa_compared w) (xa_operand w) (xa_memory w) (xa_begun w) (xa_place w) (xa_held w) (xa_keyOf w) (xa_next w) (xa_size w) (xa_head w) (xa_openStage w) (xa_openValue w) (xa_openLeft w) (xa_applications w) (xa_reads w) (xa_shown w)
def xF_ (post : Int32 → SX → Prop) (s : Nat) (w : SX) : Prop := ∃ f, xF_n post f (nI s) w
def xw_st (Q : Int32 → SX → Prop) (w : SX) (s k : Nat) : Prop :=
  (k < 6 → wpX_plain Q w (nI s) (nI k)) ∧ (6 ≤ k → k < 12 → wpX_several Q w (nI s) (nI k)) ∧ (12 ≤ k → wpX_gathering Q w (nI s) (nI k))
def xF_64 (post : Int32 → SX → Prop) (f : Nat) (s r : Int32) (w : SX) : Prop := wX_flow_64 post (wX_flow_7 post f) s r (xa_limit w) (xa_source w) (xa_stages w) (xa_tokens w) (xa_wrongPlace w) (xa_waits w) (xa_parens w) (xa_opens w) (xa_from w) (xa_at w) (xa_ended w) (xa_spent w) (xa_stopped w) (xa_out w) (xa_lastStages w) (xa_failedStage w) (xa_shownCount w) (xa_element w) (xa_length w) (xa_kind w) (xa_constant w) (xa_step w) (xa_number w) (xa_steps w) (xa_quick w) (xa_token w) (xa_waiting w) (xa_compared w) (xa_operand w) (xa_memory w) (xa_begun w) (xa_place w) (xa_held w) (xa_keyOf w) (xa_next w) (xa_size w) (xa_head w) (xa_openStage w) (xa_openValue w) (xa_openLeft w) (xa_applications w) (xa_reads w) (xa_shown w)
section
variable {post : Int32 → SX → Prop} {w w' : SX} {s k N f : Nat}
theorem xF_end (hS : xa_stages w = nI s) (hs : s ≤ 8) (hp : post 1 w) : xF_ post s w :=
  ⟨1, br_t (by rw [hS]; exact nI_le (Nat.le_refl _) (by omega)) hp⟩
theorem xF_in (hS : xa_stages w = nI N) (hN : N ≤ 8) (hs : s < N) (hk : xa_kind w s = nI k) (hk16 : k ≤ 16) (h : xw_st (fun r w' => xF_64 post f (nI s) r w') w s k) : xF_n post (f + 1) (nI s) w := by
  have e : (nI s).toNatClampNeg = s := nI_clamp (by omega)
  refine br_f (by rw [hS]; exact nI_ge hs (by omega)) (And.intro (vp_in_nI (by omega) (by omega)) ?_)
  rw [e]
  refine nm_r hk ?_
  by_cases c6 : k < 6
  · exact br_f (nI_ge (b := 6) c6 (by omega)) (h.1 c6)
  · refine br_t (nI_le (a := 6) (by omega) (by omega)) ?_
    by_cases c12 : k < 12
    · exact br_f (nI_ge (b := 12) c12 (by omega)) (h.2.1 (by omega) c12)
    · exact br_t (nI_le (a := 12) (by omega) (by omega)) (h.2.2 (by omega))
theorem xF_641 (hp : xF_n post f (nI (s + 1)) w) : xF_64 post f (nI s) 1 w := br_f (by decide) (nm_r (nI_1 s) hp)
theorem xF_640 {s : Int32} (hp : post 0 w) : xF_64 post f s 0 w := br_t rfl hp
theorem xF_pass (hS : xa_stages w = nI N) (hN : N ≤ 8) (hs : s < N) (hk : xa_kind w s = nI k) (hk16 : k ≤ 16) (h : ∀ Q : Int32 → SX → Prop, Q 1 w' → xw_st Q w s k) (hp : xF_ post (s + 1) w') : xF_ post s w := by
  obtain ⟨f, hf⟩ := hp
  exact ⟨f + 1, xF_in hS hN hs hk hk16 (h _ (xF_641 hf))⟩
theorem xF_stop (hS : xa_stages w = nI N) (hN : N ≤ 8) (hs : s < N) (hk : xa_kind w s = nI k) (hk16 : k ≤ 16) (h : ∀ Q : Int32 → SX → Prop, Q 0 w' → xw_st Q w s k) (hp : post 0 w') : xF_ post s w :=
  ⟨1, xF_in (f := 0) hS hN hs hk hk16 (h _ (xF_640 hp))⟩
end
def yL_n (post : Int32 → SY → Prop) (f : Nat) (x a d : Int32) (w : SY) : Prop := wY_pull_11 post f x a d (ya_limit w) (ya_source w) (ya_stages w) (ya_wrongAt w) (ya_paid w) (ya_at w) (ya_seenCount w) (ya_failedAt w) (ya_v w) (ya_valTop w) (ya_opTop w) (ya_ran w) (ya_broken w) (ya_outcome w) (ya_lists w) (ya_sizes w) (ya_tokens w) (ya_counts w) (ya_kinds w) (ya_numbers w) (ya_left w) (ya_last w) (ya_place w) (ya_begun w) (ya_held w) (ya_keys w) (ya_holds w) (ya_applied w) (ya_reads w) (ya_seen w) (ya_vals w) (ya_ops w)
def yL_ (post : Int32 → SY → Prop) (x a d : Int32) (w : SY) : Prop := ∃ f, yL_n post f x a d w
def yL_77 (post : Int32 → SY → Prop) (f : Nat) (x r : Int32) (w : SY) : Prop := wY_pull_77 post (wY_pull_11 post f) x r (ya_limit w) (ya_source w) (ya_stages w) (ya_wrongAt w) (ya_paid w) (ya_at w) (ya_seenCount w) (ya_failedAt w) (ya_v w) (ya_valTop w) (ya_opTop w) (ya_ran w) (ya_broken w) (ya_outcome w) (ya_lists w) (ya_sizes w) (ya_tokens w) (ya_counts w) (ya_kinds w) (ya_numbers w) (ya_left w) (ya_last w) (ya_place w) (ya_begun w) (ya_held w) (ya_keys w) (ya_holds w) (ya_applied w) (ya_reads w) (ya_seen w) (ya_vals w) (ya_ops w)
/-- where the loop goes on behind an answer -/
def yL_r (post : Int32 → SY → Prop) (x r : Int32) (w : SY) : Prop := (r = 3 ∧ post 3 w) ∨ (r = 2 ∧ yL_ post (x - 1) 2 1 w) ∨ (r = 1 ∧ yL_ post (x + 1) 1 0 w) ∨ (r = 0 ∧ yL_ post (x + 1) 0 0 w)
section
variable {post : Int32 → SY → Prop} {w w' : SY} {s N f : Nat} {r x : Int32}
theorem yL_r77 (h : yL_r post x r w) : ∃ f, yL_77 post f x r w := by
  rcases h with ⟨rfl, h⟩ | ⟨rfl, f, h⟩ | ⟨rfl, f, h⟩ | ⟨rfl, f, h⟩
  · exact ⟨0, br_t rfl h⟩
  · exact ⟨f, br_f (by decide) (br_t rfl (br_f (by decide) (nm_r (zn_m1 x) h)))⟩
  · exact ⟨f, br_f (by decide) (br_f (by decide) (br_t rfl (nm_e h)))⟩
  · exact ⟨f, br_f (by decide) (br_f (by decide) (br_t rfl (nm_e h)))⟩
theorem yL_end {a d : Int32} (hS : ya_stages w = nI N) (hN : N ≤ 8) (hp : post a w) : yL_ post (nI N) a d w :=
  ⟨1, br_t (by rw [hS]; exact nI_le (Nat.le_refl _) (by omega)) hp⟩
theorem yL_came (hS : ya_stages w = nI N) (hN : N ≤ 8) (hs : s < N) (h : ∀ Q : Int32 → SY → Prop, Q r w' → wpY_came Q w (nI s)) (hp : yL_r post (nI s) r w') : yL_ post (nI s) 1 0 w := by
  obtain ⟨f, hf⟩ := yL_r77 hp
  exact ⟨f + 1, br_f (by rw [hS]; exact nI_ge hs (by omega)) (br_t (nI_pos' (by omega)) (br_t rfl (br_t rfl (h _ hf))))⟩
theorem yL_ended (hS : ya_stages w = nI N) (hN : N ≤ 8) (hs : s < N) (h : ∀ Q : Int32 → SY → Prop, Q r w' → wpY_ended Q w (nI s)) (hp : yL_r post (nI s) r w') : yL_ post (nI s) 0 0 w := by
  obtain ⟨f, hf⟩ := yL_r77 hp
  exact ⟨f + 1, br_f (by rw [hS]; exact nI_ge hs (by omega)) (br_t (nI_pos' (by omega)) (br_t rfl (br_f (by decide) (h _ hf))))⟩
theorem yL_asked {a : Int32} (hS : ya_stages w = nI N) (hN : N ≤ 8) (hs : s < N) (h : ∀ Q : Int32 → SY → Prop, Q r w' → wpY_asked Q w (nI s)) (hp : yL_r post (nI s) r w') : yL_ post (nI s) a 1 w := by
  obtain ⟨f, hf⟩ := yL_r77 hp
  exact ⟨f + 1, br_f (by rw [hS]; exact nI_ge hs (by omega)) (br_t (nI_pos' (by omega)) (br_f (by decide) (h _ hf)))⟩
theorem yL_src {a z : Int32} (hS : ya_stages w = nI N) (hN : N ≤ 8) (hz : ya_at w + 1 = z) (h : ∀ Q : Int32 → SY → Prop, Q r w' → wpY_fetch Q (ys_at w z) (ya_source w) (ya_at w)) (hp : yL_r post (-1) r w') : yL_ post (-1) a 1 w := by
  obtain ⟨f, hf⟩ := yL_r77 hp
  have h1 : ¬ ya_stages w ≤ -1 := by
    rw [hS, Int32.le_iff_toInt_le, nI_toInt (by omega), show (-1 : Int32).toInt = -1 by decide]; omega
  exact ⟨f + 1, br_f h1 (br_f (by decide) (nm_r hz (h _ hf)))⟩
end
end
section
/-! X: what each kind does with an element -/
def xm_mb (u : SX) (z_memory : Nat → Int32) (z_begun : Nat → Int32) : SX := (u.1, u.2.1, u.2.2.1, u.2.2.2.1, u.2.2.2.2.1, u.2.2.2.2.2.1, u.2.2.2.2.2.2.1, u.2.2.2.2.2.2.2.1, u.2.2.2.2.2.2.2.2.1, u.2.2.2.2.2.2.2.2.2.1, u.2.2.2.2.2.2.2.2.2.2.1, u.2.2.2.2.2.2.2.2.2.2.2.1, u.2.2.2.2.2.2.2.2.2.2.2.2.1, u.2.2.2.2.2.2.2.2.2.2.2.2.2.1, u.2.2.2.2.2.2.2.2.2.2.2.2.2.2.1, u.2.2.2.2.2.2.2.2.2.2.2.2.2.2.2.1, u.2.2.2.2.2.2.2.2.2.2.2.2.2.2.2.2.1, u.2.2.2.2.2.2.2.2.2.2.2.2.2.2.2.2.2.1, u.2.2.2.2.2.2.2.2.2.2.2.2.2.2.2.2.2.2.1, u.2.2.2.2.2.2.2.2.2.2.2.2.2.2.2.2.2.2.2.1, u.2.2.2.2.2.2.2.2.2.2.2.2.2.2.2.2.2.2.2.2.1, u.2.2.2.2.2.2.2.2.2.2.2.2.2.2.2.2.2.2.2.2.2.1, u.2.2.2.2.2.2.2.2.2.2.2.2.2.2.2.2.2.2.2.2.2.2.1, u.2.2.2.2.2.2.2.2.2.2.2.2.2.2.2.2.2.2.2.2.2.2.2.1, u.2.2.2.2.2.2.2.2.2.2.2.2.2.2.2.2.2.2.2.2.2.2.2.2.1, u.2.2.2.2.2.2.2.2.2.2.2.2.2.2.2.2.2.2.2.2.2.2.2.2.2.1, u.2.2.2.2.2.2.2.2.2.2.2.2.2.2.2.2.2.2.2.2.2.2.2.2.2.2.1, u.2.2.2.2.2.2.2.2.2.2.2.2.2.2.2.2.2.2.2.2.2.2.2.2.2.2.2.1, u.2.2.2.2.2.2.2.2.2.2.2.2.2.2.2.2.2.2.2.2.2.2.2.2.2.2.2.2.1, z_memory, z_begun, u.2.2.2.2.2.2.2.2.2.2.2.2.2.2.2.2.2.2.2.2.2.2.2.2.2.2.2.2.2.2.2)
def xm_omb (u : SX) (z_out : Int32) (z_memory : Nat → Int32) (z_begun : Nat → Int32) : SX := (u.1, u.2.1, u.2.2.1, u.2.2.2.1, u.2.2.2.2.1, u.2.2.2.2.2.1, u.2.2.2.2.2.2.1, u.2.2.2.2.2.2.2.1, u.2.2.2.2.2.2.2.2.1, u.2.2.2.2.2.2.2.2.2.1, u.2.2.2.2.2.2.2.2.2.2.1, u.2.2.2.2.2.2.2.2.2.2.2.1, u.2.2.2.2.2.2.2.2.2.2.2.2.1, z_out, u.2.2.2.2.2.2.2.2.2.2.2.2.2.2.1, u.2.2.2.2.2.2.2.2.2.2.2.2.2.2.2.1, u.2.2.2.2.2.2.2.2.2.2.2.2.2.2.2.2.1, u.2.2.2.2.2.2.2.2.2.2.2.2.2.2.2.2.2.1, u.2.2.2.2.2.2.2.2.2.2.2.2.2.2.2.2.2.2.1, u.2.2.2.2.2.2.2.2.2.2.2.2.2.2.2.2.2.2.2.1, u.2.2.2.2.2.2.2.2.2.2.2.2.2.2.2.2.2.2.2.2.1, u.2.2.2.2.2.2.2.2.2.2.2.2.2.2.2.2.2.2.2.2.2.1, u.2.2.2.2.2.2.2.2.2.2.2.2.2.2.2.2.2.2.2.2.2.2.1, u.2.2.2.2.2.2.2.2.2.2.2.2.2.2.2.2.2.2.2.2.2.2.2.1, u.2.2.2.2.2.2.2.2.2.2.2.2.2.2.2.2.2.2.2.2.2.2.2.2.1, u.2.2.2.2.2.2.2.2.2.2.2.2.2.2.2.2.2.2.2.2.2.2.2.2.2.1, u.2.2.2.2.2.2.2.2.2.2.2.2.2.2.2.2.2.2.2.2.2.2.2.2.2.2.1, u.2.2.2.2.2.2.2.2.2.2.2.2.2.2.2.2.2.2.2.2.2.2.2.2.2.2.2.1, u.2.2.2.2.2.2.2.2.2.2.2.2.2.2.2.2.2.2.2.2.2.2.2.2.2.2.2.2.1, z_memory, z_begun, u.2.2.2.2.2.2.2.2.2.2.2.2.2.2.2.2.2.2.2.2.2.2.2.2.2.2.2.2.2.2.2)
theorem nb_0 : narrow .boolean (.int (0 : Int32)) = .int 0 := rfl
theorem nb_1 : narrow .boolean (.int (1 : Int32)) = .int 1 := rfl
theorem nb_r {r : Int32} (h : r = 0 ∨ r = 1) : narrow .boolean (.int r) = .int r := by
  rcases h with rfl | rfl <;> rfl
section
variable {Q : Int32 → SX → Prop} {u u1 u2 : SX} {s : Nat} {x z r : Int32}
theorem xh_no (h : ∀ Q : Int32 → SX → Prop, Q 0 u1 → wpX_payStage Q u (nI s)) (hp : Q 0 u1) : wpX_holds Q u (nI s) := by
  unfold wpX_holds
  refine h _ ?_
  exact br_t rfl hp
theorem xh_ok (h : ∀ Q : Int32 → SX → Prop, Q 1 u1 → wpX_payStage Q u (nI s)) (ho : xa_out u1 = x) (h2 : ∀ Q : Int32 → SX → Prop, Q z u2 → wpX_value Q u1 (nI s) x 0)
    (hp : (z = 0 → Q 0 u2) ∧ (¬ z = 0 → ((xa_stopped u2 = 0 → Q 1 u2) ∧ (¬ xa_stopped u2 = 0 → Q 0 u2)))) : wpX_holds Q u (nI s) := by
  subst ho
  unfold wpX_holds
  refine h _ ?_
  refine br_f (by decide) ?_
  exact h2 _ hp
theorem xk_0 (hs : s < 8) (hr : r = 0 ∨ r = 1) (h : ∀ Q : Int32 → SX → Prop, Q r u1 → wpX_holds Q u (nI s)) (hp : Q r u1) : wpX_plain Q u (nI s) (nI 0) :=
  And.intro (vp_in_nI hs (by omega)) (nm_e (br_f (by decide) (br_f (by decide) (br_t rfl (h _ (And.intro (nb_r hr) hp))))))
theorem xk_1n (hs : s < 8) (h : ∀ Q : Int32 → SX → Prop, Q 0 u1 → wpX_payStage Q u (nI s)) (hp : Q 0 u1) : wpX_plain Q u (nI s) (nI 1) :=
  And.intro (vp_in_nI hs (by omega)) (nm_e (br_f (by decide) (br_f (by decide) (br_f (by decide) (br_t rfl (h _ (br_t rfl hp)))))))
theorem xk_1 (hs : s < 8) (h : ∀ Q : Int32 → SX → Prop, Q 1 u1 → wpX_payStage Q u (nI s)) (ho : xa_out u1 = x) (h2 : ∀ Q : Int32 → SX → Prop, Q z u2 → wpX_value Q u1 (nI s) x 0)
    (hp : (xa_stopped u2 = 0 → Q 1 (xs_out u2 z)) ∧ (¬ xa_stopped u2 = 0 → Q 0 (xs_out u2 z))) : wpX_plain Q u (nI s) (nI 1) := by
  subst ho
  refine And.intro (vp_in_nI hs (by omega)) (nm_e (br_f (by decide) (br_f (by decide) (br_f (by decide) (br_t rfl (h _ ?_))))))
  refine br_f (by decide) ?_
  exact h2 _ hp
theorem xk_2 {m c : Int32} {M : Nat → Int32} (hs : s < 8) (hm : xa_memory u s + 1 = m) (hc : xa_constant u s = c) (hM : M = upd (xa_memory u) s m)
    (h1 : m = c → Q 1 (xs_ended (xs_memory u M) (nI s))) (h2 : ¬ m = c → Q 1 (xs_memory u M)) : wpX_plain Q u (nI s) (nI 2) := by
  have e : (nI s).toNatClampNeg = s := nI_clamp (by omega)
  have h8 : vp_in (nI s) 8 := vp_in_nI hs (by omega)
  refine And.intro h8 ?_
  rw [e]
  refine nm_r hc (br_f (by decide) (br_f (by decide) (br_f (by decide) (br_f (by decide) (br_t rfl (And.intro h8 (And.intro h8 (fun a ea => ?_))))))))
  have ea' : a = M := by rw [ea, hM, ← hm]
  subst ea'
  refine br_c (fun h => h1 (hm.symm.trans h)) (fun h => h2 (fun z => h (hm.trans z)))
theorem xk_3 {m c : Int32} {M : Nat → Int32} (hs : s < 8) (hm : xa_memory u s + 1 = m) (hc : xa_constant u s = c) (hM : M = upd (xa_memory u) s m)
    (h1 : xa_memory u s < c → Q 0 (xs_memory u M)) (h2 : ¬ xa_memory u s < c → Q 1 u) : wpX_plain Q u (nI s) (nI 3) := by
  have e : (nI s).toNatClampNeg = s := nI_clamp (by omega)
  have h8 : vp_in (nI s) 8 := vp_in_nI hs (by omega)
  refine And.intro h8 ?_
  rw [e]
  refine nm_r hc (br_f (by decide) (br_f (by decide) (br_f (by decide) (br_f (by decide) (br_f (by decide) (br_t rfl (And.intro h8 (br_c (fun h => And.intro h8 (And.intro h8 (fun a ea => ?_))) h2))))))))
  have ea' : a = M := by rw [ea, hM, ← hm]
  subst ea'
  exact h1 h
theorem xk_4 (hs : s < 8) (h : ∀ Q : Int32 → SX → Prop, Q r u1 → wpX_holds Q u (nI s)) (hr : r = 0 ∨ r = 1)
    (hp : (r = 0 → Q 0 (xs_ended u1 (nI s))) ∧ (r = 1 → Q 1 u1)) : wpX_plain Q u (nI s) (nI 4) := by
  refine And.intro (vp_in_nI hs (by omega)) (nm_e (br_f (by decide) (br_f (by decide) (br_f (by decide) (br_f (by decide) (br_f (by decide) (br_f (by decide) (br_t rfl (h _ ?_)))))))))
  rcases hr with rfl | rfl
  · exact br_t rfl (And.intro nb_0 (hp.1 rfl))
  · exact br_f (by decide) (And.intro nb_1 (hp.2 rfl))
theorem xk_5b (hs : s < 8) (hb : ¬ xa_begun u s = 0) (hp : Q 1 u) : wpX_plain Q u (nI s) (nI 5) := by
  have e : (nI s).toNatClampNeg = s := nI_clamp (by omega)
  have h8 : vp_in (nI s) 8 := vp_in_nI hs (by omega)
  refine And.intro h8 (nm_e (br_f (by decide) (br_t (by decide) (And.intro h8 ?_))))
  rw [e]
  exact br_f hb hp
theorem xk_5 {B : Nat → Int32} {y : Int32} (hs : s < 8) (hb : xa_begun u s = 0) (h : ∀ Q : Int32 → SX → Prop, Q r u1 → wpX_holds Q u (nI s))
    (hy : (r = 1 ∧ y = 0) ∨ (r = 0 ∧ ((xa_stopped u1 = 0 ∧ y = 1) ∨ (¬ xa_stopped u1 = 0 ∧ y = 0)))) (hB : B = upd (xa_begun u1) s y) (hp : Q y (xs_begun u1 B)) : wpX_plain Q u (nI s) (nI 5) := by
  have e : (nI s).toNatClampNeg = s := nI_clamp (by omega)
  have h8 : vp_in (nI s) 8 := vp_in_nI hs (by omega)
  refine And.intro h8 (nm_e (br_f (by decide) (br_t (by decide) (And.intro h8 ?_))))
  rw [e]
  refine br_t hb (h _ ?_)
  have hBs : B s = y := by rw [hB, pk_us]
  rcases hy with ⟨rfl, rfl⟩ | ⟨rfl, ⟨hst, rfl⟩ | ⟨hst, rfl⟩⟩
  · refine br_f (by decide) (And.intro h8 (fun a ea => And.intro h8 ?_))
    have ea' : a = B := by rw [ea, hB, zn_b0]
    subst ea'
    rw [hBs]
    exact And.intro nb_0 hp
  · refine br_t rfl (br_t hst (And.intro h8 (fun a ea => And.intro h8 ?_)))
    have ea' : a = B := by rw [ea, hB, zn_b1]
    subst ea'
    rw [hBs]
    exact And.intro nb_1 hp
  · refine br_t rfl (br_f hst (And.intro h8 (fun a ea => And.intro h8 ?_)))
    have ea' : a = B := by rw [ea, hB, zn_b0]
    subst ea'
    rw [hBs]
    exact And.intro nb_0 hp
/-! several -/
theorem xk_6 {c : Int32} (hs : s < 8) (hc : xa_constant u s = c) (h : ∀ Q : SX → Prop, Q u1 → wpX_openFor Q u (nI s) (xa_out u) (c - 1)) (hp : Q 1 u1) : wpX_several Q u (nI s) (nI 6) := by
  have e : (nI s).toNatClampNeg = s := nI_clamp (by omega)
  refine And.intro (vp_in_nI hs (by omega)) ?_
  rw [e]
  exact nm_r hc (br_f (by decide) (br_f (by decide) (br_t rfl (h _ hp))))
theorem xk_7 (hs : s < 8) (h : ∀ Q : SX → Prop, Q u1 → wpX_openFor Q u (nI s) (xa_out u) 2) (hp : Q 1 u1) : wpX_several Q u (nI s) (nI 7) :=
  And.intro (vp_in_nI hs (by omega)) (nm_e (br_f (by decide) (br_f (by decide) (br_f (by decide) (br_t rfl (h _ hp))))))
theorem xk_8 (hs : s < 8) (hr : r = 0 ∨ r = 1) (h : ∀ Q : Int32 → SX → Prop, Q r u1 → wpX_isNew Q u (nI s) (xa_out u)) (hp : Q r u1) : wpX_several Q u (nI s) (nI 8) :=
  And.intro (vp_in_nI hs (by omega)) (nm_e (br_f (by decide) (br_f (by decide) (br_f (by decide) (br_f (by decide) (br_t rfl (h _ (And.intro (nb_r hr) hp))))))))
theorem xk_9 (hs : s < 8) (hp : Q 1 u) : wpX_several Q u (nI s) (nI 9) :=
  And.intro (vp_in_nI hs (by omega)) (nm_e (br_f (by decide) (br_f (by decide) (br_f (by decide) (br_f (by decide) (br_f (by decide) (br_t rfl hp)))))))
theorem xk_11 (hs : s < 8) (h : ∀ Q : SX → Prop, Q u1 → wpX_openFor Q u (nI s) (xa_out u) 0) (hp : Q 0 u1) : wpX_several Q u (nI s) (nI 11) :=
  And.intro (vp_in_nI hs (by omega)) (nm_e (br_f (by decide) (br_t (by decide) (h _ hp))))
def xl_10 (Q : Int32 → SX → Prop) (s c : Int32) (w : SX) : Prop :=
  vp_in s 8 ∧ (vp_in c 3 ∧ ((xa_place w s.toNatClampNeg < xa_length w c.toNatClampNeg → wpX_payRead (fun r w => (r = 0 → Q 0 w) ∧ (¬ r = 0 → (vp_in s 8 ∧ (vp_in s 8 ∧ ∀ pl : Nat → Int32, pl = upd (xa_place w) s.toNatClampNeg (vp_nar .byte ((xa_place w s.toNatClampNeg + 1).toInt8.toInt32)) →
    (vp_in (24 * c + xa_place w s.toNatClampNeg) 72 ∧ ∀ y : Int32, y = xa_element w (24 * c + xa_place w s.toNatClampNeg).toNatClampNeg → wpX_payStage (fun r w => (r = 0 → Q 0 w) ∧ (¬ r = 0 → wpX_value (fun r w => (xa_stopped w = 0 → Q 1 (xs_out w r)) ∧ (¬ xa_stopped w = 0 → Q 0 (xs_out w r))) w s (xa_out w) y)) (xs_place w pl) s))))) w c) ∧
    (¬ xa_place w s.toNatClampNeg < xa_length w c.toNatClampNeg → Q 0 (xs_ended w s))))
theorem xk_10 {c : Int32} (hs : s < 8) (hc : xa_constant u s = c) (h : xl_10 Q (nI s) c u) : wpX_several Q u (nI s) (nI 10) := by
  have e : (nI s).toNatClampNeg = s := nI_clamp (by omega)
  refine And.intro (vp_in_nI hs (by omega)) ?_
  rw [e]
  refine nm_r hc (br_f (by decide) (br_f (by decide) (br_f (by decide) (br_f (by decide) (br_f (by decide) (br_f (by decide) (br_t rfl ?_)))))))
  unfold xl_10 at h
  rw [e] at h
  exact h
/-! gathering -/
theorem xk_12a {M B : Nat → Int32} (hs : s < 8) (hb : xa_begun u s = 0) (h0 : xa_stopped u = 0) (hB : B = upd (xa_begun u) s 1) (hM : M = upd (xa_memory u) s (xa_out u)) (hp : Q 1 (xm_mb u M B)) : wpX_gathering Q u (nI s) (nI 12) := by
  have e : (nI s).toNatClampNeg = s := nI_clamp (by omega)
  have h8 : vp_in (nI s) 8 := vp_in_nI hs (by omega)
  refine br_f (by decide) (br_f (by decide) (br_t rfl (And.intro h8 ?_)))
  rw [e]
  refine br_t hb (And.intro h8 (fun a ea => And.intro h8 (fun m em => ?_)))
  rw [e, zn_b1, ← hB] at ea
  rw [e, ← hM] at em
  subst ea
  subst em
  exact br_t h0 hp
theorem xk_12n (hs : s < 8) (hb : ¬ xa_begun u s = 0) (h : ∀ Q : Int32 → SX → Prop, Q 0 u1 → wpX_payStage Q u (nI s)) (hp : Q 0 u1) : wpX_gathering Q u (nI s) (nI 12) := by
  have e : (nI s).toNatClampNeg = s := nI_clamp (by omega)
  have h8 : vp_in (nI s) 8 := vp_in_nI hs (by omega)
  refine br_f (by decide) (br_f (by decide) (br_t rfl (And.intro h8 ?_)))
  rw [e]
  exact br_f hb (h _ (br_t rfl hp))
theorem xk_12 {y o : Int32} {M B : Nat → Int32} (hs : s < 8) (hb : ¬ xa_begun u s = 0) (h : ∀ Q : Int32 → SX → Prop, Q 1 u1 → wpX_payStage Q u (nI s)) (ho : xa_out u = o) (hy : xa_memory u1 s = y)
    (h2 : ∀ Q : Int32 → SX → Prop, Q z u2 → wpX_value Q u1 (nI s) o y) (hB : B = upd (xa_begun u2) s 1) (hM : M = upd (xa_memory u2) s z)
    (hp : (xa_stopped u2 = 0 → Q 1 (xm_omb u2 z M B)) ∧ (¬ xa_stopped u2 = 0 → Q 0 (xm_omb u2 z M B))) : wpX_gathering Q u (nI s) (nI 12) := by
  have e : (nI s).toNatClampNeg = s := nI_clamp (by omega)
  have h8 : vp_in (nI s) 8 := vp_in_nI hs (by omega)
  subst ho
  subst hy
  refine br_f (by decide) (br_f (by decide) (br_t rfl (And.intro h8 ?_)))
  rw [e]
  refine br_f hb (h _ ?_)
  refine br_f (by decide) (And.intro h8 ?_)
  refine h2 _ ?_
  refine And.intro h8 (fun a ea => And.intro h8 (fun m em => ?_))
  rw [e, zn_b1] at ea
  have ea' : a = B := by rw [ea, hB]
  rw [e] at em
  have em' : m = M := by rw [em, hM]
  subst ea'
  subst em'
  exact hp
theorem xk_13 {M B : Nat → Int32} {o : Int32} (hs : s < 8) (ho : xa_out u - xa_memory u s = o) (hB : B = upd (xa_begun u) s 1) (hM : M = upd (xa_memory u) s (xa_out u))
    (h1 : xa_begun u s = 0 → Q 0 (xm_omb u o M B)) (h2 : ¬ xa_begun u s = 0 → Q 1 (xm_omb u o M B)) : wpX_gathering Q u (nI s) (nI 13) := by
  have e : (nI s).toNatClampNeg = s := nI_clamp (by omega)
  have h8 : vp_in (nI s) 8 := vp_in_nI hs (by omega)
  refine br_f (by decide) (br_f (by decide) (br_f (by decide) (br_t rfl (And.intro h8 ?_))))
  rw [e]
  refine br_c (fun hb => And.intro h8 ?_) (fun hb => And.intro h8 ?_)
  · rw [e]
    refine nm_r ho (And.intro h8 (fun m em => And.intro h8 (fun a ea => ?_)))
    rw [zn_b1, ← hB] at ea
    rw [← hM] at em
    subst ea
    subst em
    exact br_f (by decide) (h1 hb)
  · rw [e]
    refine nm_r ho (And.intro h8 (fun m em => And.intro h8 (fun a ea => ?_)))
    rw [zn_b1, ← hB] at ea
    rw [← hM] at em
    subst ea
    subst em
    exact br_t rfl (h2 hb)
theorem xk_14n (h : ∀ Q : Int32 → SX → Prop, Q 0 u1 → wpX_payStage Q u (nI s)) (hp : Q 0 u1) : wpX_gathering Q u (nI s) (nI 14) :=
  br_f (by decide) (br_f (by decide) (br_f (by decide) (br_f (by decide) (br_t rfl (h _ (br_t rfl hp))))))
theorem xk_14 {o : Int32} (h : ∀ Q : Int32 → SX → Prop, Q 1 u1 → wpX_payStage Q u (nI s)) (ho : xa_out u = o) (h2 : ∀ Q : Int32 → SX → Prop, Q z u2 → wpX_value Q u1 (nI s) o 0)
    (hp : (xa_stopped u2 = 0 → wpX_insert (fun w => Q 0 w) u2 (nI s) o z) ∧ (¬ xa_stopped u2 = 0 → Q 0 u2)) : wpX_gathering Q u (nI s) (nI 14) := by
  subst ho
  refine br_f (by decide) (br_f (by decide) (br_f (by decide) (br_f (by decide) (br_t rfl (h _ ?_)))))
  refine br_f (by decide) ?_
  exact h2 _ hp
theorem xk_15 (h : ∀ Q : Int32 → SX → Prop, Q r u1 → wpX_hold Q u (nI s) (xa_out u) 0) (hp : Q 0 u1) : wpX_gathering Q u (nI s) (nI 15) :=
  br_f (by decide) (br_f (by decide) (br_f (by decide) (br_f (by decide) (br_f (by decide) (br_t rfl (h (fun _ w => Q 0 w) hp))))))
theorem xk_16n (h : ∀ Q : Int32 → SX → Prop, Q 0 u1 → wpX_payStage Q u (nI s)) (hp : Q 0 u1) : wpX_gathering Q u (nI s) (nI 16) :=
  br_f (by decide) (br_t (by decide) (h _ (br_t rfl hp)))
theorem xk_16 {o : Int32} (h : ∀ Q : Int32 → SX → Prop, Q 1 u1 → wpX_payStage Q u (nI s)) (ho : xa_out u = o) (h2 : ∀ Q : Int32 → SX → Prop, Q z u2 → wpX_value Q u1 (nI s) o 0)
    (hp : (xa_stopped u2 = 0 → wpX_group (fun w => Q 0 w) u2 (nI s) o z) ∧ (¬ xa_stopped u2 = 0 → Q 0 u2)) : wpX_gathering Q u (nI s) (nI 16) := by
  subst ho
  refine br_f (by decide) (br_t (by decide) (h _ ?_))
  refine br_f (by decide) ?_
  exact h2 _ hp
end
end
section
/-! Y: what each kind does with an element -/
def ym_vb (u : SY) (z_v : Int32) (z_begun : Nat → Int32) : SY := (u.1, u.2.1, u.2.2.1, u.2.2.2.1, u.2.2.2.2.1, u.2.2.2.2.2.1, u.2.2.2.2.2.2.1, u.2.2.2.2.2.2.2.1, z_v, u.2.2.2.2.2.2.2.2.2.1, u.2.2.2.2.2.2.2.2.2.2.1, u.2.2.2.2.2.2.2.2.2.2.2.1, u.2.2.2.2.2.2.2.2.2.2.2.2.1, u.2.2.2.2.2.2.2.2.2.2.2.2.2.1, u.2.2.2.2.2.2.2.2.2.2.2.2.2.2.1, u.2.2.2.2.2.2.2.2.2.2.2.2.2.2.2.1, u.2.2.2.2.2.2.2.2.2.2.2.2.2.2.2.2.1, u.2.2.2.2.2.2.2.2.2.2.2.2.2.2.2.2.2.1, u.2.2.2.2.2.2.2.2.2.2.2.2.2.2.2.2.2.2.1, u.2.2.2.2.2.2.2.2.2.2.2.2.2.2.2.2.2.2.2.1, u.2.2.2.2.2.2.2.2.2.2.2.2.2.2.2.2.2.2.2.2.1, u.2.2.2.2.2.2.2.2.2.2.2.2.2.2.2.2.2.2.2.2.2.1, u.2.2.2.2.2.2.2.2.2.2.2.2.2.2.2.2.2.2.2.2.2.2.1, z_begun, u.2.2.2.2.2.2.2.2.2.2.2.2.2.2.2.2.2.2.2.2.2.2.2.2)
def ym_ll (u : SY) (z_left : Nat → Int32) (z_last : Nat → Int32) : SY := (u.1, u.2.1, u.2.2.1, u.2.2.2.1, u.2.2.2.2.1, u.2.2.2.2.2.1, u.2.2.2.2.2.2.1, u.2.2.2.2.2.2.2.1, u.2.2.2.2.2.2.2.2.1, u.2.2.2.2.2.2.2.2.2.1, u.2.2.2.2.2.2.2.2.2.2.1, u.2.2.2.2.2.2.2.2.2.2.2.1, u.2.2.2.2.2.2.2.2.2.2.2.2.1, u.2.2.2.2.2.2.2.2.2.2.2.2.2.1, u.2.2.2.2.2.2.2.2.2.2.2.2.2.2.1, u.2.2.2.2.2.2.2.2.2.2.2.2.2.2.2.1, u.2.2.2.2.2.2.2.2.2.2.2.2.2.2.2.2.1, u.2.2.2.2.2.2.2.2.2.2.2.2.2.2.2.2.2.1, u.2.2.2.2.2.2.2.2.2.2.2.2.2.2.2.2.2.2.1, u.2.2.2.2.2.2.2.2.2.2.2.2.2.2.2.2.2.2.2.1, z_left, z_last, u.2.2.2.2.2.2.2.2.2.2.2.2.2.2.2.2.2.2.2.2.2.2)
def ym_lb (u : SY) (z_last : Nat → Int32) (z_begun : Nat → Int32) : SY := (u.1, u.2.1, u.2.2.1, u.2.2.2.1, u.2.2.2.2.1, u.2.2.2.2.2.1, u.2.2.2.2.2.2.1, u.2.2.2.2.2.2.2.1, u.2.2.2.2.2.2.2.2.1, u.2.2.2.2.2.2.2.2.2.1, u.2.2.2.2.2.2.2.2.2.2.1, u.2.2.2.2.2.2.2.2.2.2.2.1, u.2.2.2.2.2.2.2.2.2.2.2.2.1, u.2.2.2.2.2.2.2.2.2.2.2.2.2.1, u.2.2.2.2.2.2.2.2.2.2.2.2.2.2.1, u.2.2.2.2.2.2.2.2.2.2.2.2.2.2.2.1, u.2.2.2.2.2.2.2.2.2.2.2.2.2.2.2.2.1, u.2.2.2.2.2.2.2.2.2.2.2.2.2.2.2.2.2.1, u.2.2.2.2.2.2.2.2.2.2.2.2.2.2.2.2.2.2.1, u.2.2.2.2.2.2.2.2.2.2.2.2.2.2.2.2.2.2.2.1, u.2.2.2.2.2.2.2.2.2.2.2.2.2.2.2.2.2.2.2.2.1, z_last, u.2.2.2.2.2.2.2.2.2.2.2.2.2.2.2.2.2.2.2.2.2.2.1, z_begun, u.2.2.2.2.2.2.2.2.2.2.2.2.2.2.2.2.2.2.2.2.2.2.2.2)
def ym_vlb (u : SY) (z_v : Int32) (z_last : Nat → Int32) (z_begun : Nat → Int32) : SY := (u.1, u.2.1, u.2.2.1, u.2.2.2.1, u.2.2.2.2.1, u.2.2.2.2.2.1, u.2.2.2.2.2.2.1, u.2.2.2.2.2.2.2.1, z_v, u.2.2.2.2.2.2.2.2.2.1, u.2.2.2.2.2.2.2.2.2.2.1, u.2.2.2.2.2.2.2.2.2.2.2.1, u.2.2.2.2.2.2.2.2.2.2.2.2.1, u.2.2.2.2.2.2.2.2.2.2.2.2.2.1, u.2.2.2.2.2.2.2.2.2.2.2.2.2.2.1, u.2.2.2.2.2.2.2.2.2.2.2.2.2.2.2.1, u.2.2.2.2.2.2.2.2.2.2.2.2.2.2.2.2.1, u.2.2.2.2.2.2.2.2.2.2.2.2.2.2.2.2.2.1, u.2.2.2.2.2.2.2.2.2.2.2.2.2.2.2.2.2.2.1, u.2.2.2.2.2.2.2.2.2.2.2.2.2.2.2.2.2.2.2.1, u.2.2.2.2.2.2.2.2.2.2.2.2.2.2.2.2.2.2.2.2.1, z_last, u.2.2.2.2.2.2.2.2.2.2.2.2.2.2.2.2.2.2.2.2.2.2.1, z_begun, u.2.2.2.2.2.2.2.2.2.2.2.2.2.2.2.2.2.2.2.2.2.2.2.2)
def ym_lpb (u : SY) (z_last : Nat → Int32) (z_place : Nat → Int32) (z_begun : Nat → Int32) : SY := (u.1, u.2.1, u.2.2.1, u.2.2.2.1, u.2.2.2.2.1, u.2.2.2.2.2.1, u.2.2.2.2.2.2.1, u.2.2.2.2.2.2.2.1, u.2.2.2.2.2.2.2.2.1, u.2.2.2.2.2.2.2.2.2.1, u.2.2.2.2.2.2.2.2.2.2.1, u.2.2.2.2.2.2.2.2.2.2.2.1, u.2.2.2.2.2.2.2.2.2.2.2.2.1, u.2.2.2.2.2.2.2.2.2.2.2.2.2.1, u.2.2.2.2.2.2.2.2.2.2.2.2.2.2.1, u.2.2.2.2.2.2.2.2.2.2.2.2.2.2.2.1, u.2.2.2.2.2.2.2.2.2.2.2.2.2.2.2.2.1, u.2.2.2.2.2.2.2.2.2.2.2.2.2.2.2.2.2.1, u.2.2.2.2.2.2.2.2.2.2.2.2.2.2.2.2.2.2.1, u.2.2.2.2.2.2.2.2.2.2.2.2.2.2.2.2.2.2.2.1, u.2.2.2.2.2.2.2.2.2.2.2.2.2.2.2.2.2.2.2.2.1, z_last, z_place, z_begun, u.2.2.2.2.2.2.2.2.2.2.2.2.2.2.2.2.2.2.2.2.2.2.2.2)
theorem kn_ne {y : Int32} {a b : Nat} (h : y = nI a) (hab : a ≠ b) (ha : a < 1000) (hb : b < 1000) : ¬ y = nI b := by
  rw [h]
  exact fun e => hab ((nI_eq (by omega) (by omega)).mp e)
section
variable {Q : Int32 → SY → Prop} {v v1 v2 : SY} {s k : Nat} {x z r : Int32}
theorem yk_in (hs : s < 8) (hk : ya_kinds v s = nI k) (hk11 : k ≤ 11)
    (h : (k = 0 ∨ k = 4 ∨ k = 5 → wY_came_72 Q (nI s) (ya_v v) (ya_limit v) (ya_source v) (ya_stages v) (ya_wrongAt v) (ya_paid v) (ya_at v) (ya_seenCount v) (ya_failedAt v) (ya_v v) (ya_valTop v) (ya_opTop v) (ya_ran v) (ya_broken v) (ya_outcome v) (ya_lists v) (ya_sizes v) (ya_tokens v) (ya_counts v) (ya_kinds v) (ya_numbers v) (ya_left v) (ya_last v) (ya_place v) (ya_begun v) (ya_held v) (ya_keys v) (ya_holds v) (ya_applied v) (ya_reads v) (ya_seen v) (ya_vals v) (ya_ops v)) ∧ (k = 1 → wpY_apply (fun r w => (r = 0 → Q 3 w) ∧ (¬ r = 0 → Q 1 w)) v (nI s) (ya_v v) 0) ∧
      (k = 2 → ∀ a : Nat → Int32, a = upd (ya_left v) s (ya_left v s + 1) → Q 1 (ys_left v a)) ∧
      (k = 3 → ∀ a : Nat → Int32, a = upd (ya_left v) s (ya_left v s + 1) → ((ya_numbers v s < a s → Q 1 (ys_left v a)) ∧ (¬ ya_numbers v s < a s → ((1 ≤ ya_numbers v s → Q 2 (ys_left v a)) ∧ (¬ 1 ≤ ya_numbers v s → Q 1 (ys_left v a)))))) ∧
      (k = 6 ∨ k = 7 → wY_came_250 Q (nI s) (ya_v v) (ya_limit v) (ya_source v) (ya_stages v) (ya_wrongAt v) (ya_paid v) (ya_at v) (ya_seenCount v) (ya_failedAt v) (ya_v v) (ya_valTop v) (ya_opTop v) (ya_ran v) (ya_broken v) (ya_outcome v) (ya_lists v) (ya_sizes v) (ya_tokens v) (ya_counts v) (ya_kinds v) (ya_numbers v) (ya_left v) (ya_last v) (ya_place v) (ya_begun v) (ya_held v) (ya_keys v) (ya_holds v) (ya_applied v) (ya_reads v) (ya_seen v) (ya_vals v) (ya_ops v)) ∧ (k = 8 → wpY_known (fun r w => (r = 0 → Q 1 w) ∧ (¬ r = 0 → Q 2 w)) v (nI s) (ya_v v)) ∧ (k = 9 → Q 1 v) ∧
      (k = 10 → ∀ a : Nat → Int32, a = upd (ya_place v) s (ya_place v s + 1) → wpY_fetch (fun r w => (r = 1 → wpY_apply (fun r w => (r = 0 → Q 3 w) ∧ (¬ r = 0 → Q 1 w)) w (nI s) (ya_v v) (ya_v w)) ∧ (¬ r = 1 → Q r w)) (ys_place v a) (ya_numbers v s) (ya_place v s)) ∧
      (k = 11 → ∀ a b c : Nat → Int32, a = upd (ya_last v) s (ya_v v) → b = upd (ya_place v) s 0 → c = upd (ya_begun v) s 1 → wpY_match Q (ym_lpb v a b c) (nI s))) : wpY_came Q v (nI s) := by
  have e : (nI s).toNatClampNeg = s := nI_clamp (by omega)
  have h8 : vp_in (nI s) 8 := vp_in_nI hs (by omega)
  obtain ⟨h0, h1, h2, h3, h6, h7, h9, h10, h11⟩ := h
  refine And.intro h8 ?_
  rw [e]
  refine nm_r hk (br_f (nI_pos (by omega)) (br_f (nI_nlt (a := 11) hk11 (by omega)) ?_))
  have hc : k = 0 ∨ k = 1 ∨ k = 2 ∨ k = 3 ∨ k = 4 ∨ k = 5 ∨ k = 6 ∨ k = 7 ∨ k = 8 ∨ k = 9 ∨ k = 10 ∨ k = 11 := by omega
  rcases hc with rfl | rfl | rfl | rfl | rfl | rfl | rfl | rfl | rfl | rfl | rfl | rfl
  · exact br_t rfl (h0 (Or.inl rfl))
  · exact br_f (by decide) (br_t rfl (h1 rfl))
  · exact br_f (by decide) (br_f (by decide) (br_t rfl (And.intro h8 (And.intro h8 (h2 rfl)))))
  · refine br_f (by decide) (br_f (by decide) (br_f (by decide) (br_t rfl (And.intro h8 (And.intro h8 (fun a ea => And.intro h8 (And.intro h8 ?_)))))))
    have g := h3 rfl a ea
    exact br_c g.1 (fun c => And.intro h8 (g.2 c))
  · exact br_f (by decide) (br_f (by decide) (br_f (by decide) (br_f (by decide) (br_t rfl (h0 (Or.inr (Or.inl rfl)))))))
  · exact br_f (by decide) (br_f (by decide) (br_f (by decide) (br_f (by decide) (br_f (by decide) (br_t rfl (h0 (Or.inr (Or.inr rfl))))))))
  · exact br_f (by decide) (br_f (by decide) (br_f (by decide) (br_f (by decide) (br_f (by decide) (br_f (by decide) (br_t rfl (h6 (Or.inl rfl))))))))
  · exact br_f (by decide) (br_f (by decide) (br_f (by decide) (br_f (by decide) (br_f (by decide) (br_f (by decide) (br_f (by decide) (br_t rfl (h6 (Or.inr rfl)))))))))
  · exact br_f (by decide) (br_f (by decide) (br_f (by decide) (br_f (by decide) (br_f (by decide) (br_f (by decide) (br_f (by decide) (br_f (by decide) (br_t rfl (h7 rfl)))))))))
  · exact br_f (by decide) (br_f (by decide) (br_f (by decide) (br_f (by decide) (br_f (by decide) (br_f (by decide) (br_f (by decide) (br_f (by decide) (br_f (by decide) (br_t rfl (h9 rfl))))))))))
  · exact br_f (by decide) (br_f (by decide) (br_f (by decide) (br_f (by decide) (br_f (by decide) (br_f (by decide) (br_f (by decide) (br_f (by decide) (br_f (by decide) (br_f (by decide) (br_t rfl (And.intro h8 (And.intro h8 (And.intro h8 (h10 rfl))))))))))))))
  · refine br_f (by decide) (br_f (by decide) (br_f (by decide) (br_f (by decide) (br_f (by decide) (br_f (by decide) (br_f (by decide) (br_f (by decide) (br_f (by decide) (br_f (by decide) (br_f (by decide) (br_t rfl (And.intro h8 (fun a ea => And.intro h8 (fun b eb => And.intro h8 (fun c ec => ?_)))))))))))))))
    rw [zn_b1] at ec
    exact h11 rfl a b c ea eb ec
/-- the tests: kinds 0, 4 and 5 -/
theorem yk_72b (hs : s < 8) (hk : ya_kinds v s = nI 5) (hb : ¬ ya_begun v s = 0) (hp : Q 1 v) : wY_came_72 Q (nI s) x (ya_limit v) (ya_source v) (ya_stages v) (ya_wrongAt v) (ya_paid v) (ya_at v) (ya_seenCount v) (ya_failedAt v) (ya_v v) (ya_valTop v) (ya_opTop v) (ya_ran v) (ya_broken v) (ya_outcome v) (ya_lists v) (ya_sizes v) (ya_tokens v) (ya_counts v) (ya_kinds v) (ya_numbers v) (ya_left v) (ya_last v) (ya_place v) (ya_begun v) (ya_held v) (ya_keys v) (ya_holds v) (ya_applied v) (ya_reads v) (ya_seen v) (ya_vals v) (ya_ops v) := by
  have e : (nI s).toNatClampNeg = s := nI_clamp (by omega)
  have h8 : vp_in (nI s) 8 := vp_in_nI hs (by omega)
  refine And.intro h8 ?_
  rw [e]
  refine br_t hk (And.intro h8 (br_f hb hp))
theorem yk_93 (hs : s < 8) (hk : ya_kinds v s = nI k) (hk' : k ≤ 16) (hb : k = 5 → ya_begun v s = 0) (hp : wY_came_93 Q (nI s) x (ya_limit v) (ya_source v) (ya_stages v) (ya_wrongAt v) (ya_paid v) (ya_at v) (ya_seenCount v) (ya_failedAt v) (ya_v v) (ya_valTop v) (ya_opTop v) (ya_ran v) (ya_broken v) (ya_outcome v) (ya_lists v) (ya_sizes v) (ya_tokens v) (ya_counts v) (ya_kinds v) (ya_numbers v) (ya_left v) (ya_last v) (ya_place v) (ya_begun v) (ya_held v) (ya_keys v) (ya_holds v) (ya_applied v) (ya_reads v) (ya_seen v) (ya_vals v) (ya_ops v)) : wY_came_72 Q (nI s) x (ya_limit v) (ya_source v) (ya_stages v) (ya_wrongAt v) (ya_paid v) (ya_at v) (ya_seenCount v) (ya_failedAt v) (ya_v v) (ya_valTop v) (ya_opTop v) (ya_ran v) (ya_broken v) (ya_outcome v) (ya_lists v) (ya_sizes v) (ya_tokens v) (ya_counts v) (ya_kinds v) (ya_numbers v) (ya_left v) (ya_last v) (ya_place v) (ya_begun v) (ya_held v) (ya_keys v) (ya_holds v) (ya_applied v) (ya_reads v) (ya_seen v) (ya_vals v) (ya_ops v) := by
  have e : (nI s).toNatClampNeg = s := nI_clamp (by omega)
  have h8 : vp_in (nI s) 8 := vp_in_nI hs (by omega)
  refine And.intro h8 ?_
  rw [e]
  refine br_c (fun h => And.intro h8 (br_t (hb ?_) hp)) (fun _ => hp)
  have h' : nI k = nI 5 := hk.symm.trans h
  exact (nI_eq (by omega) (by omega)).mp h'
theorem yk_93n (h : ∀ Q : Int32 → SY → Prop, Q 0 v1 → wpY_apply Q v (nI s) x 0) (hp : Q 3 v1) : wY_came_93 Q (nI s) x (ya_limit v) (ya_source v) (ya_stages v) (ya_wrongAt v) (ya_paid v) (ya_at v) (ya_seenCount v) (ya_failedAt v) (ya_v v) (ya_valTop v) (ya_opTop v) (ya_ran v) (ya_broken v) (ya_outcome v) (ya_lists v) (ya_sizes v) (ya_tokens v) (ya_counts v) (ya_kinds v) (ya_numbers v) (ya_left v) (ya_last v) (ya_place v) (ya_begun v) (ya_held v) (ya_keys v) (ya_holds v) (ya_applied v) (ya_reads v) (ya_seen v) (ya_vals v) (ya_ops v) := by
  unfold wY_came_93
  refine h _ ?_
  exact br_t rfl hp
theorem yk_93y {B : Nat → Int32} {y a : Int32} (hs : s < 8) (h : ∀ Q : Int32 → SY → Prop, Q 1 v1 → wpY_apply Q v (nI s) x 0) (hk : ya_kinds v1 s = nI k) (hk' : k = 0 ∨ k = 4 ∨ k = 5) (hz : ya_v v1 = z)
    (hy : (z = 0 ∧ y = 1 ∧ a = (if k = 5 then 1 else if k = 0 then 2 else 0)) ∨ (¬ z = 0 ∧ y = 0 ∧ a = (if k = 5 then 2 else 1)))
    (hB : B = upd (ya_begun v1) s y) (hp : Q a (ym_vb v1 x B)) : wY_came_93 Q (nI s) x (ya_limit v) (ya_source v) (ya_stages v) (ya_wrongAt v) (ya_paid v) (ya_at v) (ya_seenCount v) (ya_failedAt v) (ya_v v) (ya_valTop v) (ya_opTop v) (ya_ran v) (ya_broken v) (ya_outcome v) (ya_lists v) (ya_sizes v) (ya_tokens v) (ya_counts v) (ya_kinds v) (ya_numbers v) (ya_left v) (ya_last v) (ya_place v) (ya_begun v) (ya_held v) (ya_keys v) (ya_holds v) (ya_applied v) (ya_reads v) (ya_seen v) (ya_vals v) (ya_ops v) := by
  have e : (nI s).toNatClampNeg = s := nI_clamp (by omega)
  have h8 : vp_in (nI s) 8 := vp_in_nI hs (by omega)
  unfold wY_came_93
  refine h _ ?_
  refine br_f (by decide) ?_
  have hk2 : ∀ w : SY, ya_kinds (ym_vb v1 x B) s = nI k := fun _ => hk
  rcases hy with ⟨z0, rfl, rfl⟩ | ⟨z0, rfl, rfl⟩
  · refine br_t (hz.trans z0) (br_t rfl (And.intro h8 (fun b eb => And.intro h8 ?_)))
    rw [e, zn_b1] at eb
    have eb' : b = B := by rw [eb, hB]
    subst eb'
    rw [e]
    rcases hk' with rfl | rfl | rfl
    · exact br_f (kn_ne (b := 5) hk (by decide) (by decide) (by decide)) (br_t rfl (And.intro h8 (br_t hk hp)))
    · exact br_f (kn_ne (b := 5) hk (by decide) (by decide) (by decide)) (br_t rfl (And.intro h8 (br_f (kn_ne (b := 0) hk (by decide) (by decide) (by decide)) hp)))
    · exact br_t hk (br_t rfl hp)
  · refine br_f (fun q => z0 (hz.symm.trans q)) (br_f (by decide) (And.intro h8 (fun b eb => And.intro h8 ?_)))
    rw [e, zn_b0] at eb
    have eb' : b = B := by rw [eb, hB]
    subst eb'
    rw [e]
    rcases hk' with rfl | rfl | rfl
    · exact br_f (kn_ne (b := 5) hk (by decide) (by decide) (by decide)) (br_f (by decide) hp)
    · exact br_f (kn_ne (b := 5) hk (by decide) (by decide) (by decide)) (br_f (by decide) hp)
    · exact br_t hk (br_f (by decide) hp)
theorem yk_250 {A B : Nat → Int32} {l : Int32} (hs : s < 8) (hk : ya_kinds v s = nI k) (hk' : k = 6 ∨ k = 7) (hl : (k = 6 ∧ l = ya_numbers v s - 1) ∨ (k = 7 ∧ l = 2)) (hA : A = upd (ya_left v) s l) (hB : B = upd (ya_last v) s x)
    (hp : Q 1 (ym_ll v A B)) : wY_came_250 Q (nI s) x (ya_limit v) (ya_source v) (ya_stages v) (ya_wrongAt v) (ya_paid v) (ya_at v) (ya_seenCount v) (ya_failedAt v) (ya_v v) (ya_valTop v) (ya_opTop v) (ya_ran v) (ya_broken v) (ya_outcome v) (ya_lists v) (ya_sizes v) (ya_tokens v) (ya_counts v) (ya_kinds v) (ya_numbers v) (ya_left v) (ya_last v) (ya_place v) (ya_begun v) (ya_held v) (ya_keys v) (ya_holds v) (ya_applied v) (ya_reads v) (ya_seen v) (ya_vals v) (ya_ops v) := by
  have e : (nI s).toNatClampNeg = s := nI_clamp (by omega)
  have h8 : vp_in (nI s) 8 := vp_in_nI hs (by omega)
  refine And.intro h8 (fun b eb => And.intro h8 ?_)
  rw [e, ← hB] at eb
  subst eb
  rw [e]
  rcases hl with ⟨rfl, rfl⟩ | ⟨rfl, rfl⟩
  · refine br_f (by rw [hk]; decide) (And.intro h8 (And.intro h8 (fun a ea => ?_)))
    rw [← hA] at ea
    subst ea
    exact hp
  · refine br_t hk (And.intro h8 (fun a ea => ?_))
    rw [← hA] at ea
    subst ea
    exact hp
theorem yk_known (h : ∀ Q : Int32 → Prop, Q r → wpY_find Q v (nI s) x) (hp : (r < 0 → wpY_hold (fun w => Q 0 w) v (nI s) x x) ∧ (¬ r < 0 → Q 1 v)) : wpY_known Q v (nI s) x := by
  unfold wpY_known
  refine h _ ?_
  exact hp
/-! kinds 12 to 16 -/
theorem yk_later (hs : s < 8) (hk : ya_kinds v s = nI k) (hk12 : 12 ≤ k) (hk16 : k ≤ 16)
    (h : (k = 12 → ((ya_begun v s = 0 → wY_cameLater_62 Q (nI s) (ya_limit v) (ya_source v) (ya_stages v) (ya_wrongAt v) (ya_paid v) (ya_at v) (ya_seenCount v) (ya_failedAt v) (ya_v v) (ya_valTop v) (ya_opTop v) (ya_ran v) (ya_broken v) (ya_outcome v) (ya_lists v) (ya_sizes v) (ya_tokens v) (ya_counts v) (ya_kinds v) (ya_numbers v) (ya_left v) (ya_last v) (ya_place v) (ya_begun v) (ya_held v) (ya_keys v) (ya_holds v) (ya_applied v) (ya_reads v) (ya_seen v) (ya_vals v) (ya_ops v)) ∧ (¬ ya_begun v s = 0 → wpY_apply (fun r w => (r = 0 → Q 3 w) ∧ (¬ r = 0 → wY_cameLater_62 Q (nI s) (ya_limit w) (ya_source w) (ya_stages w) (ya_wrongAt w) (ya_paid w) (ya_at w) (ya_seenCount w) (ya_failedAt w) (ya_v w) (ya_valTop w) (ya_opTop w) (ya_ran w) (ya_broken w) (ya_outcome w) (ya_lists w) (ya_sizes w) (ya_tokens w) (ya_counts w) (ya_kinds w) (ya_numbers w) (ya_left w) (ya_last w) (ya_place w) (ya_begun w) (ya_held w) (ya_keys w) (ya_holds w) (ya_applied w) (ya_reads w) (ya_seen w) (ya_vals w) (ya_ops w))) v (nI s) (ya_v v) (ya_last v s)))) ∧
      (k = 13 → ((ya_begun v s = 0 → wY_cameLater_95 Q (nI s) (ya_v v) 1 (ya_limit v) (ya_source v) (ya_stages v) (ya_wrongAt v) (ya_paid v) (ya_at v) (ya_seenCount v) (ya_failedAt v) (ya_v v) (ya_valTop v) (ya_opTop v) (ya_ran v) (ya_broken v) (ya_outcome v) (ya_lists v) (ya_sizes v) (ya_tokens v) (ya_counts v) (ya_kinds v) (ya_numbers v) (ya_left v) (ya_last v) (ya_place v) (ya_begun v) (ya_held v) (ya_keys v) (ya_holds v) (ya_applied v) (ya_reads v) (ya_seen v) (ya_vals v) (ya_ops v)) ∧ (¬ ya_begun v s = 0 → wY_cameLater_95 Q (nI s) (ya_v v) 0 (ya_limit v) (ya_source v) (ya_stages v) (ya_wrongAt v) (ya_paid v) (ya_at v) (ya_seenCount v) (ya_failedAt v) (ya_v v) (ya_valTop v) (ya_opTop v) (ya_ran v) (ya_broken v) (ya_outcome v) (ya_lists v) (ya_sizes v) (ya_tokens v) (ya_counts v) (ya_kinds v) (ya_numbers v) (ya_left v) (ya_last v) (ya_place v) (ya_begun v) (ya_held v) (ya_keys v) (ya_holds v) (ya_applied v) (ya_reads v) (ya_seen v) (ya_vals v) (ya_ops v)))) ∧
      (k = 15 → wpY_hold (fun w => Q 2 w) v (nI s) (ya_v v) 0) ∧ (k = 14 ∨ k = 16 → wY_cameLater_141 Q (nI s) (ya_v v) (ya_limit v) (ya_source v) (ya_stages v) (ya_wrongAt v) (ya_paid v) (ya_at v) (ya_seenCount v) (ya_failedAt v) (ya_v v) (ya_valTop v) (ya_opTop v) (ya_ran v) (ya_broken v) (ya_outcome v) (ya_lists v) (ya_sizes v) (ya_tokens v) (ya_counts v) (ya_kinds v) (ya_numbers v) (ya_left v) (ya_last v) (ya_place v) (ya_begun v) (ya_held v) (ya_keys v) (ya_holds v) (ya_applied v) (ya_reads v) (ya_seen v) (ya_vals v) (ya_ops v))) : wpY_came Q v (nI s) := by
  have e : (nI s).toNatClampNeg = s := nI_clamp (by omega)
  have h8 : vp_in (nI s) 8 := vp_in_nI hs (by omega)
  obtain ⟨h1, h2, h3, h4⟩ := h
  have hl : wpY_cameLater Q v (nI s) (ya_v v) := by
    refine And.intro h8 ?_
    rw [e]
    refine nm_r hk (br_f (nI_nlt (b := 12) hk12 (by omega)) ?_)
    have hc : k = 12 ∨ k = 13 ∨ k = 14 ∨ k = 15 ∨ k = 16 := by omega
    rcases hc with rfl | rfl | rfl | rfl | rfl
    · refine br_f (by decide) (br_t rfl (And.intro h8 (br_c (h1 rfl).1 (fun hb => And.intro h8 ((h1 rfl).2 hb)))))
    · exact br_f (by decide) (br_f (by decide) (br_t rfl (And.intro h8 (h2 rfl))))
    · exact br_f (by decide) (br_f (by decide) (br_f (by decide) (br_t rfl (h4 (Or.inl rfl)))))
    · exact br_f (by decide) (br_f (by decide) (br_f (by decide) (br_f (by decide) (br_t rfl (h3 rfl)))))
    · exact br_t (by decide) (h4 (Or.inr rfl))
  refine And.intro h8 ?_
  rw [e]
  exact nm_r hk (br_f (nI_pos (by omega)) (br_t (nI_lt (a := 11) (by omega) (by omega)) hl))
theorem yk_62 {A B : Nat → Int32} (hs : s < 8) (hA : A = upd (ya_last v) s (ya_v v)) (hB : B = upd (ya_begun v) s 1) (hp : Q 1 (ym_lb v A B)) : wY_cameLater_62 Q (nI s) (ya_limit v) (ya_source v) (ya_stages v) (ya_wrongAt v) (ya_paid v) (ya_at v) (ya_seenCount v) (ya_failedAt v) (ya_v v) (ya_valTop v) (ya_opTop v) (ya_ran v) (ya_broken v) (ya_outcome v) (ya_lists v) (ya_sizes v) (ya_tokens v) (ya_counts v) (ya_kinds v) (ya_numbers v) (ya_left v) (ya_last v) (ya_place v) (ya_begun v) (ya_held v) (ya_keys v) (ya_holds v) (ya_applied v) (ya_reads v) (ya_seen v) (ya_vals v) (ya_ops v) := by
  have e : (nI s).toNatClampNeg = s := nI_clamp (by omega)
  have h8 : vp_in (nI s) 8 := vp_in_nI hs (by omega)
  refine And.intro h8 (fun b eb => And.intro h8 (fun a ea => ?_))
  rw [e, zn_b1, ← hB] at eb
  rw [e, ← hA] at ea
  subst eb
  subst ea
  exact hp
theorem yk_95 {A B : Nat → Int32} {y a : Int32} (hs : s < 8) (hy : x - ya_last v s = y) (hA : A = upd (ya_last v) s x) (hB : B = upd (ya_begun v) s 1) (hz : (z = 0 ∧ a = 1) ∨ (z = 1 ∧ a = 2)) (hp : Q a (ym_vlb v y A B)) :
    wY_cameLater_95 Q (nI s) x z (ya_limit v) (ya_source v) (ya_stages v) (ya_wrongAt v) (ya_paid v) (ya_at v) (ya_seenCount v) (ya_failedAt v) (ya_v v) (ya_valTop v) (ya_opTop v) (ya_ran v) (ya_broken v) (ya_outcome v) (ya_lists v) (ya_sizes v) (ya_tokens v) (ya_counts v) (ya_kinds v) (ya_numbers v) (ya_left v) (ya_last v) (ya_place v) (ya_begun v) (ya_held v) (ya_keys v) (ya_holds v) (ya_applied v) (ya_reads v) (ya_seen v) (ya_vals v) (ya_ops v) := by
  have e : (nI s).toNatClampNeg = s := nI_clamp (by omega)
  have h8 : vp_in (nI s) 8 := vp_in_nI hs (by omega)
  refine And.intro h8 ?_
  rw [e]
  refine nm_r hy (And.intro h8 (fun l el => And.intro h8 (fun b eb => ?_)))
  rw [zn_b1, ← hB] at eb
  rw [← hA] at el
  subst eb
  subst el
  rcases hz with ⟨rfl, rfl⟩ | ⟨rfl, rfl⟩
  · exact br_t rfl hp
  · exact br_f (by decide) hp
theorem yk_141n (h : ∀ Q : Int32 → SY → Prop, Q 0 v1 → wpY_apply Q v (nI s) x 0) (hp : Q 3 v1) : wY_cameLater_141 Q (nI s) x (ya_limit v) (ya_source v) (ya_stages v) (ya_wrongAt v) (ya_paid v) (ya_at v) (ya_seenCount v) (ya_failedAt v) (ya_v v) (ya_valTop v) (ya_opTop v) (ya_ran v) (ya_broken v) (ya_outcome v) (ya_lists v) (ya_sizes v) (ya_tokens v) (ya_counts v) (ya_kinds v) (ya_numbers v) (ya_left v) (ya_last v) (ya_place v) (ya_begun v) (ya_held v) (ya_keys v) (ya_holds v) (ya_applied v) (ya_reads v) (ya_seen v) (ya_vals v) (ya_ops v) := by
  unfold wY_cameLater_141
  refine h _ ?_
  exact br_t rfl hp
theorem yk_141 (hs : s < 8) (h : ∀ Q : Int32 → SY → Prop, Q 1 v1 → wpY_apply Q v (nI s) x 0) (hk : ya_kinds v1 s = nI k) (hk' : k = 14 ∨ k = 16) (hz : ya_v v1 = z)
    (h14 : k = 14 → wpY_hold (fun w => Q 2 w) v1 (nI s) x z)
    (h16 : k = 16 → ∃ j : Int32, (∀ P : Int32 → Prop, P j → wpY_find P v1 (nI s) z) ∧ ((j < 0 → wpY_hold (fun w => Q 2 w) v1 (nI s) x z) ∧ (¬ j < 0 → ∃ i, i < 160 ∧ j = nI i ∧
      ∀ A : Nat → Int32, A = upd (ya_held v1) (160 * s + i) (ya_held v1 (160 * s + i) + x) → Q 2 (ys_held v1 A)))) : wY_cameLater_141 Q (nI s) x (ya_limit v) (ya_source v) (ya_stages v) (ya_wrongAt v) (ya_paid v) (ya_at v) (ya_seenCount v) (ya_failedAt v) (ya_v v) (ya_valTop v) (ya_opTop v) (ya_ran v) (ya_broken v) (ya_outcome v) (ya_lists v) (ya_sizes v) (ya_tokens v) (ya_counts v) (ya_kinds v) (ya_numbers v) (ya_left v) (ya_last v) (ya_place v) (ya_begun v) (ya_held v) (ya_keys v) (ya_holds v) (ya_applied v) (ya_reads v) (ya_seen v) (ya_vals v) (ya_ops v) := by
  have e : (nI s).toNatClampNeg = s := nI_clamp (by omega)
  have h8 : vp_in (nI s) 8 := vp_in_nI hs (by omega)
  subst hz
  unfold wY_cameLater_141
  refine h _ ?_
  refine br_f (by decide) (And.intro h8 ?_)
  rw [e]
  rcases hk' with rfl | rfl
  · exact br_f (kn_ne (b := 16) hk (by decide) (by decide) (by decide)) (br_t (by decide) (h14 rfl))
  · obtain ⟨j, hf, g1, g2⟩ := h16 rfl
    refine br_t hk (hf _ ?_)
    refine br_c g1 (fun hj => ?_)
    obtain ⟨i, hi, rfl, g⟩ := g2 hj
    have e1 : (160 : Int32) * nI s + nI i = nI (160 * s + i) := zn_160 _ _
    have hv : vp_in (nI (160 * s + i)) 1280 := vp_in_nI (by omega) (by omega)
    rw [e1, nI_clamp (by omega)]
    exact And.intro hv (And.intro hv g)
end
end
section
/-! lockstep: what holds in a flow, at the head of X's loop, and when a run is over -/
def ro_ (L N : Nat) (K : Nat → Nat) (n : Nat) (tk : Nat → Nat) (u : SX) (v : SY) : Prop :=
  rl_st u v L N K ∧ rt_ u v n tk ∧ rl_rs u v ∧ xa_stopped u = 1 ∧ ((xa_failedStage u = -1 ∧ ya_outcome v = 9000000000000000001) ∨ (¬ xa_failedStage u < 0 ∧ ya_outcome v = 9000000000000000002))
def FL_ (L N : Nat) (K : Nat → Nat) (n : Nat) (tk : Nat → Nat) (fr en : Int) (sp rem cnt : Nat) (P : Nat → Nat) (stk : List (Nat × Int32 × Nat)) (s : Nat) (u : SX) (v : SY) : Prop :=
  rn_ L N K n tk fr en sp rem cnt (bd_ sp s) P stk u v ∧ rn_t fr en K v ∧ (∀ e, e ∈ stk → e.1 < s) ∧ fr < s ∧ en < s ∧ s ≤ N ∧ 1 ≤ sp ∧ xa_out u = ya_v v
noncomputable def mu_ (L : Nat) (fr en : Int) (sp rem : Nat) (stk : List (Nat × Int32 × Nat)) : Nat := (((L - sp) * 9 + (7 - fr).toNat) * 200 + rem) * 20 + (if en < fr then 10 else 0) + stk.length
def be_ (L : Nat) (fr : Int) (sp rem : Nat) : Nat := (((L - sp) * 9 + (7 - fr).toNat) * 200 + rem) * 20
def LD_ (L N : Nat) (K : Nat → Nat) (n : Nat) (tk : Nat → Nat) (cnt m : Nat) (u : SX) (W : (Int32 → SY → Prop) → Prop) : Prop :=
  ∃ v fr en sp rem P stk, ∃ t : Int, rn_ L N K n tk fr en sp rem cnt (fun _ => sp) P stk u v ∧ rn_t fr en K v ∧ (fr ≤ t ∧ en ≤ t ∧ t < N ∧ ∀ e, e ∈ stk → (e.1 : Int) ≤ t) ∧ mu_ L fr en sp rem stk ≤ m ∧
    ∀ (post : Int32 → SY → Prop) (x : Int32), x.toInt = t → yL_ post x 2 1 v → W post
def LE_ (L N : Nat) (K : Nat → Nat) (n : Nat) (tk : Nat → Nat) (cnt m : Nat) (u : SX) (W : (Int32 → SY → Prop) → Prop) : Prop :=
  ∃ v fr en sp rem P stk, rn_ L N K n tk fr en sp rem cnt (fun _ => sp) P stk u v ∧ fr ≤ en ∧ (∀ e, e ∈ stk → (e.1 : Int) ≤ en) ∧ mu_ L fr en sp rem stk ≤ m ∧
    ∀ (post : Int32 → SY → Prop) (x : Int32), x.toInt = en + 1 → yL_ post x 0 0 v → W post
def LO_ (L N : Nat) (K : Nat → Nat) (n : Nat) (tk : Nat → Nat) (u : SX) (W : (Int32 → SY → Prop) → Prop) : Prop := ∃ v, ro_ L N K n tk u v ∧ ∀ post : Int32 → SY → Prop, post 3 v → W post
def LH_ (L N : Nat) (K : Nat → Nat) (n : Nat) (tk : Nat → Nat) (cnt m : Nat) (u : SX) (W : (Int32 → SY → Prop) → Prop) : Prop :=
  LD_ L N K n tk cnt m u W ∨ LE_ L N K n tk cnt m u W ∨ LO_ L N K n tk u W
/-- an element at stage s: it passes, or X is back at the head of its loop -/
def AR_ (L N : Nat) (K : Nat → Nat) (n : Nat) (tk : Nat → Nat) (cnt : Nat) (fr : Int) (rem sp s : Nat) (u : SX) (v : SY) : Prop :=
  (∃ en sp' P stk u' v', FL_ L N K n tk fr en sp' rem cnt P stk (s + 1) u' v' ∧ sp ≤ sp' ∧ (∀ post : Int32 → SX → Prop, xF_ post (s + 1) u' → xF_ post s u) ∧ (∀ post : Int32 → SY → Prop, yL_ post (nI (s + 1)) 1 0 v' → yL_ post (nI s) 1 0 v)) ∨
  (∃ u' m, m < be_ L fr sp rem + 20 ∧ LH_ L N K n tk cnt m u' (fun post => yL_ post (nI s) 1 0 v) ∧ (∀ post : Int32 → SX → Prop, post 0 u' → xF_ post s u))
section
variable {L N : Nat} {K : Nat → Nat} {n : Nat} {tk : Nat → Nat} {fr en : Int} {sp rem cnt : Nat} {b P : Nat → Nat} {stk : List (Nat × Int32 × Nat)} {u : SX} {v : SY} {s : Nat}
theorem sk_len {t : Nat} : ∀ l : List (Nat × Int32 × Nat), sk_ok fr N K l → (∀ e, e ∈ l → e.1 < t) → l.length ≤ t
  | [], _, _ => Nat.zero_le _
  | (o, x, l0) :: r, h, ht => by
    have h1 := sk_len (t := o) r h.2.2.2.2.2 h.2.2.2.2.1
    have h2 := ht _ (List.mem_cons_self ..)
    simp only [List.length_cons]
    have : o < t := h2
    omega
theorem sk_len8 (h : rn_ L N K n tk fr en sp rem cnt b P stk u v) : stk.length ≤ 8 := by
  have hN := h.1.2.2.2.2.2.2.1
  have := sk_len (t := N) stk h.2.2.2.1.2.2.2.2.2.2.2.2 (fun e he => (sk_in stk h.2.2.2.1.2.2.2.2.2.2.2.2 he).2.1)
  omega
theorem mu_lt {sp' : Nat} (hl : stk.length ≤ 8) (h : sp ≤ sp') : mu_ L fr en sp' rem stk < be_ L fr sp rem + 20 := by
  unfold mu_ be_
  split <;> omega
theorem bd_le (sp pos s : Nat) : bd_ sp pos s ≤ sp := by unfold bd_; split <;> omega
theorem bd_mono {sp sp' pos : Nat} (h : sp ≤ sp') (s : Nat) : bd_ sp pos s ≤ bd_ sp' pos s := by unfold bd_; split <;> omega
theorem bd_pos {sp pos pos' : Nat} (h : pos ≤ pos') (s : Nat) : bd_ sp pos s ≤ bd_ sp pos' s := by unfold bd_; split <;> split <;> omega
/-- building the four outcomes -/
theorem AR_pass {en : Int} {sp' : Nat} {u' : SX} {v' : SY} (hst : rl_st u v L N K) (hs : s < N) (hx : ∀ Q : Int32 → SX → Prop, Q 1 u' → xw_st Q u s (K s)) (hy : ∀ Q : Int32 → SY → Prop, Q 1 v' → wpY_came Q v (nI s))
    (h : FL_ L N K n tk fr en sp' rem cnt P stk (s + 1) u' v') (hsp : sp ≤ sp') : AR_ L N K n tk cnt fr rem sp s u v := by
  obtain ⟨h1, h2, h3, h4, h5, h6, h7, h8, h9, h10, h11, h12, h13, h14⟩ := hst
  obtain ⟨g1, g2, _⟩ := h14 s hs
  refine Or.inl ⟨en, sp', P, stk, u', v', h, hsp, fun post hp => xF_pass h5 h7 hs g2 g1 hx hp, fun post hp => yL_came h6 h7 hs hy (Or.inr (Or.inr (Or.inl ⟨rfl, ?_⟩)))⟩
  rw [nI_1]
  exact hp
theorem AR_drop {en : Int} {sp' : Nat} {u' : SX} {v' : SY} (hst : rl_st u v L N K) (hs : s < N) (hx : ∀ Q : Int32 → SX → Prop, Q 0 u' → xw_st Q u s (K s)) (hy : ∀ Q : Int32 → SY → Prop, Q 2 v' → wpY_came Q v (nI s))
    (h : rn_ L N K n tk fr en sp' rem cnt (fun _ => sp') P stk u' v') (ht : rn_t fr en K v') (hk : ∀ e, e ∈ stk → e.1 < s) (hf : fr < s) (he : en < s) (hsp : sp ≤ sp') : AR_ L N K n tk cnt fr rem sp s u v := by
  obtain ⟨h1, h2, h3, h4, h5, h6, h7, h8, h9, h10, h11, h12, h13, h14⟩ := hst
  obtain ⟨g1, g2, _⟩ := h14 s hs
  refine Or.inr ⟨u', mu_ L fr en sp' rem stk, mu_lt (sk_len8 h) hsp, Or.inl ⟨v', fr, en, sp', rem, P, stk, (s : Int) - 1, h, ht, ⟨by omega, by omega, by omega, fun e he' => by have := hk e he'; omega⟩, Nat.le_refl _, fun post x hxe hp => yL_came h6 h7 hs hy (Or.inr (Or.inl ⟨rfl, ?_⟩))⟩, fun post hp => xF_stop h5 h7 hs g2 g1 hx hp⟩
  have e : x = nI s - 1 := by
    apply Int32.toInt_inj.mp
    rw [hxe, zn_sub1 (nI_toInt (by omega)) (by omega)]
  rw [← e]
  exact hp
theorem AR_ends {sp' : Nat} {u' : SX} {v' : SY} (hst : rl_st u v L N K) (hs : s < N) (hx : ∀ Q : Int32 → SX → Prop, Q 0 u' → xw_st Q u s (K s)) (hy : ∀ Q : Int32 → SY → Prop, Q 0 v' → wpY_came Q v (nI s))
    (h : rn_ L N K n tk fr s sp' rem cnt (fun _ => sp') P stk u' v') (hk : ∀ e, e ∈ stk → e.1 < s) (hf : fr < s) (hsp : sp ≤ sp') : AR_ L N K n tk cnt fr rem sp s u v := by
  obtain ⟨h1, h2, h3, h4, h5, h6, h7, h8, h9, h10, h11, h12, h13, h14⟩ := hst
  obtain ⟨g1, g2, _⟩ := h14 s hs
  refine Or.inr ⟨u', mu_ L fr s sp' rem stk, mu_lt (sk_len8 h) hsp, Or.inr (Or.inl ⟨v', fr, s, sp', rem, P, stk, h, by omega, fun e he' => by have := hk e he'; omega, Nat.le_refl _, fun post x hxe hp => yL_came h6 h7 hs hy (Or.inr (Or.inr (Or.inr ⟨rfl, ?_⟩)))⟩), fun post hp => xF_stop h5 h7 hs g2 g1 hx hp⟩
  have e : x = nI s + 1 := by
    rw [nI_1]
    exact zn_ti (by rw [hxe]; omega)
  rw [← e]
  exact hp
theorem AR_out {u' : SX} {v' : SY} (hst : rl_st u v L N K) (hs : s < N) (hx : ∀ Q : Int32 → SX → Prop, Q 0 u' → xw_st Q u s (K s)) (hy : ∀ Q : Int32 → SY → Prop, Q 3 v' → wpY_came Q v (nI s))
    (h : ro_ L N K n tk u' v') : AR_ L N K n tk cnt fr rem sp s u v := by
  obtain ⟨h1, h2, h3, h4, h5, h6, h7, h8, h9, h10, h11, h12, h13, h14⟩ := hst
  obtain ⟨g1, g2, _⟩ := h14 s hs
  exact Or.inr ⟨u', 0, by omega, Or.inr (Or.inr ⟨v', h, fun post hp => yL_came h6 h7 hs hy (Or.inl ⟨rfl, hp⟩)⟩), fun post hp => xF_stop h5 h7 hs g2 g1 hx hp⟩
theorem AR_again {en : Int} {sp' : Nat} {u' : SX} {v' : SY} (hst : rl_st u v L N K) (hs : s < N) (hx : ∀ Q : Int32 → SX → Prop, Q 0 u' → xw_st Q u s (K s)) (hy : ∀ post : Int32 → SY → Prop, yL_ post (nI s) 2 1 v' → yL_ post (nI s) 1 0 v)
    (h : rn_ L N K n tk fr en sp' rem cnt (fun _ => sp') P stk u' v') (ht : rn_t fr en K v') (hk : ∀ e, e ∈ stk → e.1 ≤ s) (hf : fr < s) (he : en < s) (hsp : sp ≤ sp') : AR_ L N K n tk cnt fr rem sp s u v := by
  obtain ⟨h1, h2, h3, h4, h5, h6, h7, h8, h9, h10, h11, h12, h13, h14⟩ := hst
  obtain ⟨g1, g2, _⟩ := h14 s hs
  refine Or.inr ⟨u', mu_ L fr en sp' rem stk, mu_lt (sk_len8 h) hsp, Or.inl ⟨v', fr, en, sp', rem, P, stk, (s : Int), h, ht, ⟨by omega, by omega, by omega, fun e he' => by have := hk e he'; omega⟩, Nat.le_refl _, fun post x hxe hp => hy post ?_⟩, fun post hp => xF_stop h5 h7 hs g2 g1 hx hp⟩
  rw [← zn_ti hxe]
  exact hp
end
end
section
/-! lockstep: an expression is applied, a list is read -/
section
variable {L N : Nat} {K : Nat → Nat} {n : Nat} {tk : Nat → Nat} {u : SX} {v : SY}
theorem so_st {z : Int32} {y : Int64} (h : rl_st u v L N K) : rl_st (xs_stopped u z) (ys_outcome v y) L N K := h
theorem so_tk {z : Int32} {y : Int64} (h : rt_ u v n tk) : rt_ (xs_stopped u z) (ys_outcome v y) n tk := h
theorem so_rs {z : Int32} {y : Int64} (h : rl_rs u v) : rl_rs (xs_stopped u z) (ys_outcome v y) := h
theorem so_fs {z : Int32} : xa_failedStage (xs_stopped u z) = xa_failedStage u := rfl
theorem so_sp {z : Int32} : xa_stopped (xs_stopped u z) = z := rfl
theorem so_oc {z : Int64} : ya_outcome (ys_outcome v z) = z := rfl
theorem sf_st {a f st vt ot br r : Int32} {c p va oa : Nat → Int32} {oc : Int64} (h : rl_st u v L N K) : rl_st (xf_s (xm_ps u a c) f st p) (yq_f v a c vt ot br va oa r f oc) L N K := h
theorem sf_tk {a f st vt ot br r : Int32} {c p va oa : Nat → Int32} {oc : Int64} (h : rt_ u v n tk) : rt_ (xf_s (xm_ps u a c) f st p) (yq_f v a c vt ot br va oa r f oc) n tk := h
theorem sf_rs {a f st vt ot br r : Int32} {c p va oa : Nat → Int32} {oc : Int64} {s0 : Nat} {z : Int32} (h : rl_rs u v) (hl : xa_lastStages u = nI N) (hN : N ≤ 8) (hs : s0 < N) (hc : c = upd (xa_applications u) s0 z) :
    rl_rs (xf_s (xm_ps u a c) f st p) (yq_f v a c vt ot br va oa r f oc) := by
  obtain ⟨r1, r2, r3, r4, r5, r6, ⟨m, m1, m2, m3⟩, r8⟩ := h
  have hm : m = N := by
    rw [m2] at hl
    exact (nI_eq (by omega) (by omega)).mp hl
  refine ⟨r1, rfl, r3, r4, r5, rfl, ⟨m, m1, m2, fun s h1 h2 => ?_⟩, r8⟩
  show c s = 0
  rw [hc, pk_un (by omega)]
  exact m3 s h1 h2
theorem sf_f1 {a f st : Int32} {c p : Nat → Int32} : xa_failedStage (xf_s (xm_ps u a c) f st p) = f ∧ xa_stopped (xf_s (xm_ps u a c) f st p) = st := ⟨rfl, rfl⟩
theorem sf_o1 {a f vt ot br r : Int32} {c va oa : Nat → Int32} {oc : Int64} : ya_outcome (yq_f v a c vt ot br va oa r f oc) = oc := rfl
theorem xc_ps {a : Int32} {c : Nat → Int32} {s : Nat} {o : List Nat} (h : xc_rel u s o) : xc_rel (xm_ps u a c) s o := h
theorem ps_f {a : Int32} {c p : Nat → Int32} : xa_applications (xm_ps u a c) = c ∧ xa_stopped (xm_ps u a c) = xa_stopped u ∧ xa_out (xm_ps u a c) = xa_out u ∧ xa_memory (xm_ps u a c) = xa_memory u ∧
    xa_out (xs_operand (xm_ps u a c) p) = xa_out u ∧ xa_stopped (xs_operand (xm_ps u a c) p) = xa_stopped u ∧ xa_stopped (xf_s (xm_ps u a c) 0 1 p) = 1 := ⟨rfl, rfl, rfl, rfl, rfl, rfl, rfl⟩
theorem yq_r (v : SY) (a : Int32) (c : Nat → Int32) (vt ot br r : Int32) (va oa : Nat → Int32) : yq_m v a c vt ot br va oa r = ys_v (yz_s (ym_pa v a c) vt ot br va oa) r := rfl
section
variable {fr en : Int} {sp rem cnt : Nat} {b P : Nat → Nat} {stk : List (Nat × Int32 × Nat)} {s : Nat}
theorem ro_stop (h : rn_ L N K n tk fr en sp rem cnt b P stk u v) : ro_ L N K n tk (xs_stopped u 1) (ys_outcome v 9000000000000000001) :=
  ⟨so_st h.1, so_tk h.2.1, so_rs h.2.2.1.2.2.2.2.2.1, so_sp, Or.inl ⟨so_fs.trans h.2.2.1.2.2.2.2.1, so_oc⟩⟩
theorem pay_iff (h : rn_ L N K n tk fr en sp rem cnt b P stk u v) : (xa_spent u = xa_limit u ↔ sp = L) ∧ (ya_paid v = ya_limit v ↔ sp = L) := by
  have h1 := h.1
  have h3 := h.2.2.1
  rw [h3.2.1, h3.2.2.1, h1.1, h1.2.1]
  have hL := h1.2.2.2.1
  have hsp := h3.1
  exact ⟨nI_eq (by omega) (by omega), nI_eq (by omega) (by omega)⟩
theorem ap_lock2 (h : rn_ L N K n tk fr en sp rem cnt b P stk u v) (hs : s < N) (hx : rl_hx (K s)) (x y : Int32) :
    (sp = L ∧ (∀ Q : Int32 → SX → Prop, Q 0 (xs_stopped u 1) → wpX_payStage Q u (nI s)) ∧ (∀ Q : Int32 → SY → Prop, Q 0 (ys_outcome v 9000000000000000001) → wpY_apply Q v (nI s) x y)) ∨
    (∃ a c, sp < L ∧ (a = xa_spent u + 1 ∧ c = upd (xa_applications u) s (xa_applications u s + 1)) ∧ (∀ Q : Int32 → SX → Prop, Q 1 (xm_ps u a c) → wpX_payStage Q u (nI s)) ∧
      ((∃ z p vt ot va oa, (∀ Q : Int32 → SX → Prop, Q z (xs_operand (xm_ps u a c) p) → wpX_value Q (xm_ps u a c) (nI s) x y) ∧ (∀ Q : Int32 → SY → Prop, Q 1 (yq_m v a c vt ot 0 va oa z) → wpY_apply Q v (nI s) x y) ∧
          rn_ L N K n tk fr en (sp + 1) rem cnt b P stk (xs_operand (xm_ps u a c) p) (yq_m v a c vt ot 0 va oa z)) ∨
        (∃ z p r vt ot va oa, (∀ Q : Int32 → SX → Prop, Q z (xf_s (xm_ps u a c) (nI s) 1 p) → wpX_value Q (xm_ps u a c) (nI s) x y) ∧ (∀ Q : Int32 → SY → Prop, Q 0 (yq_f v a c vt ot 1 va oa r (nI s) 9000000000000000002) → wpY_apply Q v (nI s) x y) ∧
          ro_ L N K n tk (xf_s (xm_ps u a c) (nI s) 1 p) (yq_f v a c vt ot 1 va oa r (nI s) 9000000000000000002)))) := by
  have hst := h.1
  have hgl := h.2.2.1
  have hN := hst.2.2.2.2.2.2.1
  have hsp := hgl.1
  obtain ⟨p1, p2⟩ := pay_iff h
  by_cases hL : sp = L
  · exact Or.inl ⟨hL, fun Q hq => xw_ps_no (p1.mpr hL) hq, fun Q hq => yw_apply_no (p2.mpr hL) hq⟩
  · have hlt : sp < L := by omega
    have hs8 : s < 8 := by omega
    have hcl8 : (nI s).toNatClampNeg = s := nI_clamp (by omega)
    have hps0 : ¬ nI s < 0 := nI_pos (by omega)
    have hx1 : ¬ xa_spent u = xa_limit u := fun e => hL (p1.mp e)
    have hy1 : ¬ ya_paid v = ya_limit v := fun e => hL (p2.mp e)
    obtain ⟨a, ha⟩ : ∃ a, a = xa_spent u + 1 := ⟨_, rfl⟩
    obtain ⟨c, hc⟩ : ∃ c, c = upd (xa_applications u) s (xa_applications u s + 1) := ⟨_, rfl⟩
    have ha' : a = nI (sp + 1) := by rw [ha, hgl.2.1, nI_1]
    have hay : ya_paid v + 1 = a := by rw [ha', hgl.2.2.1, nI_1]
    have hap : ya_applied v = xa_applications u := hgl.2.2.2.2.2.1.2.1
    have hcy : upd (ya_applied v) s (ya_applied v s + 1) = c := by rw [hc, hap]
    obtain ⟨g1, g2, g3, g4, g5⟩ := hst.2.2.2.2.2.2.2.2.2.2.2.2.2 s hs
    obtain ⟨m, tks, t1, t2⟩ := g5 hx
    have hok := t1.2.2.2.2
    obtain ⟨w1, w2⟩ := sy_out_ok hok
    have hk : xa_applications (xm_ps u a c) s - 1 = ya_applied v s := by
      rw [ps_f (p := c).1, hc, pk_us, hap, Int32.add_sub_cancel]
    have h0 : xa_stopped (xm_ps u a c) = 0 := hgl.2.2.2.1
    have hps : ∀ Q : Int32 → SX → Prop, Q 1 (xm_ps u a c) → wpX_payStage Q u (nI s) := fun Q hq =>
      xw_ps_ok (s := s) hcl8 (vp_in_nI hs8 (by decide)) hx1 (by rw [← ha, ← hc]; exact hq)
    refine Or.inr ⟨a, c, hlt, ⟨ha, hc⟩, hps, ?_⟩
    cases hb : (ev_ex x y (ya_applied v s) (sy_out tks m)).2 with
    | false =>
      obtain ⟨p, hX⟩ := xw_value_ok (x := x) (y := y) (k := ya_applied v s) (u := xm_ps u a c) (s := s) hs8 (xc_ps t2) w1 w2 hk h0 hb
      obtain ⟨vt, ot, va, oa, hY⟩ := yw_apply_ok (x := x) (y := y) (v := v) (s := s) hs8 t1 hy1 rfl hb
      refine Or.inl ⟨_, p, vt, ot, va, oa, hX, fun Q hq => hY Q ?_, ?_⟩
      · unfold yq_s
        rw [hay, hcy]
        exact hq
      · rw [yq_r]
        exact R_y2 (R_y1 (R_x1 (R_ps h hlt hs ha' hc)))
    | true =>
      obtain ⟨z, p, hX⟩ := xw_value_no (x := x) (y := y) (k := ya_applied v s) (u := xm_ps u a c) (s := s) hs8 (xc_ps t2) w2 hk h0 hb
      obtain ⟨r, vt, ot, va, oa, hY⟩ := yw_apply_fail (x := x) (y := y) (v := v) (s := s) hs8 t1 hy1 rfl hb
      refine Or.inr ⟨z, p, r, vt, ot, va, oa, hX, fun Q hq => hY Q ?_, ⟨sf_st hst, sf_tk h.2.1, sf_rs hgl.2.2.2.2.2.1 hgl.2.2.2.2.2.2.2 hN hs hc, sf_f1.2, Or.inr ⟨?_, sf_o1⟩⟩⟩
      · unfold yq_x
        rw [hay, hcy]
        exact hq
      · rw [sf_f1.1]; exact hps0
theorem ap_lock (h : rn_ L N K n tk fr en sp rem cnt b P stk u v) (hs : s < N) (hx : rl_hx (K s)) (x y : Int32) :
    (sp = L ∧ (∀ Q : Int32 → SX → Prop, Q 0 (xs_stopped u 1) → wpX_payStage Q u (nI s)) ∧ (∀ Q : Int32 → SY → Prop, Q 0 (ys_outcome v 9000000000000000001) → wpY_apply Q v (nI s) x y)) ∨
    (∃ a c, sp < L ∧ (∀ Q : Int32 → SX → Prop, Q 1 (xm_ps u a c) → wpX_payStage Q u (nI s)) ∧
      ((∃ z p vt ot va oa, (∀ Q : Int32 → SX → Prop, Q z (xs_operand (xm_ps u a c) p) → wpX_value Q (xm_ps u a c) (nI s) x y) ∧ (∀ Q : Int32 → SY → Prop, Q 1 (yq_m v a c vt ot 0 va oa z) → wpY_apply Q v (nI s) x y) ∧
          rn_ L N K n tk fr en (sp + 1) rem cnt b P stk (xs_operand (xm_ps u a c) p) (yq_m v a c vt ot 0 va oa z)) ∨
        (∃ z p r vt ot va oa, (∀ Q : Int32 → SX → Prop, Q z (xf_s (xm_ps u a c) (nI s) 1 p) → wpX_value Q (xm_ps u a c) (nI s) x y) ∧ (∀ Q : Int32 → SY → Prop, Q 0 (yq_f v a c vt ot 1 va oa r (nI s) 9000000000000000002) → wpY_apply Q v (nI s) x y) ∧
          ro_ L N K n tk (xf_s (xm_ps u a c) (nI s) 1 p) (yq_f v a c vt ot 1 va oa r (nI s) 9000000000000000002)))) := by
  rcases ap_lock2 h hs hx x y with z | ⟨a, c, h1, _, h2, h3⟩
  · exact Or.inl z
  · exact Or.inr ⟨a, c, h1, h2, h3⟩
/-- a list's element is read -/
theorem rd_lock2 {l k m : Nat} (h : rn_ L N K n tk fr en sp rem cnt b P stk u v) (hl : l < 3) (em : xa_length u l = nI m) (hm : m ≤ 24) (hk : k < m) :
    (sp = L ∧ (∀ Q : Int32 → SX → Prop, Q 0 (xs_stopped u 1) → wpX_payRead Q u (nI l)) ∧ (∀ Q : Int32 → SY → Prop, Q 3 (ys_outcome v 9000000000000000001) → wpY_fetch Q v (nI l) (nI k))) ∨
    (∃ a d, sp < L ∧ (a = xa_spent u + 1 ∧ d = upd (xa_reads u) l (xa_reads u l + 1)) ∧ (∀ Q : Int32 → SX → Prop, Q 1 (xm_pr u a d) → wpX_payRead Q u (nI l)) ∧ (∀ Q : Int32 → SY → Prop, Q 1 (ym_ft v a (xa_element u (24 * l + k)) d) → wpY_fetch Q v (nI l) (nI k)) ∧
      rn_ L N K n tk fr en (sp + 1) rem cnt b P stk (xm_pr u a d) (ym_ft v a (xa_element u (24 * l + k)) d)) := by
  have hst := h.1
  have hgl := h.2.2.1
  have hsp := hgl.1
  obtain ⟨p1, p2⟩ := pay_iff h
  have hsz : ya_sizes v l = nI m := by rw [hst.2.2.2.2.2.2.2.2.2.1]; exact em
  have hlt : nI k < ya_sizes v l := by rw [hsz]; exact nI_lt hk (by omega)
  have e24 : (24 : Int32) * nI l + nI k = nI (24 * l + k) := zn_24 _ _
  by_cases hL : sp = L
  · exact Or.inl ⟨hL, fun Q hq => xw_pr_no (p1.mpr hL) hq, fun Q hq => yw_fetch_no (l := l) (nI_clamp (by omega)) (vp_in_nI hl (by omega)) hlt (p2.mpr hL) hq⟩
  · have hx1 : ¬ xa_spent u = xa_limit u := fun e => hL (p1.mp e)
    have hy1 : ¬ ya_paid v = ya_limit v := fun e => hL (p2.mp e)
    obtain ⟨a, ha⟩ : ∃ a, a = xa_spent u + 1 := ⟨_, rfl⟩
    obtain ⟨d, hd⟩ : ∃ d, d = upd (xa_reads u) l (xa_reads u l + 1) := ⟨_, rfl⟩
    have ha' : a = nI (sp + 1) := by rw [ha, hgl.2.1, nI_1]
    have hay : ya_paid v + 1 = a := by rw [ha', hgl.2.2.1, nI_1]
    have hrd : ya_reads v = xa_reads u := hgl.2.2.2.2.2.1.2.2.1
    have hdy : upd (ya_reads v) l (ya_reads v l + 1) = d := by rw [hd, hrd]
    have hel : ya_lists v = xa_element u := hst.2.2.2.2.2.2.2.2.1
    refine Or.inr ⟨a, d, by omega, ⟨ha, hd⟩, fun Q hq => xw_pr_ok (s := l) (nI_clamp (by omega)) (vp_in_nI hl (by omega)) hx1 (by rw [← ha, ← hd]; exact hq), fun Q hq => ?_, R_pr h (by omega) ha'⟩
    refine yw_fetch_ok (l := l) (c := 24 * l + k) (nI_clamp (by omega)) (vp_in_nI hl (by omega)) hlt hy1 (by rw [e24]; exact nI_clamp (by omega)) (by rw [e24]; exact vp_in_nI (by omega) (by omega)) ?_
    rw [hay, hdy, hel]
    exact hq
theorem rd_lock {l k m : Nat} (h : rn_ L N K n tk fr en sp rem cnt b P stk u v) (hl : l < 3) (em : xa_length u l = nI m) (hm : m ≤ 24) (hk : k < m) :
    (sp = L ∧ (∀ Q : Int32 → SX → Prop, Q 0 (xs_stopped u 1) → wpX_payRead Q u (nI l)) ∧ (∀ Q : Int32 → SY → Prop, Q 3 (ys_outcome v 9000000000000000001) → wpY_fetch Q v (nI l) (nI k))) ∨
    (∃ a d, sp < L ∧ (∀ Q : Int32 → SX → Prop, Q 1 (xm_pr u a d) → wpX_payRead Q u (nI l)) ∧ (∀ Q : Int32 → SY → Prop, Q 1 (ym_ft v a (xa_element u (24 * l + k)) d) → wpY_fetch Q v (nI l) (nI k)) ∧
      rn_ L N K n tk fr en (sp + 1) rem cnt b P stk (xm_pr u a d) (ym_ft v a (xa_element u (24 * l + k)) d)) := by
  rcases rd_lock2 h hl em hm hk with z | ⟨a, d, h1, _, h2, h3⟩
  · exact Or.inl z
  · exact Or.inr ⟨a, d, h1, h2, h3⟩
end
end
end
section
/-! helpers for the kinds -/
section
variable {Q : Int32 → SX → Prop} {u : SX} {s k : Nat}
theorem st_p (hk : k < 6) (h : wpX_plain Q u (nI s) (nI k)) : xw_st Q u s k := ⟨fun _ => h, fun z => absurd z (by omega), fun z => absurd z (by omega)⟩
theorem st_s (hk : 6 ≤ k) (hk2 : k < 12) (h : wpX_several Q u (nI s) (nI k)) : xw_st Q u s k := ⟨fun z => absurd z (by omega), fun _ _ => h, fun z => absurd z (by omega)⟩
theorem st_g (hk : 12 ≤ k) (h : wpX_gathering Q u (nI s) (nI k)) : xw_st Q u s k := ⟨fun z => absurd z (by omega), fun _ z => absurd z (by omega), fun _ => h⟩
end
section
variable {Q : Int32 → SY → Prop} {v : SY} {s k : Nat}
theorem yi_0 (hs : s < 8) (hk : ya_kinds v s = nI k) (hk' : k = 0 ∨ k = 4 ∨ k = 5) (h : wY_came_72 Q (nI s) (ya_v v) (ya_limit v) (ya_source v) (ya_stages v) (ya_wrongAt v) (ya_paid v) (ya_at v) (ya_seenCount v) (ya_failedAt v) (ya_v v) (ya_valTop v) (ya_opTop v) (ya_ran v) (ya_broken v) (ya_outcome v) (ya_lists v) (ya_sizes v) (ya_tokens v) (ya_counts v) (ya_kinds v) (ya_numbers v) (ya_left v) (ya_last v) (ya_place v) (ya_begun v) (ya_held v) (ya_keys v) (ya_holds v) (ya_applied v) (ya_reads v) (ya_seen v) (ya_vals v) (ya_ops v)) : wpY_came Q v (nI s) :=
  yk_in hs hk (by omega) ⟨fun _ => h, fun z => absurd z (by omega), fun z => absurd z (by omega), fun z => absurd z (by omega), fun z => absurd z (by omega), fun z => absurd z (by omega), fun z => absurd z (by omega), fun z => absurd z (by omega), fun z => absurd z (by omega)⟩
theorem yi_1 (hs : s < 8) (hk : ya_kinds v s = nI 1) (h : wpY_apply (fun r w => (r = 0 → Q 3 w) ∧ (¬ r = 0 → Q 1 w)) v (nI s) (ya_v v) 0) : wpY_came Q v (nI s) :=
  yk_in hs hk (by omega) ⟨fun z => absurd z (by omega), fun _ => h, fun z => absurd z (by omega), fun z => absurd z (by omega), fun z => absurd z (by omega), fun z => absurd z (by omega), fun z => absurd z (by omega), fun z => absurd z (by omega), fun z => absurd z (by omega)⟩
theorem yi_2 {A : Nat → Int32} (hs : s < 8) (hk : ya_kinds v s = nI 2) (hA : A = upd (ya_left v) s (ya_left v s + 1)) (h : Q 1 (ys_left v A)) : wpY_came Q v (nI s) :=
  yk_in hs hk (by omega) ⟨fun z => absurd z (by omega), fun z => absurd z (by omega), fun _ a ea => by rw [ea, ← hA]; exact h, fun z => absurd z (by omega), fun z => absurd z (by omega), fun z => absurd z (by omega), fun z => absurd z (by omega), fun z => absurd z (by omega), fun z => absurd z (by omega)⟩
theorem yi_3 {A : Nat → Int32} (hs : s < 8) (hk : ya_kinds v s = nI 3) (hA : A = upd (ya_left v) s (ya_left v s + 1))
    (h : (ya_numbers v s < A s → Q 1 (ys_left v A)) ∧ (¬ ya_numbers v s < A s → ((1 ≤ ya_numbers v s → Q 2 (ys_left v A)) ∧ (¬ 1 ≤ ya_numbers v s → Q 1 (ys_left v A))))) : wpY_came Q v (nI s) :=
  yk_in hs hk (by omega) ⟨fun z => absurd z (by omega), fun z => absurd z (by omega), fun z => absurd z (by omega), fun _ a ea => by rw [ea, ← hA]; exact h, fun z => absurd z (by omega), fun z => absurd z (by omega), fun z => absurd z (by omega), fun z => absurd z (by omega), fun z => absurd z (by omega)⟩
theorem yi_6 (hs : s < 8) (hk : ya_kinds v s = nI k) (hk' : k = 6 ∨ k = 7) (h : wY_came_250 Q (nI s) (ya_v v) (ya_limit v) (ya_source v) (ya_stages v) (ya_wrongAt v) (ya_paid v) (ya_at v) (ya_seenCount v) (ya_failedAt v) (ya_v v) (ya_valTop v) (ya_opTop v) (ya_ran v) (ya_broken v) (ya_outcome v) (ya_lists v) (ya_sizes v) (ya_tokens v) (ya_counts v) (ya_kinds v) (ya_numbers v) (ya_left v) (ya_last v) (ya_place v) (ya_begun v) (ya_held v) (ya_keys v) (ya_holds v) (ya_applied v) (ya_reads v) (ya_seen v) (ya_vals v) (ya_ops v)) : wpY_came Q v (nI s) :=
  yk_in hs hk (by omega) ⟨fun z => absurd z (by omega), fun z => absurd z (by omega), fun z => absurd z (by omega), fun z => absurd z (by omega), fun _ => h, fun z => absurd z (by omega), fun z => absurd z (by omega), fun z => absurd z (by omega), fun z => absurd z (by omega)⟩
theorem yi_8 (hs : s < 8) (hk : ya_kinds v s = nI 8) (h : wpY_known (fun r w => (r = 0 → Q 1 w) ∧ (¬ r = 0 → Q 2 w)) v (nI s) (ya_v v)) : wpY_came Q v (nI s) :=
  yk_in hs hk (by omega) ⟨fun z => absurd z (by omega), fun z => absurd z (by omega), fun z => absurd z (by omega), fun z => absurd z (by omega), fun z => absurd z (by omega), fun _ => h, fun z => absurd z (by omega), fun z => absurd z (by omega), fun z => absurd z (by omega)⟩
theorem yi_9 (hs : s < 8) (hk : ya_kinds v s = nI 9) (h : Q 1 v) : wpY_came Q v (nI s) :=
  yk_in hs hk (by omega) ⟨fun z => absurd z (by omega), fun z => absurd z (by omega), fun z => absurd z (by omega), fun z => absurd z (by omega), fun z => absurd z (by omega), fun z => absurd z (by omega), fun _ => h, fun z => absurd z (by omega), fun z => absurd z (by omega)⟩
theorem yi_10 {A : Nat → Int32} (hs : s < 8) (hk : ya_kinds v s = nI 10) (hA : A = upd (ya_place v) s (ya_place v s + 1))
    (h : wpY_fetch (fun r w => (r = 1 → wpY_apply (fun r w => (r = 0 → Q 3 w) ∧ (¬ r = 0 → Q 1 w)) w (nI s) (ya_v v) (ya_v w)) ∧ (¬ r = 1 → Q r w)) (ys_place v A) (ya_numbers v s) (ya_place v s)) : wpY_came Q v (nI s) :=
  yk_in hs hk (by omega) ⟨fun z => absurd z (by omega), fun z => absurd z (by omega), fun z => absurd z (by omega), fun z => absurd z (by omega), fun z => absurd z (by omega), fun z => absurd z (by omega), fun z => absurd z (by omega), fun _ a ea => by rw [ea, ← hA]; exact h, fun z => absurd z (by omega)⟩
theorem yi_11 {A B C : Nat → Int32} (hs : s < 8) (hk : ya_kinds v s = nI 11) (hA : A = upd (ya_last v) s (ya_v v)) (hB : B = upd (ya_place v) s 0) (hC : C = upd (ya_begun v) s 1)
    (h : wpY_match Q (ym_lpb v A B C) (nI s)) : wpY_came Q v (nI s) :=
  yk_in hs hk (by omega) ⟨fun z => absurd z (by omega), fun z => absurd z (by omega), fun z => absurd z (by omega), fun z => absurd z (by omega), fun z => absurd z (by omega), fun z => absurd z (by omega), fun z => absurd z (by omega), fun z => absurd z (by omega), fun _ a b c ea eb ec => by rw [ea, eb, ec, ← hA, ← hB, ← hC]; exact h⟩
end
section
variable {L N : Nat} {K : Nat → Nat} {n : Nat} {tk : Nat → Nat} {fr en : Int} {sp rem cnt : Nat} {b P : Nat → Nat} {stk : List (Nat × Int32 × Nat)} {u : SX} {v : SY} {s s0 : Nat}
theorem t_cg {v' : SY} (h : rn_t fr en K v) (hl : ∀ e : Nat, (e : Int) = en → ya_left v' e = ya_left v e ∧ ya_numbers v' e = ya_numbers v e) : rn_t fr en K v' := by
  intro hle
  obtain ⟨e, e1, e2, e3⟩ := h hle
  refine ⟨e, e1, e2, ?_⟩
  rw [(hl e e1.symm).1, (hl e e1.symm).2]
  exact e3
/-- arrays agree off stage s0 -/
def of_i (s0 : Nat) (a b : Nat → Int32) : Prop := ∀ j, j ≠ s0 → a j = b j
def of_x (s0 : Nat) (a b : Nat → Int32) : Prop := ∀ j, (j < 150 * s0 ∨ 150 * s0 + 150 ≤ j) → a j = b j
def of_y (s0 : Nat) (a b : Nat → Int32) : Prop := ∀ j, (j < 160 * s0 ∨ 160 * s0 + 160 ≤ j) → a j = b j
theorem of_ir (a : Nat → Int32) : of_i s0 a a := fun _ _ => rfl
theorem of_xr (a : Nat → Int32) : of_x s0 a a := fun _ _ => rfl
theorem of_yr (a : Nat → Int32) : of_y s0 a a := fun _ _ => rfl
theorem of_iu {a c : Nat → Int32} {x : Int32} (h : c = upd a s0 x) : of_i s0 c a := fun j hj => by rw [h]; exact pk_un hj
theorem of_xu {a c : Nat → Int32} {x : Int32} {i : Nat} (h : c = upd a (150 * s0 + i) x) (hi : i < 150) : of_x s0 c a := fun j hj => by rw [h]; exact pk_un (by omega)
theorem of_yu {a c : Nat → Int32} {x : Int32} {i : Nat} (h : c = upd a (160 * s0 + i) x) (hi : i < 160) : of_y s0 c a := fun j hj => by rw [h]; exact pk_un (by omega)
section
variable {m1 m2 m3 m4 m5 m6 m7 m8 l1 l2 l3 l4 l5 l6 l7 : Nat → Int32}
def of_X (s0 : Nat) (u : SX) (m1 m2 m3 m4 m5 m6 m7 m8 : Nat → Int32) : Prop := of_i s0 m1 (xa_memory u) ∧ of_i s0 m2 (xa_begun u) ∧ of_i s0 m3 (xa_place u) ∧ of_x s0 m4 (xa_held u) ∧ of_x s0 m5 (xa_keyOf u) ∧ of_x s0 m6 (xa_next u) ∧ of_i s0 m7 (xa_size u) ∧ of_i s0 m8 (xa_head u)
def of_Y (s0 : Nat) (v : SY) (l1 l2 l3 l4 l5 l6 l7 : Nat → Int32) : Prop := of_i s0 l1 (ya_left v) ∧ of_i s0 l2 (ya_last v) ∧ of_i s0 l3 (ya_place v) ∧ of_i s0 l4 (ya_begun v) ∧ of_y s0 l5 (ya_held v) ∧ of_y s0 l6 (ya_keys v) ∧ of_i s0 l7 (ya_holds v)
theorem of_vx (h : of_X s0 u m1 m2 m3 m4 m5 m6 m7 m8) (hs : s ≠ s0) : ve_x s u (xV_s u m1 m2 m3 m4 m5 m6 m7 m8) := by
  obtain ⟨h1, h2, h3, h4, h5, h6, h7, h8⟩ := h
  exact ⟨h1 s hs, h2 s hs, h3 s hs, h7 s hs, h8 s hs, fun i hi => ⟨h4 _ (by omega), h5 _ (by omega), h6 _ (by omega)⟩⟩
theorem of_vy (h : of_Y s0 v l1 l2 l3 l4 l5 l6 l7) (hs : s ≠ s0) : ve_y s v (yV_s v l1 l2 l3 l4 l5 l6 l7) := by
  obtain ⟨h1, h2, h3, h4, h5, h6, h7⟩ := h
  exact ⟨h1 s hs, h2 s hs, h3 s hs, h4 s hs, h7 s hs, fun i hi => ⟨h5 _ (by omega), h6 _ (by omega)⟩⟩
theorem R_W (h : rn_ L N K n tk fr en sp rem cnt b P stk u v) (hf : fr < s0) (hx : of_X s0 u m1 m2 m3 m4 m5 m6 m7 m8) (hy : of_Y s0 v l1 l2 l3 l4 l5 l6 l7) (hk : ¬ (K s0 = 6 ∨ K s0 = 7 ∨ K s0 = 11))
    (hn : sr_ (K s0) (xa_constant u s0) (P s0) (P (s0 + 1)) (b s0) s0 u v → sr_ (K s0) (xa_constant u s0) (P s0) (P (s0 + 1)) (b s0) s0 (xV_s u m1 m2 m3 m4 m5 m6 m7 m8) (yV_s v l1 l2 l3 l4 l5 l6 l7)) :
    rn_ L N K n tk fr en sp rem cnt b P stk (xV_s u m1 m2 m3 m4 m5 m6 m7 m8) (yV_s v l1 l2 l3 l4 l5 l6 l7) :=
  R_V h hf (fun s hs _ => of_vx hx hs) (fun s hs _ => of_vy hy hs) (fun hl => hn (h.2.2.2.2.2.1 s0 hl)) (fun _ => ⟨fun z => absurd z (by omega), fun z => absurd z (by omega)⟩)
    (fun e he hes _ _ => by
      have := (sk_in stk h.2.2.2.1.2.2.2.2.2.2.2.2 he).2.2.1
      rw [hes] at this
      exact absurd this hk) (fun s _ _ g => g) h.2.2.2.2.2.2.2.1 h.2.2.2.2.2.2.2.2.2.1 h.2.2.2.2.2.2.2.2.2.2
/-- an element is held at s0 -/
theorem R_H (h : rn_ L N K n tk fr en sp rem cnt (bd_ sp s0) P stk u v) (hf : fr < s0) (hsN : s0 < N) (h1 : 1 ≤ sp) (hx : of_X s0 u m1 m2 m3 m4 m5 m6 m7 m8) (hy : of_Y s0 v l1 l2 l3 l4 l5 l6 l7) (hk : ¬ (K s0 = 6 ∨ K s0 = 7 ∨ K s0 = 11))
    (hn : sr_ (K s0) (xa_constant u s0) (P s0) (P (s0 + 1)) (sp - 1) s0 u v → sr_ (K s0) (xa_constant u s0) (P s0) (P (s0 + 1) + 1) sp s0 (xV_s u m1 m2 m3 m4 m5 m6 m7 m8) (yV_s v l1 l2 l3 l4 l5 l6 l7)) :
    rn_ L N K n tk fr en sp rem cnt (fun _ => sp) (fun j => if s0 < j then P j + 1 else P j) stk (xV_s u m1 m2 m3 m4 m5 m6 m7 m8) (yV_s v l1 l2 l3 l4 l5 l6 l7) := by
  refine R_V h hf (fun s hs _ => of_vx hx hs) (fun s hs _ => of_vy hy hs) (fun hl => ?_) (fun _ => ⟨fun z => absurd z (by omega), fun z => absurd z (by omega)⟩) (fun e he hes _ _ => ?_) (fun s hl hne g => ?_) ?_ ?_ (fun s => Nat.le_refl _)
  · have g := h.2.2.2.2.2.1 s0 hl
    rw [show bd_ sp s0 s0 = sp - 1 from if_neg (by omega)] at g
    show sr_ (K s0) (xa_constant u s0) (if s0 < s0 then P s0 + 1 else P s0) (if s0 < s0 + 1 then P (s0 + 1) + 1 else P (s0 + 1)) sp s0 _ _
    rw [if_neg (by omega), if_pos (by omega)]
    exact hn g
  · have := (sk_in stk h.2.2.2.1.2.2.2.2.2.2.2.2 he).2.2.1
    rw [hes] at this
    exact absurd this hk
  · show sr_ (K s) (xa_constant u s) (if s0 < s then P s + 1 else P s) (if s0 < s + 1 then P (s + 1) + 1 else P (s + 1)) sp s u v
    by_cases c : s0 < s
    · rw [if_pos c, if_pos (by omega)]
      rw [show bd_ sp s0 s = sp - 1 from if_neg (by omega)] at g
      have := sr_up g
      rw [show sp - 1 + 1 = sp by omega] at this
      exact this
    · rw [if_neg c, if_neg (by omega)]
      exact sr_mono g (bd_le _ _ _)
  · have := h.2.2.2.2.2.2.2.1
    show rem ≤ if s0 < (fr + 1).toNat then P (fr + 1).toNat + 1 else P (fr + 1).toNat
    split <;> omega
  · have g := h.2.2.2.2.2.2.2.2.2.1
    show cnt + (if s0 < N then P N + 1 else P N) ≤ sp
    rw [if_pos hsN]
    rw [show bd_ sp s0 N = sp - 1 from if_neg (by omega)] at g
    omega
end
end
end
section
/-! an element at a stage with a test or a map: kinds 0, 1, 4, 5 -/
theorem xV_self (u : SX) : xV_s u (xa_memory u) (xa_begun u) (xa_place u) (xa_held u) (xa_keyOf u) (xa_next u) (xa_size u) (xa_head u) = u := rfl
theorem yV_self (v : SY) : yV_s v (ya_left v) (ya_last v) (ya_place v) (ya_begun v) (ya_held v) (ya_keys v) (ya_holds v) = v := rfl
theorem yV_vb (v : SY) (x : Int32) (B : Nat → Int32) : ym_vb v x B = ys_v (yV_s v (ya_left v) (ya_last v) (ya_place v) B (ya_held v) (ya_keys v) (ya_holds v)) x := rfl
theorem xV_be (u : SX) (B : Nat → Int32) : xs_begun u B = xV_s u (xa_memory u) B (xa_place u) (xa_held u) (xa_keyOf u) (xa_next u) (xa_size u) (xa_head u) := rfl
theorem xV_me (u : SX) (M : Nat → Int32) : xs_memory u M = xV_s u M (xa_begun u) (xa_place u) (xa_held u) (xa_keyOf u) (xa_next u) (xa_size u) (xa_head u) := rfl
theorem yV_le (v : SY) (A : Nat → Int32) : ys_left v A = yV_s v A (ya_last v) (ya_place v) (ya_begun v) (ya_held v) (ya_keys v) (ya_holds v) := rfl
section
variable {u u' : SX} {v v' : SY} {s : Nat}
theorem of_Xr : of_X s u (xa_memory u) (xa_begun u) (xa_place u) (xa_held u) (xa_keyOf u) (xa_next u) (xa_size u) (xa_head u) := ⟨of_ir _, of_ir _, of_ir _, of_xr _, of_xr _, of_xr _, of_ir _, of_ir _⟩
theorem of_Xb {B : Nat → Int32} (h : of_i s B (xa_begun u)) : of_X s u (xa_memory u) B (xa_place u) (xa_held u) (xa_keyOf u) (xa_next u) (xa_size u) (xa_head u) := ⟨of_ir _, h, of_ir _, of_xr _, of_xr _, of_xr _, of_ir _, of_ir _⟩
theorem of_Xm {B : Nat → Int32} (h : of_i s B (xa_memory u)) : of_X s u B (xa_begun u) (xa_place u) (xa_held u) (xa_keyOf u) (xa_next u) (xa_size u) (xa_head u) := ⟨h, of_ir _, of_ir _, of_xr _, of_xr _, of_xr _, of_ir _, of_ir _⟩
theorem of_Yr : of_Y s v (ya_left v) (ya_last v) (ya_place v) (ya_begun v) (ya_held v) (ya_keys v) (ya_holds v) := ⟨of_ir _, of_ir _, of_ir _, of_ir _, of_yr _, of_yr _, of_ir _⟩
theorem of_Yb {B : Nat → Int32} (h : of_i s B (ya_begun v)) : of_Y s v (ya_left v) (ya_last v) (ya_place v) B (ya_held v) (ya_keys v) (ya_holds v) := ⟨of_ir _, of_ir _, of_ir _, h, of_yr _, of_yr _, of_ir _⟩
theorem of_Yl {B : Nat → Int32} (h : of_i s B (ya_left v)) : of_Y s v B (ya_last v) (ya_place v) (ya_begun v) (ya_held v) (ya_keys v) (ya_holds v) := ⟨h, of_ir _, of_ir _, of_ir _, of_yr _, of_yr _, of_ir _⟩
/-- kinds that keep nothing -/
theorem sr_no {k : Nat} {c : Int32} {p q b : Nat} (hk : k = 0 ∨ k = 1 ∨ k = 4 ∨ k = 6 ∨ k = 7 ∨ k = 11) (h : sr_ k c p q b s u v) : sr_ k c p q b s u' v' :=
  ⟨h.1, h.2.1, fun z => absurd z (by omega), fun z => absurd z (by omega), fun z => absurd z (by omega), fun z => absurd z (by omega), fun z => absurd z (by omega), fun z => absurd z (by omega), fun z => absurd z (by omega), fun z => absurd z (by omega), fun z => absurd z (by omega), fun z => absurd z (by omega)⟩
theorem sr_is5 {c : Int32} {p q b : Nat} (h : sr_ 5 c p q b s u v) (e : xa_begun u' s = ya_begun v' s) : sr_ 5 c p q b s u' v' :=
  ⟨h.1, h.2.1, fun z => absurd z (by omega), fun z => absurd z (by omega), fun _ => e, fun z => absurd z (by omega), fun z => absurd z (by omega), fun z => absurd z (by omega), fun z => absurd z (by omega), fun z => absurd z (by omega), fun z => absurd z (by omega), fun z => absurd z (by omega)⟩
end
section
variable {L N : Nat} {K : Nat → Nat} {n : Nat} {tk : Nat → Nat} {fr en : Int} {sp rem cnt : Nat} {P : Nat → Nat} {stk : List (Nat × Int32 × Nat)} {u : SX} {v : SY} {s k : Nat}
theorem ro_o {z : Int32} (h : ro_ L N K n tk u v) : ro_ L N K n tk (xs_out u z) v := h
theorem ro_e {z : Int32} (h : ro_ L N K n tk u v) : ro_ L N K n tk (xs_ended u z) v := h
theorem ro_b {z : Nat → Int32} (h : ro_ L N K n tk u v) : ro_ L N K n tk (xs_begun u z) v := h
theorem ro_m {o : Int32} {a b : Nat → Int32} (h : ro_ L N K n tk u v) : ro_ L N K n tk (xm_omb u o a b) v := h
theorem FL_k (h : FL_ L N K n tk fr en sp rem cnt P stk s u v) (hs : s < N) (hk : K s = k) : s < 8 ∧ xa_kind u s = nI k ∧ ya_kinds v s = nI k ∧ xa_stopped u = 0 := by
  have hN := h.1.1.2.2.2.2.2.2.1
  have hkx : xa_kind u s = nI k := by rw [← hk]; exact (h.1.1.2.2.2.2.2.2.2.2.2.2.2.2.2 s hs).2.1
  exact ⟨by omega, hkx, by rw [h.1.1.2.2.2.2.2.2.2.2.2.2.2.1]; exact hkx, h.1.2.2.1.2.2.2.1⟩
/-- the flow goes on -/
theorem FL_next {sp' : Nat} {en' : Int} {P' : Nat → Nat} {stk' : List (Nat × Int32 × Nat)} {u' : SX} {v' : SY} (hR : rn_ L N K n tk fr en' sp' rem cnt (bd_ sp s) P' stk' u' v') (ht : rn_t fr en' K v') (hstk : ∀ e, e ∈ stk' → e.1 < s + 1) (hf : fr < s) (he : en' < (s + 1 : Nat)) (hs : s < N)
    (h1 : 1 ≤ sp) (hsp : sp ≤ sp') (ho : xa_out u' = ya_v v') : FL_ L N K n tk fr en' sp' rem cnt P' stk' (s + 1) u' v' :=
  ⟨R_mono hR (fun q => Nat.le_trans (bd_mono hsp q) (bd_pos (by omega) q)) (fun q => bd_le _ _ _), ht, hstk, by omega, he, by omega, by omega, ho⟩
theorem R_all {b : Nat → Nat} {sp' : Nat} {en' : Int} {P' : Nat → Nat} {stk' : List (Nat × Int32 × Nat)} {u' : SX} {v' : SY} (hR : rn_ L N K n tk fr en' sp' rem cnt b P' stk' u' v') : rn_ L N K n tk fr en' sp' rem cnt (fun _ => sp') P' stk' u' v' :=
  R_mono hR hR.2.2.2.2.2.2.2.2.2.2 (fun _ => Nat.le_refl _)
theorem ar_1 (h : FL_ L N K n tk fr en sp rem cnt P stk s u v) (hs : s < N) (hk : K s = 1) : AR_ L N K n tk cnt fr rem sp s u v := by
  obtain ⟨hs8, hkx, hky, h0⟩ := FL_k h hs hk
  obtain ⟨hR, ht, hst, hf, he, hsN, h1, ho⟩ := h
  rcases ap_lock hR hs (by rw [hk]; unfold rl_hx; omega) (xa_out u) 0 with ⟨e, X, Y⟩ | ⟨a, c, hlt, X, ⟨z, p, vt, ot, va, oa, XV, Y, R'⟩ | ⟨z, p, r, vt, ot, va, oa, XV, Y, ro⟩⟩
  · exact AR_out hR.1 hs (fun Q hq => by rw [hk]; exact st_p (by omega) (xk_1n hs8 X hq)) (fun Q hq => yi_1 hs8 hky (by rw [← ho]; exact Y _ (br_t rfl hq))) (ro_stop hR)
  · have hst0 : xa_stopped (xs_operand (xm_ps u a c) p) = 0 := R'.2.2.1.2.2.2.1
    refine AR_pass (u' := xs_out (xs_operand (xm_ps u a c) p) z) (v' := yq_m v a c vt ot 0 va oa z) (sp' := sp + 1) hR.1 hs (fun Q hq => by rw [hk]; exact st_p (by omega) (xk_1 hs8 X rfl XV (br_t hst0 hq)))
      (fun Q hq => yi_1 hs8 hky (by rw [← ho]; exact Y _ (br_f (by decide) hq))) (FL_next (R_x2 R') (t_cg ht (fun e _ => ⟨rfl, rfl⟩)) (fun e he' => by have := hst e he'; omega) hf (by omega) hs h1 (by omega) rfl) (by omega)
  · have hst1 : ¬ xa_stopped (xf_s (xm_ps u a c) (nI s) 1 p) = 0 := by rw [ro.2.2.2.1]; decide
    exact AR_out (u' := xs_out (xf_s (xm_ps u a c) (nI s) 1 p) z) hR.1 hs (fun Q hq => by rw [hk]; exact st_p (by omega) (xk_1 hs8 X rfl XV (br_f hst1 hq))) (fun Q hq => yi_1 hs8 hky (by rw [← ho]; exact Y _ (br_t rfl hq))) (ro_o ro)
/-- what holds gives, in lockstep with apply -/
theorem hd_lock (hR : rn_ L N K n tk fr en sp rem cnt (bd_ sp s) P stk u v) (hs : s < N) (hx : rl_hx (K s)) :
    (∃ u1 v1, (∀ Q : Int32 → SX → Prop, Q 0 u1 → wpX_holds Q u (nI s)) ∧ (∀ Q : Int32 → SY → Prop, Q 0 v1 → wpY_apply Q v (nI s) (xa_out u) 0) ∧ ro_ L N K n tk u1 v1) ∨
    (∃ a c z p vt ot va oa, sp < L ∧ (∀ Q : Int32 → SX → Prop, Q (if z = 0 then 0 else 1) (xs_operand (xm_ps u a c) p) → wpX_holds Q u (nI s)) ∧ (∀ Q : Int32 → SY → Prop, Q 1 (yq_m v a c vt ot 0 va oa z) → wpY_apply Q v (nI s) (xa_out u) 0) ∧
      rn_ L N K n tk fr en (sp + 1) rem cnt (bd_ sp s) P stk (xs_operand (xm_ps u a c) p) (yq_m v a c vt ot 0 va oa z)) := by
  rcases ap_lock hR hs hx (xa_out u) 0 with ⟨e, X, Y⟩ | ⟨a, c, hlt, X, ⟨z, p, vt, ot, va, oa, XV, Y, R'⟩ | ⟨z, p, r, vt, ot, va, oa, XV, Y, ro⟩⟩
  · exact Or.inl ⟨_, _, fun Q hq => xh_no X hq, Y, ro_stop hR⟩
  · have hst0 : xa_stopped (xs_operand (xm_ps u a c) p) = 0 := R'.2.2.1.2.2.2.1
    refine Or.inr ⟨a, c, z, p, vt, ot, va, oa, hlt, fun Q hq => xh_ok X rfl XV ?_, Y, R'⟩
    by_cases hz : z = 0
    · rw [if_pos hz] at hq; exact br_t hz hq
    · rw [if_neg hz] at hq; exact br_f hz (br_t hst0 hq)
  · have hst1 : ¬ xa_stopped (xf_s (xm_ps u a c) (nI s) 1 p) = 0 := by rw [ro.2.2.2.1]; decide
    exact Or.inl ⟨_, _, fun Q hq => xh_ok X rfl XV (br_c (fun _ => hq) (fun _ => br_f hst1 hq)), Y, ro⟩
theorem yk_q {a z : Int32} {c va oa : Nat → Int32} {vt ot br : Int32} : ya_kinds (yq_m v a c vt ot br va oa z) = ya_kinds v ∧ ya_v (yq_m v a c vt ot br va oa z) = z ∧ ya_begun (yq_m v a c vt ot br va oa z) = ya_begun v := ⟨rfl, rfl, rfl⟩
theorem ar_0 (h : FL_ L N K n tk fr en sp rem cnt P stk s u v) (hs : s < N) (hk : K s = 0) : AR_ L N K n tk cnt fr rem sp s u v := by
  obtain ⟨hs8, hkx, hky, h0⟩ := FL_k h hs hk
  obtain ⟨hR, ht, hst, hf, he, hsN, h1, ho⟩ := h
  rcases hd_lock hR hs (by rw [hk]; unfold rl_hx; omega) with ⟨u1, v1, X, Y, ro⟩ | ⟨a, c, z, p, vt, ot, va, oa, hlt, X, Y, R'⟩
  · rw [ho] at Y
    exact AR_out hR.1 hs (fun Q hq => by rw [hk]; exact st_p (by omega) (xk_0 hs8 (Or.inl rfl) X hq)) (fun Q hq => yi_0 hs8 hky (Or.inl rfl) (yk_93 hs8 hky (by omega) (fun z => absurd z (by omega)) (yk_93n Y hq))) ro
  · rw [ho] at Y
    obtain ⟨B, hB⟩ : ∃ B, B = upd (ya_begun (yq_m v a c vt ot 0 va oa z)) s (if z = 0 then 1 else 0) := ⟨_, rfl⟩
    have R2 : rn_ L N K n tk fr en (sp + 1) rem cnt (bd_ sp s) P stk (xs_operand (xm_ps u a c) p) (ym_vb (yq_m v a c vt ot 0 va oa z) (ya_v v) B) := by
      rw [yV_vb]
      have := R_W (s0 := s) R' hf of_Xr (of_Yb (of_iu hB)) (by omega) (fun g => sr_no (by omega) g)
      rw [xV_self] at this
      exact R_y2 this
    by_cases hz : z = 0
    · rw [if_pos hz] at X hB
      refine AR_drop (sp' := sp + 1) hR.1 hs (fun Q hq => by rw [hk]; exact st_p (by omega) (xk_0 hs8 (Or.inl rfl) X hq))
        (fun Q hq => yi_0 hs8 hky (Or.inl rfl) (yk_93 hs8 hky (by omega) (fun z => absurd z (by omega)) (yk_93y (k := 0) (z := z) hs8 Y (by rw [yk_q.1]; exact hky) (Or.inl rfl) yk_q.2.1 (Or.inl ⟨hz, rfl, rfl⟩) hB hq))) (R_all R2) (t_cg ht (fun e _ => ⟨rfl, rfl⟩)) hst hf he (by omega)
    · rw [if_neg hz] at X hB
      refine AR_pass (sp' := sp + 1) hR.1 hs (fun Q hq => by rw [hk]; exact st_p (by omega) (xk_0 hs8 (Or.inr rfl) X hq))
        (fun Q hq => yi_0 hs8 hky (Or.inl rfl) (yk_93 hs8 hky (by omega) (fun z => absurd z (by omega)) (yk_93y (k := 0) (z := z) hs8 Y (by rw [yk_q.1]; exact hky) (Or.inl rfl) yk_q.2.1 (Or.inr ⟨hz, rfl, rfl⟩) hB hq)))
        (FL_next R2 (t_cg ht (fun e _ => ⟨rfl, rfl⟩)) (fun e he' => by have := hst e he'; omega) hf (by omega) hs h1 (by omega) ho) (by omega)
theorem ar_4 (h : FL_ L N K n tk fr en sp rem cnt P stk s u v) (hs : s < N) (hk : K s = 4) : AR_ L N K n tk cnt fr rem sp s u v := by
  obtain ⟨hs8, hkx, hky, h0⟩ := FL_k h hs hk
  obtain ⟨hR, ht, hst, hf, he, hsN, h1, ho⟩ := h
  rcases hd_lock hR hs (by rw [hk]; unfold rl_hx; omega) with ⟨u1, v1, X, Y, ro⟩ | ⟨a, c, z, p, vt, ot, va, oa, hlt, X, Y, R'⟩
  · rw [ho] at Y
    exact AR_out (u' := xs_ended u1 (nI s)) hR.1 hs (fun Q hq => by rw [hk]; exact st_p (by omega) (xk_4 hs8 X (Or.inl rfl) ⟨fun _ => hq, fun z => absurd z (by decide)⟩)) (fun Q hq => yi_0 hs8 hky (Or.inr (Or.inl rfl)) (yk_93 hs8 hky (by omega) (fun z => absurd z (by omega)) (yk_93n Y hq))) (ro_e ro)
  · rw [ho] at Y
    obtain ⟨B, hB⟩ : ∃ B, B = upd (ya_begun (yq_m v a c vt ot 0 va oa z)) s (if z = 0 then 1 else 0) := ⟨_, rfl⟩
    have R2 : rn_ L N K n tk fr en (sp + 1) rem cnt (bd_ sp s) P stk (xs_operand (xm_ps u a c) p) (ym_vb (yq_m v a c vt ot 0 va oa z) (ya_v v) B) := by
      rw [yV_vb]
      have := R_W (s0 := s) R' hf of_Xr (of_Yb (of_iu hB)) (by omega) (fun g => sr_no (by omega) g)
      rw [xV_self] at this
      exact R_y2 this
    by_cases hz : z = 0
    · rw [if_pos hz] at X hB
      refine AR_ends (sp' := sp + 1) (u' := xs_ended (xs_operand (xm_ps u a c) p) (nI s)) hR.1 hs (fun Q hq => by rw [hk]; exact st_p (by omega) (xk_4 hs8 X (Or.inl rfl) ⟨fun _ => hq, fun z => absurd z (by decide)⟩))
        (fun Q hq => yi_0 hs8 hky (Or.inr (Or.inl rfl)) (yk_93 hs8 hky (by omega) (fun z => absurd z (by omega)) (yk_93y (k := 4) (z := z) hs8 Y (by rw [yk_q.1]; exact hky) (Or.inr (Or.inl rfl)) yk_q.2.1 (Or.inl ⟨hz, rfl, rfl⟩) hB hq)))
        (R_all (R_end R2 (nI_toInt (by omega)) hs he (Or.inl hf))) hst hf (by omega)
    · rw [if_neg hz] at X hB
      refine AR_pass (sp' := sp + 1) hR.1 hs (fun Q hq => by rw [hk]; exact st_p (by omega) (xk_4 hs8 X (Or.inr rfl) ⟨fun z => absurd z (by decide), fun _ => hq⟩))
        (fun Q hq => yi_0 hs8 hky (Or.inr (Or.inl rfl)) (yk_93 hs8 hky (by omega) (fun z => absurd z (by omega)) (yk_93y (k := 4) (z := z) hs8 Y (by rw [yk_q.1]; exact hky) (Or.inr (Or.inl rfl)) yk_q.2.1 (Or.inr ⟨hz, rfl, rfl⟩) hB hq)))
        (FL_next R2 (t_cg ht (fun e _ => ⟨rfl, rfl⟩)) (fun e he' => by have := hst e he'; omega) hf (by omega) hs h1 (by omega) ho) (by omega)
theorem ar_5 (h : FL_ L N K n tk fr en sp rem cnt P stk s u v) (hs : s < N) (hk : K s = 5) : AR_ L N K n tk cnt fr rem sp s u v := by
  obtain ⟨hs8, hkx, hky, h0⟩ := FL_k h hs hk
  obtain ⟨hR, ht, hst, hf, he, hsN, h1, ho⟩ := h
  have hsr := hR.2.2.2.2.2.1 s ⟨hf, he, hs⟩
  have hbe : xa_begun u s = ya_begun v s := hsr.2.2.2.2.1 hk
  by_cases hb : xa_begun u s = 0
  · have hby : ya_begun v s = 0 := by rw [← hbe]; exact hb
    rcases hd_lock hR hs (by rw [hk]; unfold rl_hx; omega) with ⟨u1, v1, X, Y, ro⟩ | ⟨a, c, z, p, vt, ot, va, oa, hlt, X, Y, R'⟩
    · rw [ho] at Y
      obtain ⟨B, hB⟩ : ∃ B, B = upd (xa_begun u1) s 0 := ⟨_, rfl⟩
      exact AR_out (u' := xs_begun u1 B) hR.1 hs (fun Q hq => by rw [hk]; exact st_p (by omega) (xk_5 hs8 hb X (Or.inr ⟨rfl, Or.inr ⟨by rw [ro.2.2.2.1]; decide, rfl⟩⟩) hB hq))
        (fun Q hq => yi_0 hs8 hky (Or.inr (Or.inr rfl)) (yk_93 hs8 hky (by omega) (fun _ => hby) (yk_93n Y hq))) (ro_b ro)
    · rw [ho] at Y
      obtain ⟨B, hB⟩ : ∃ B, B = upd (ya_begun (yq_m v a c vt ot 0 va oa z)) s (if z = 0 then 1 else 0) := ⟨_, rfl⟩
      obtain ⟨B', hB'⟩ : ∃ B', B' = upd (xa_begun (xs_operand (xm_ps u a c) p)) s (if z = 0 then 1 else 0) := ⟨_, rfl⟩
      have hst0 : xa_stopped (xs_operand (xm_ps u a c) p) = 0 := R'.2.2.1.2.2.2.1
      have R2 : rn_ L N K n tk fr en (sp + 1) rem cnt (bd_ sp s) P stk (xs_begun (xs_operand (xm_ps u a c) p) B') (ym_vb (yq_m v a c vt ot 0 va oa z) (ya_v v) B) := by
        rw [yV_vb, xV_be]
        refine R_y2 (R_W (s0 := s) R' hf (of_Xb (of_iu hB')) (of_Yb (of_iu hB)) (by omega) (fun g => ?_))
        rw [hk] at g ⊢
        refine sr_is5 g ?_
        show B' s = B s
        rw [hB, hB', pk_us, pk_us]
      by_cases hz : z = 0
      · rw [if_pos hz] at X hB hB'
        refine AR_pass (sp' := sp + 1) hR.1 hs (fun Q hq => by rw [hk]; exact st_p (by omega) (xk_5 hs8 hb X (Or.inr ⟨rfl, Or.inl ⟨hst0, rfl⟩⟩) hB' hq))
          (fun Q hq => yi_0 hs8 hky (Or.inr (Or.inr rfl)) (yk_93 hs8 hky (by omega) (fun _ => hby) (yk_93y (k := 5) (z := z) hs8 Y (by rw [yk_q.1]; exact hky) (Or.inr (Or.inr rfl)) yk_q.2.1 (Or.inl ⟨hz, rfl, rfl⟩) hB hq)))
          (FL_next R2 (t_cg ht (fun e _ => ⟨rfl, rfl⟩)) (fun e he' => by have := hst e he'; omega) hf (by omega) hs h1 (by omega) ho) (by omega)
      · rw [if_neg hz] at X hB hB'
        refine AR_drop (sp' := sp + 1) hR.1 hs (fun Q hq => by rw [hk]; exact st_p (by omega) (xk_5 hs8 hb X (Or.inl ⟨rfl, rfl⟩) hB' hq))
          (fun Q hq => yi_0 hs8 hky (Or.inr (Or.inr rfl)) (yk_93 hs8 hky (by omega) (fun _ => hby) (yk_93y (k := 5) (z := z) hs8 Y (by rw [yk_q.1]; exact hky) (Or.inr (Or.inr rfl)) yk_q.2.1 (Or.inr ⟨hz, rfl, rfl⟩) hB hq)))
          (R_all R2) (t_cg ht (fun e _ => ⟨rfl, rfl⟩)) hst hf he (by omega)
  · have hby : ¬ ya_begun v s = 0 := by rw [← hbe]; exact hb
    exact AR_pass (sp' := sp) hR.1 hs (fun Q hq => by rw [hk]; exact st_p (by omega) (xk_5b hs8 hb hq)) (fun Q hq => yi_0 hs8 hky (Or.inr (Or.inr rfl)) (yk_72b hs8 hky hby hq))
      (FL_next hR ht (fun e he' => by have := hst e he'; omega) hf (by omega) hs h1 (by omega) ho) (by omega)
end
end
section
/-! an element at a stage of kind 2, 3, 9, 12, 13 -/
theorem xV_mb (u : SX) (M B : Nat → Int32) : xm_mb u M B = xV_s u M B (xa_place u) (xa_held u) (xa_keyOf u) (xa_next u) (xa_size u) (xa_head u) := rfl
theorem xV_omb (u : SX) (o : Int32) (M B : Nat → Int32) : xm_omb u o M B = xs_out (xV_s u M B (xa_place u) (xa_held u) (xa_keyOf u) (xa_next u) (xa_size u) (xa_head u)) o := rfl
theorem yV_lb (v : SY) (A B : Nat → Int32) : ym_lb v A B = yV_s v (ya_left v) A (ya_place v) B (ya_held v) (ya_keys v) (ya_holds v) := rfl
theorem yV_vlb (v : SY) (y : Int32) (A B : Nat → Int32) : ym_vlb v y A B = ys_v (yV_s v (ya_left v) A (ya_place v) B (ya_held v) (ya_keys v) (ya_holds v)) y := rfl
theorem xV_em (u : SX) (z : Int32) (M : Nat → Int32) : xs_ended (xs_memory u M) z = xV_s (xs_ended u z) M (xa_begun u) (xa_place u) (xa_held u) (xa_keyOf u) (xa_next u) (xa_size u) (xa_head u) := rfl
section
variable {u u' : SX} {v v' : SY} {s : Nat}
theorem of_Xmb {M B : Nat → Int32} (h1 : of_i s M (xa_memory u)) (h2 : of_i s B (xa_begun u)) : of_X s u M B (xa_place u) (xa_held u) (xa_keyOf u) (xa_next u) (xa_size u) (xa_head u) := ⟨h1, h2, of_ir _, of_xr _, of_xr _, of_xr _, of_ir _, of_ir _⟩
theorem of_Ylb {A B : Nat → Int32} (h1 : of_i s A (ya_last v)) (h2 : of_i s B (ya_begun v)) : of_Y s v (ya_left v) A (ya_place v) B (ya_held v) (ya_keys v) (ya_holds v) := ⟨of_ir _, h1, of_ir _, h2, of_yr _, of_yr _, of_ir _⟩
theorem sr_is2 {c : Int32} {p q b : Nat} (h : p ≤ q ∧ q ≤ b) (e : sr_2 c s u' v') : sr_ 2 c p q b s u' v' :=
  ⟨h.1, h.2, fun _ => e, fun z => absurd z (by omega), fun z => absurd z (by omega), fun z => absurd z (by omega), fun z => absurd z (by omega), fun z => absurd z (by omega), fun z => absurd z (by omega), fun z => absurd z (by omega), fun z => absurd z (by omega), fun z => absurd z (by omega)⟩
theorem sr_is3 {c : Int32} {p q b : Nat} (h : p ≤ q ∧ q ≤ b) (e : sr_3 c p b s u' v') : sr_ 3 c p q b s u' v' :=
  ⟨h.1, h.2, fun z => absurd z (by omega), fun _ => e, fun z => absurd z (by omega), fun z => absurd z (by omega), fun z => absurd z (by omega), fun z => absurd z (by omega), fun z => absurd z (by omega), fun z => absurd z (by omega), fun z => absurd z (by omega), fun z => absurd z (by omega)⟩
theorem sr_is12 {k : Nat} {c : Int32} {p q b : Nat} (hk : k = 12 ∨ k = 13) (h : p ≤ q ∧ q ≤ b) (e : xa_memory u' s = ya_last v' s ∧ xa_begun u' s = ya_begun v' s) : sr_ k c p q b s u' v' :=
  ⟨h.1, h.2, fun z => absurd z (by omega), fun z => absurd z (by omega), fun z => absurd z (by omega), fun z => absurd z (by omega), fun z => absurd z (by omega), fun z => absurd z (by omega), fun _ => e, fun z => absurd z (by omega), fun z => absurd z (by omega), fun z => absurd z (by omega)⟩
end
section
variable {L N : Nat} {K : Nat → Nat} {n : Nat} {tk : Nat → Nat} {fr en : Int} {sp rem cnt : Nat} {b P : Nat → Nat} {stk : List (Nat × Int32 × Nat)} {u : SX} {v : SY} {s k : Nat}
section
variable {m1 m2 m3 m4 m5 m6 m7 m8 l1 l2 l3 l4 l5 l6 l7 : Nat → Int32} {s0 : Nat}
theorem R_Wb {b' : Nat → Nat} (h : rn_ L N K n tk fr en sp rem cnt b P stk u v) (hf : fr < s0) (hx : of_X s0 u m1 m2 m3 m4 m5 m6 m7 m8) (hy : of_Y s0 v l1 l2 l3 l4 l5 l6 l7) (hk : ¬ (K s0 = 6 ∨ K s0 = 7 ∨ K s0 = 11)) (hb : ∀ q, b q ≤ b' q) (hb' : ∀ q, b' q ≤ sp)
    (hn : li_v fr en N s0 → sr_ (K s0) (xa_constant u s0) (P s0) (P (s0 + 1)) (b s0) s0 u v → sr_ (K s0) (xa_constant u s0) (P s0) (P (s0 + 1)) (b' s0) s0 (xV_s u m1 m2 m3 m4 m5 m6 m7 m8) (yV_s v l1 l2 l3 l4 l5 l6 l7)) :
    rn_ L N K n tk fr en sp rem cnt b' P stk (xV_s u m1 m2 m3 m4 m5 m6 m7 m8) (yV_s v l1 l2 l3 l4 l5 l6 l7) :=
  R_V h hf (fun s hs _ => of_vx hx hs) (fun s hs _ => of_vy hy hs) (fun hl => hn hl (h.2.2.2.2.2.1 s0 hl)) (fun _ => ⟨fun z => absurd z (by omega), fun z => absurd z (by omega)⟩)
    (fun e he hes _ _ => by
      have := (sk_in stk h.2.2.2.1.2.2.2.2.2.2.2.2 he).2.2.1
      rw [hes] at this
      exact absurd this hk) (fun s _ _ g => sr_mono g (hb s)) h.2.2.2.2.2.2.2.1 (by have h1 := h.2.2.2.2.2.2.2.2.2.1; have h2 := hb N; omega) hb'
end
theorem bd_s : bd_ sp s s = sp - 1 := if_neg (by omega)
theorem bd_s1 : bd_ sp (s + 1) s = sp := if_pos (by omega)
theorem ar_9 (h : FL_ L N K n tk fr en sp rem cnt P stk s u v) (hs : s < N) (hk : K s = 9) : AR_ L N K n tk cnt fr rem sp s u v := by
  obtain ⟨hs8, hkx, hky, h0⟩ := FL_k h hs hk
  obtain ⟨hR, ht, hst, hf, he, hsN, h1, ho⟩ := h
  exact AR_pass (sp' := sp) hR.1 hs (fun Q hq => by rw [hk]; exact st_s (by omega) (by omega) (xk_9 hs8 hq)) (fun Q hq => yi_9 hs8 hky hq)
    (FL_next hR ht (fun e he' => by have := hst e he'; omega) hf (by omega) hs h1 (by omega) ho) (by omega)
theorem ar_2 (h : FL_ L N K n tk fr en sp rem cnt P stk s u v) (hs : s < N) (hk : K s = 2) : AR_ L N K n tk cnt fr rem sp s u v := by
  obtain ⟨hs8, hkx, hky, h0⟩ := FL_k h hs hk
  obtain ⟨hR, ht, hst, hf, he, hsN, h1, ho⟩ := h
  have hsr := hR.2.2.2.2.2.1 s ⟨hf, he, hs⟩
  obtain ⟨q, m, e1, e2, e3, e4, e5⟩ := hsr.2.2.1 hk
  obtain ⟨M, hM⟩ : ∃ M, M = upd (xa_memory u) s (nI (q + 1)) := ⟨_, rfl⟩
  obtain ⟨A, hA⟩ : ∃ A, A = upd (ya_left v) s (ya_left v s + 1) := ⟨_, rfl⟩
  have hA' : A = upd (ya_left v) s (nI (q + 1)) := by rw [hA, e1, nI_1]
  have hnum : ya_numbers v = xa_constant u := hR.1.2.2.2.2.2.2.2.2.2.2.2.2.1
  have hmm : xa_memory u s + 1 = nI (q + 1) := by rw [e2, nI_1]
  by_cases hend : q + 1 = m
  · have hec : nI (q + 1) = xa_constant u s := by rw [e3, hend]
    have R2 : rn_ L N K n tk fr (s : Nat) sp rem cnt (bd_ sp s) P stk (xs_ended (xs_memory u M) (nI s)) (ys_left v A) := by
      rw [xV_em, yV_le]
      exact R_Wb (s0 := s) (R_end hR (nI_toInt (by omega)) hs he (Or.inl hf)) hf (of_Xm (of_iu hM)) (of_Yl (of_iu hA)) (by omega) (fun _ => Nat.le_refl _) (fun _ => bd_le _ _ _) (fun hl => absurd hl.2.1 (by omega))
    refine AR_pass (sp' := sp) hR.1 hs (fun Q hq => by rw [hk]; exact st_p (by omega) (xk_2 hs8 hmm rfl hM (fun _ => hq) (fun z => absurd hec z))) (fun Q hq => yi_2 hs8 hky hA hq)
      (FL_next R2 ?_ (fun e he' => by have := hst e he'; omega) hf (by omega) hs h1 (by omega) ho) (by omega)
    intro _
    refine ⟨s, rfl, hk, ?_⟩
    show ¬ A s < ya_numbers v s
    rw [hA', pk_us, hnum, e3, hend]
    exact Int32.lt_irrefl
  · have hec : ¬ nI (q + 1) = xa_constant u s := by
      rw [e3]
      exact fun e => hend ((nI_eq (by omega) (by omega)).mp e)
    have R2 : rn_ L N K n tk fr en sp rem cnt (bd_ sp s) P stk (xs_memory u M) (ys_left v A) := by
      rw [xV_me, yV_le]
      refine R_W (s0 := s) hR hf (of_Xm (of_iu hM)) (of_Yl (of_iu hA)) (by omega) (fun g => ?_)
      rw [hk] at g ⊢
      refine sr_is2 ⟨g.1, g.2.1⟩ ⟨q + 1, m, ?_, ?_, e3, by omega, e5⟩
      · show A s = _; rw [hA', pk_us]
      · show M s = _; rw [hM, pk_us]
    exact AR_pass (sp' := sp) hR.1 hs (fun Q hq => by rw [hk]; exact st_p (by omega) (xk_2 hs8 hmm rfl hM (fun z => absurd z hec) (fun _ => hq))) (fun Q hq => yi_2 hs8 hky hA hq)
      (FL_next R2 (t_cg ht (fun e he' => ⟨by show A e = _; rw [hA]; exact pk_un (by omega), rfl⟩)) (fun e he' => by have := hst e he'; omega) hf (by omega) hs h1 (by omega) ho) (by omega)
theorem ar_3 (h : FL_ L N K n tk fr en sp rem cnt P stk s u v) (hs : s < N) (hk : K s = 3) : AR_ L N K n tk cnt fr rem sp s u v := by
  obtain ⟨hs8, hkx, hky, h0⟩ := FL_k h hs hk
  obtain ⟨hR, ht, hst, hf, he, hsN, h1, ho⟩ := h
  have hsr := hR.2.2.2.2.2.1 s ⟨hf, he, hs⟩
  obtain ⟨q, e1, e2, e3⟩ := hsr.2.2.2.1 hk
  rw [bd_s] at e2
  have hL := hR.1.2.2.2.1
  have hsp := hR.2.2.1.1
  obtain ⟨A, hA⟩ : ∃ A, A = upd (ya_left v) s (ya_left v s + 1) := ⟨_, rfl⟩
  have hA' : A = upd (ya_left v) s (nI (q + 1)) := by rw [hA, e1, nI_1]
  have hAs : A s = nI (q + 1) := by rw [hA', pk_us]
  have hnum : ya_numbers v = xa_constant u := hR.1.2.2.2.2.2.2.2.2.2.2.2.2.1
  have tt : rn_t fr en K (ys_left v A) := t_cg ht (fun e he' => ⟨by show A e = _; rw [hA]; exact pk_un (by omega), rfl⟩)
  obtain ⟨M, hM⟩ : ∃ M, M = upd (xa_memory u) s (xa_memory u s + 1) := ⟨_, rfl⟩
  -- the passing case
  have pass : (¬ xa_memory u s < xa_constant u s) → (∀ Q : Int32 → SY → Prop, Q 1 (ys_left v A) → wpY_came Q v (nI s)) →
      ((xa_constant u s < 1 ∧ xa_memory u s = 0) ∨ ∃ m, xa_constant u s = nI m ∧ m < 2 ^ 31 ∧ 1 ≤ m ∧ xa_memory u s = nI (min (q + 1) m)) → AR_ L N K n tk cnt fr rem sp s u v := by
    intro hx hy hm
    have R2 : rn_ L N K n tk fr en sp rem cnt (bd_ sp (s + 1)) P stk u (ys_left v A) := by
      rw [yV_le]
      have := R_Wb (s0 := s) (b' := bd_ sp (s + 1)) hR hf of_Xr (of_Yl (of_iu hA)) (by omega) (fun q => bd_pos (by omega) q) (fun _ => bd_le _ _ _) (fun _ g => by
        rw [hk] at g ⊢
        rw [bd_s] at g
        rw [bd_s1]
        exact sr_is3 ⟨g.1, by have := g.2.1; omega⟩ ⟨q + 1, hAs, by omega, hm⟩)
      rw [xV_self] at this
      exact this
    exact AR_pass (sp' := sp) hR.1 hs (fun Q hq => by rw [hk]; exact st_p (by omega) (xk_3 hs8 rfl rfl hM (fun z => absurd z hx) (fun _ => hq))) hy
      ⟨R2, tt, fun e he' => by have := hst e he'; omega, by omega, by omega, by omega, h1, ho⟩ (by omega)
  rcases e3 with ⟨c1, c2⟩ | ⟨m, c1, c2, c3, c4⟩
  · refine pass ?_ (fun Q hq => yi_3 hs8 hky hA (br_c (fun _ => hq) (fun _ => br_f ?_ hq))) (Or.inl ⟨c1, c2⟩)
    · rw [c2]
      rw [Int32.lt_iff_toInt_lt] at c1 ⊢
      have e0 : (0 : Int32).toInt = 0 := by decide
      have e1 : (1 : Int32).toInt = 1 := by decide
      omega
    · rw [hnum]
      exact Int32.not_le.mpr c1
  · by_cases hqm : q < m
    · have hmem : xa_memory u s = nI q := by rw [c4, show min q m = q by omega]
      have hM' : M = upd (xa_memory u) s (nI (q + 1)) := by rw [hM, hmem, nI_1]
      have hlt : xa_memory u s < xa_constant u s := by rw [hmem, c1]; exact nI_lt hqm c2
      have R2 : rn_ L N K n tk fr en sp rem cnt (fun _ => sp) P stk (xs_memory u M) (ys_left v A) := by
        rw [xV_me, yV_le]
        refine R_Wb (s0 := s) hR hf (of_Xm (of_iu hM)) (of_Yl (of_iu hA)) (by omega) (fun _ => bd_le _ _ _) (fun _ => Nat.le_refl _) (fun _ g => ?_)
        rw [hk] at g ⊢
        rw [bd_s] at g
        refine sr_is3 ⟨g.1, by have := g.2.1; omega⟩ ⟨q + 1, hAs, by omega, Or.inr ⟨m, c1, c2, c3, ?_⟩⟩
        show M s = _
        rw [hM', pk_us, show min (q + 1) m = q + 1 by omega]
      refine AR_drop (sp' := sp) hR.1 hs (fun Q hq => by rw [hk]; exact st_p (by omega) (xk_3 hs8 rfl rfl hM (fun _ => hq) (fun z => absurd hlt z)))
        (fun Q hq => yi_3 hs8 hky hA (br_f ?_ (br_t ?_ hq))) R2 tt hst hf he (by omega)
      · rw [hAs, hnum, c1]; exact nI_nlt (by omega) (by omega)
      · rw [hnum, c1]; exact nI_le (a := 1) c3 (by omega)
    · have hmem : xa_memory u s = nI m := by rw [c4, show min q m = m by omega]
      refine pass (by rw [hmem, c1]; exact Int32.lt_irrefl) (fun Q hq => yi_3 hs8 hky hA (br_t ?_ hq)) (Or.inr ⟨m, c1, c2, c3, by rw [hmem, show min (q + 1) m = m by omega]⟩)
      rw [hAs, hnum, c1]; exact nI_lt (by omega) (by omega)
theorem ar_13 (h : FL_ L N K n tk fr en sp rem cnt P stk s u v) (hs : s < N) (hk : K s = 13) : AR_ L N K n tk cnt fr rem sp s u v := by
  obtain ⟨hs8, hkx, hky, h0⟩ := FL_k h hs hk
  obtain ⟨hR, ht, hst, hf, he, hsN, h1, ho⟩ := h
  have hsr := hR.2.2.2.2.2.1 s ⟨hf, he, hs⟩
  obtain ⟨e1, e2⟩ := hsr.2.2.2.2.2.2.2.2.1 (Or.inr hk)
  obtain ⟨M, hM⟩ : ∃ M, M = upd (xa_memory u) s (xa_out u) := ⟨_, rfl⟩
  obtain ⟨B, hB⟩ : ∃ B, B = upd (xa_begun u) s 1 := ⟨_, rfl⟩
  obtain ⟨A, hA⟩ : ∃ A, A = upd (ya_last v) s (ya_v v) := ⟨_, rfl⟩
  obtain ⟨C, hC⟩ : ∃ C, C = upd (ya_begun v) s 1 := ⟨_, rfl⟩
  obtain ⟨o, hoo⟩ : ∃ o, o = xa_out u - xa_memory u s := ⟨_, rfl⟩
  have hoy : ya_v v - ya_last v s = o := by rw [hoo, ho, e1]
  have R2 : rn_ L N K n tk fr en sp rem cnt (bd_ sp s) P stk (xm_omb u o M B) (ym_vlb v o A C) := by
    rw [xV_omb, yV_vlb]
    refine R_x2 (R_y2 (R_W (s0 := s) hR hf (of_Xmb (of_iu hM) (of_iu hB)) (of_Ylb (of_iu hA) (of_iu hC)) (by omega) (fun g => ?_)))
    refine sr_is12 (Or.inr hk) ⟨g.1, g.2.1⟩ ⟨?_, ?_⟩
    · show M s = A s; rw [hM, hA, pk_us, pk_us, ho]
    · show B s = C s; rw [hB, hC, pk_us, pk_us]
  have tt : rn_t fr en K (ym_vlb v o A C) := t_cg ht (fun e _ => ⟨rfl, rfl⟩)
  by_cases hb : xa_begun u s = 0
  · have hby : ya_begun v s = 0 := by rw [← e2]; exact hb
    exact AR_drop (sp' := sp) hR.1 hs (fun Q hq => by rw [hk]; exact st_g (by omega) (xk_13 hs8 hoo.symm hB hM (fun _ => hq) (fun z => absurd hb z)))
      (fun Q hq => yk_later hs8 hky (by omega) (by omega) ⟨fun z => absurd z (by omega), fun _ => br_t hby (yk_95 hs8 hoy hA hC (Or.inr ⟨rfl, rfl⟩) hq), fun z => absurd z (by omega), fun z => absurd z (by omega)⟩) (R_all R2) tt hst hf he (by omega)
  · have hby : ¬ ya_begun v s = 0 := by rw [← e2]; exact hb
    exact AR_pass (sp' := sp) hR.1 hs (fun Q hq => by rw [hk]; exact st_g (by omega) (xk_13 hs8 hoo.symm hB hM (fun z => absurd z hb) (fun _ => hq)))
      (fun Q hq => yk_later hs8 hky (by omega) (by omega) ⟨fun z => absurd z (by omega), fun _ => br_f hby (yk_95 hs8 hoy hA hC (Or.inl ⟨rfl, rfl⟩) hq), fun z => absurd z (by omega), fun z => absurd z (by omega)⟩)
      (FL_next R2 tt (fun e he' => by have := hst e he'; omega) hf (by omega) hs h1 (by omega) rfl) (by omega)
theorem ar_12 (h : FL_ L N K n tk fr en sp rem cnt P stk s u v) (hs : s < N) (hk : K s = 12) : AR_ L N K n tk cnt fr rem sp s u v := by
  obtain ⟨hs8, hkx, hky, h0⟩ := FL_k h hs hk
  obtain ⟨hR, ht, hst, hf, he, hsN, h1, ho⟩ := h
  have hsr := hR.2.2.2.2.2.1 s ⟨hf, he, hs⟩
  obtain ⟨e1, e2⟩ := hsr.2.2.2.2.2.2.2.2.1 (Or.inl hk)
  by_cases hb : xa_begun u s = 0
  · have hby : ya_begun v s = 0 := by rw [← e2]; exact hb
    obtain ⟨M, hM⟩ : ∃ M, M = upd (xa_memory u) s (xa_out u) := ⟨_, rfl⟩
    obtain ⟨B, hB⟩ : ∃ B, B = upd (xa_begun u) s 1 := ⟨_, rfl⟩
    obtain ⟨A, hA⟩ : ∃ A, A = upd (ya_last v) s (ya_v v) := ⟨_, rfl⟩
    obtain ⟨C, hC⟩ : ∃ C, C = upd (ya_begun v) s 1 := ⟨_, rfl⟩
    have R2 : rn_ L N K n tk fr en sp rem cnt (bd_ sp s) P stk (xm_mb u M B) (ym_lb v A C) := by
      rw [xV_mb, yV_lb]
      refine R_W (s0 := s) hR hf (of_Xmb (of_iu hM) (of_iu hB)) (of_Ylb (of_iu hA) (of_iu hC)) (by omega) (fun g => ?_)
      refine sr_is12 (Or.inl hk) ⟨g.1, g.2.1⟩ ⟨?_, ?_⟩
      · show M s = A s; rw [hM, hA, pk_us, pk_us, ho]
      · show B s = C s; rw [hB, hC, pk_us, pk_us]
    exact AR_pass (sp' := sp) hR.1 hs (fun Q hq => by rw [hk]; exact st_g (by omega) (xk_12a hs8 hb h0 hB hM hq))
      (fun Q hq => yk_later hs8 hky (by omega) (by omega) ⟨fun _ => br_t hby (yk_62 hs8 hA hC hq), fun z => absurd z (by omega), fun z => absurd z (by omega), fun z => absurd z (by omega)⟩)
      (FL_next R2 (t_cg ht (fun e _ => ⟨rfl, rfl⟩)) (fun e he' => by have := hst e he'; omega) hf (by omega) hs h1 (by omega) ho) (by omega)
  · have hby : ¬ ya_begun v s = 0 := by rw [← e2]; exact hb
    rcases ap_lock hR hs (by rw [hk]; unfold rl_hx; omega) (xa_out u) (xa_memory u s) with ⟨e, X, Y⟩ | ⟨a, c, hlt, X, ⟨z, p, vt, ot, va, oa, XV, Y, R'⟩ | ⟨z, p, r, vt, ot, va, oa, XV, Y, ro⟩⟩
    · rw [ho, e1] at Y
      exact AR_out hR.1 hs (fun Q hq => by rw [hk]; exact st_g (by omega) (xk_12n hs8 hb X hq))
        (fun Q hq => yk_later hs8 hky (by omega) (by omega) ⟨fun _ => br_f hby (Y _ (br_t rfl hq)), fun z => absurd z (by omega), fun z => absurd z (by omega), fun z => absurd z (by omega)⟩) (ro_stop hR)
    · rw [ho, e1] at Y
      have hst0 : xa_stopped (xs_operand (xm_ps u a c) p) = 0 := R'.2.2.1.2.2.2.1
      obtain ⟨M, hM⟩ : ∃ M, M = upd (xa_memory (xs_operand (xm_ps u a c) p)) s z := ⟨_, rfl⟩
      obtain ⟨B, hB⟩ : ∃ B, B = upd (xa_begun (xs_operand (xm_ps u a c) p)) s 1 := ⟨_, rfl⟩
      obtain ⟨A, hA⟩ : ∃ A, A = upd (ya_last (yq_m v a c vt ot 0 va oa z)) s (ya_v (yq_m v a c vt ot 0 va oa z)) := ⟨_, rfl⟩
      obtain ⟨C, hC⟩ : ∃ C, C = upd (ya_begun (yq_m v a c vt ot 0 va oa z)) s 1 := ⟨_, rfl⟩
      have R2 : rn_ L N K n tk fr en (sp + 1) rem cnt (bd_ sp s) P stk (xm_omb (xs_operand (xm_ps u a c) p) z M B) (ym_lb (yq_m v a c vt ot 0 va oa z) A C) := by
        rw [xV_omb, yV_lb]
        refine R_x2 (R_W (s0 := s) R' hf (of_Xmb (of_iu hM) (of_iu hB)) (of_Ylb (of_iu hA) (of_iu hC)) (by omega) (fun g => ?_))
        refine sr_is12 (Or.inl hk) ⟨g.1, g.2.1⟩ ⟨?_, ?_⟩
        · show M s = A s; rw [hM, hA, pk_us, pk_us, yk_q.2.1]
        · show B s = C s; rw [hB, hC, pk_us, pk_us]
      exact AR_pass (sp' := sp + 1) hR.1 hs (fun Q hq => by rw [hk]; exact st_g (by omega) (xk_12 hs8 hb X rfl rfl XV hB hM (br_t hst0 hq)))
        (fun Q hq => yk_later hs8 hky (by omega) (by omega) ⟨fun _ => br_f hby (Y _ (br_f (by decide) (yk_62 (v := yq_m v a c vt ot 0 va oa z) hs8 hA hC hq))), fun z => absurd z (by omega), fun z => absurd z (by omega), fun z => absurd z (by omega)⟩)
        (FL_next R2 (t_cg ht (fun e _ => ⟨rfl, rfl⟩)) (fun e he' => by have := hst e he'; omega) hf (by omega) hs h1 (by omega) rfl) (by omega)
    · rw [ho, e1] at Y
      have hst1 : ¬ xa_stopped (xf_s (xm_ps u a c) (nI s) 1 p) = 0 := by rw [ro.2.2.2.1]; decide
      obtain ⟨M, hM⟩ : ∃ M, M = upd (xa_memory (xf_s (xm_ps u a c) (nI s) 1 p)) s z := ⟨_, rfl⟩
      obtain ⟨B, hB⟩ : ∃ B, B = upd (xa_begun (xf_s (xm_ps u a c) (nI s) 1 p)) s 1 := ⟨_, rfl⟩
      exact AR_out hR.1 hs (fun Q hq => by rw [hk]; exact st_g (by omega) (xk_12 hs8 hb X rfl rfl XV hB hM (br_f hst1 hq)))
        (fun Q hq => yk_later hs8 hky (by omega) (by omega) ⟨fun _ => br_f hby (Y _ (br_t rfl hq)), fun z => absurd z (by omega), fun z => absurd z (by omega), fun z => absurd z (by omega)⟩) (ro_m ro)
end
end
section
/-! an element at a stage that gives several: kinds 6, 7, 11 -/
theorem yV_ll (v : SY) (A B : Nat → Int32) : ym_ll v A B = yV_s v A B (ya_place v) (ya_begun v) (ya_held v) (ya_keys v) (ya_holds v) := rfl
theorem yV_lpb (v : SY) (A B C : Nat → Int32) : ym_lpb v A B C = yV_s v (ya_left v) A B C (ya_held v) (ya_keys v) (ya_holds v) := rfl
theorem sk_upd2 {a b c : Nat → Int32} {k : Nat} {x y z : Int32} : ∀ l : List (Nat × Int32 × Nat), sk_st a b c l → l.length ≤ k → sk_st (upd a k x) (upd b k y) (upd c k z) l
  | [], _, _ => trivial
  | (o, q, m) :: l, h, hk => by
    simp only [List.length_cons] at hk
    exact ⟨(pk_un (by omega)).trans h.1, (pk_un (by omega)).trans h.2.1, (pk_un (by omega)).trans h.2.2.1, sk_upd2 l h.2.2.2 (by omega)⟩
section
variable {L N : Nat} {K : Nat → Nat} {n : Nat} {tk : Nat → Nat} {fr en : Int} {sp rem cnt : Nat} {b P : Nat → Nat} {stk : List (Nat × Int32 × Nat)} {u : SX} {v : SY} {s k : Nat}
theorem ve_xr {op : Int32} {a c d : Nat → Int32} : ve_x s u (xm_op u op a c d) := ⟨rfl, rfl, rfl, rfl, rfl, fun _ _ => ⟨rfl, rfl, rfl⟩⟩
section
variable {l1 l2 l3 l4 l5 l6 l7 oS oV oL : Nat → Int32} {s0 l : Nat} {x op : Int32}
theorem R_push (h : rn_ L N K n tk fr en sp rem cnt b P stk u v) (hf : fr < s0) (he : en < s0) (hs : s0 < N) (hk : K s0 = 6 ∨ K s0 = 7 ∨ K s0 = 11) (hl : l ≤ 24) (hlt : ∀ e, e ∈ stk → e.1 < s0)
    (h1 : op = nI (stk.length + 1)) (h2 : oS = upd (xa_openStage u) stk.length (nI s0)) (h3 : oV = upd (xa_openValue u) stk.length x) (h4 : oL = upd (xa_openLeft u) stk.length (nI l)) (hy : of_Y s0 v l1 l2 l3 l4 l5 l6 l7)
    (hop : op_rel K (yV_s v l1 l2 l3 l4 l5 l6 l7) (s0, x, l)) : rn_ L N K n tk fr en sp rem cnt b P ((s0, x, l) :: stk) (xm_op u op oS oV oL) (yV_s v l1 l2 l3 l4 l5 l6 l7) := by
  obtain ⟨g1, g2, g3, ⟨c1, c2, c3, c4, c5, c6, c7, c8, c9⟩, g5, g6, g7, g8⟩ := h
  have hL := g1.2.2.2.1
  have hsp := g3.1
  refine ⟨g1, g2, g3, ⟨c1, c2, c3, c4, c5, c6, h1, ?_, ⟨hf, hs, hk, hl, hlt, c9⟩⟩, ⟨fun e hin hen => ?_, fun q hq hne => ?_⟩, fun q hq => ?_, fun hlt' => ?_, g8⟩
  · refine ⟨?_, ?_, ?_, ?_⟩
    · show oS stk.length = _; rw [h2, pk_us]
    · show oV stk.length = _; rw [h3, pk_us]
    · show oL stk.length = _; rw [h4, pk_us]
    · show sk_st oS oV oL stk
      rw [h2, h3, h4]
      exact sk_upd2 stk c8 (Nat.le_refl _)
  · rcases List.mem_cons.mp hin with z | z
    · rw [z]; exact hop
    · exact op_cg (g5.1 e z hen) (of_vy hy (by have := hlt e z; omega))
  · have hq0 : q ≠ s0 := fun z => hne (s0, x, l) (List.mem_cons_self ..) z.symm
    exact id_cg (g5.2 q hq (fun e he' => hne e (List.mem_cons_of_mem _ he'))) (of_vy hy hq0)
  · by_cases c : q = s0
    · subst c
      exact sr_no (by omega) (g6 q hq)
    · have hb := g8.2.2.2 q
      exact sr_cg (g6 q hq) (by omega) ve_xr (of_vy hy c)
  · refine so_cg (g7 hlt') rfl (fun _ => rfl) (fun q e => ve_xr) (fun q e => of_vy hy (by omega))
end
theorem of_Yll {A B : Nat → Int32} (h1 : of_i s A (ya_left v)) (h2 : of_i s B (ya_last v)) : of_Y s v A B (ya_place v) (ya_begun v) (ya_held v) (ya_keys v) (ya_holds v) := ⟨h1, h2, of_ir _, of_ir _, of_yr _, of_yr _, of_ir _⟩
theorem of_Ylpb {A B C : Nat → Int32} (h1 : of_i s A (ya_last v)) (h2 : of_i s B (ya_place v)) (h3 : of_i s C (ya_begun v)) : of_Y s v (ya_left v) A B C (ya_held v) (ya_keys v) (ya_holds v) := ⟨of_ir _, h1, h2, h3, of_yr _, of_yr _, of_ir _⟩
/-- X opens a stage -/
theorem xw_open {x l : Int32} {m : Nat} (h : rn_ L N K n tk fr en sp rem cnt b P stk u v) (hlt : ∀ e, e ∈ stk → e.1 < s) (hs : s < 8) (hl : l = nI m) (hm : m ≤ 24) : ∃ op oS oV oL, op = nI (stk.length + 1) ∧ oS = upd (xa_openStage u) stk.length (nI s) ∧ oV = upd (xa_openValue u) stk.length x ∧ oL = upd (xa_openLeft u) stk.length (nI m) ∧
    ∀ Q : SX → Prop, Q (xm_op u op oS oV oL) → wpX_openFor Q u (nI s) x l := by
  have c7 := h.2.2.2.1.2.2.2.2.2.2.1
  have hlen : stk.length ≤ s := sk_len stk h.2.2.2.1.2.2.2.2.2.2.2.2 hlt
  refine ⟨_, _, _, _, rfl, rfl, rfl, rfl, fun Q hq => ?_⟩
  refine xw_openFor (o := stk.length) (p' := nI s) (l' := nI m) (by rw [c7]; exact nI_clamp (by omega)) (by rw [c7]; exact vp_in_nI (by omega) (by omega)) (zn_vb (by omega)) (by rw [hl]; exact zn_vb (by omega)) ?_
  rw [show xa_opens u + 1 = nI (stk.length + 1) by rw [c7, nI_1]]
  exact hq
theorem ar_67 (h : FL_ L N K n tk fr en sp rem cnt P stk s u v) (hs : s < N) (hk : K s = k) (hk' : k = 6 ∨ k = 7) : AR_ L N K n tk cnt fr rem sp s u v := by
  obtain ⟨hs8, hkx, hky, h0⟩ := FL_k h hs hk
  obtain ⟨hR, ht, hst, hf, he, hsN, h1, ho⟩ := h
  have hnum : ya_numbers v = xa_constant u := hR.1.2.2.2.2.2.2.2.2.2.2.2.2.1
  have hsg := hR.1.2.2.2.2.2.2.2.2.2.2.2.2.2 s hs
  obtain ⟨m, hm, hl⟩ : ∃ m, m ≤ 24 ∧ ((k = 6 ∧ xa_constant u s - 1 = nI m) ∨ (k = 7 ∧ (2 : Int32) = nI m)) := by
    rcases hk' with rfl | rfl
    · obtain ⟨c, c1, c4, ec⟩ := hsg.2.2.1 hk
      obtain ⟨c', rfl⟩ : ∃ c', c = c' + 1 := ⟨c - 1, by omega⟩
      exact ⟨c', by omega, Or.inl ⟨rfl, by rw [ec, nI_pred]⟩⟩
    · exact ⟨2, by omega, Or.inr ⟨rfl, rfl⟩⟩
  obtain ⟨A, hA⟩ : ∃ A, A = upd (ya_left v) s (nI m) := ⟨_, rfl⟩
  obtain ⟨B, hB⟩ : ∃ B, B = upd (ya_last v) s (ya_v v) := ⟨_, rfl⟩
  have hy : ∀ Q : Int32 → SY → Prop, Q 1 (ym_ll v A B) → wpY_came Q v (nI s) := fun Q hq => by
    refine yi_6 hs8 hky hk' (yk_250 (l := nI m) hs8 hky hk' ?_ hA hB hq)
    rcases hl with ⟨a, b⟩ | ⟨a, b⟩
    · exact Or.inl ⟨a, by rw [hnum, b]⟩
    · exact Or.inr ⟨a, b.symm⟩
  have fin : ∀ op oS oV oL, op = nI (stk.length + 1) → oS = upd (xa_openStage u) stk.length (nI s) → oV = upd (xa_openValue u) stk.length (xa_out u) → oL = upd (xa_openLeft u) stk.length (nI m) →
      FL_ L N K n tk fr en sp rem cnt P ((s, xa_out u, m) :: stk) (s + 1) (xm_op u op oS oV oL) (ym_ll v A B) := by
    intro op oS oV oL e1 e2 e3 e4
    rw [yV_ll]
    refine FL_next (sp := sp) (R_push hR hf he hs (by omega) hm hst e1 e2 e3 e4 (of_Yll (of_iu hA) (of_iu hB)) ⟨?_, fun _ => ?_, fun z => absurd (show K s = 11 from z) (by omega)⟩) (t_cg ht (fun e he' => ⟨?_, rfl⟩)) (fun e he' => ?_) hf (by omega) hs h1 (Nat.le_refl _) ho
    · show B s = xa_out u; rw [hB, pk_us, ho]
    · show A s = nI m; rw [hA, pk_us]
    · show A e = _; rw [hA]; exact pk_un (by omega)
    · rcases List.mem_cons.mp he' with z | z
      · rw [z]; exact Nat.lt_succ_self s
      · have := hst e z; omega
  rcases hl with ⟨rfl, hl⟩ | ⟨rfl, hl⟩
  · obtain ⟨op, oS, oV, oL, e1, e2, e3, e4, X⟩ := xw_open (x := xa_out u) (l := xa_constant u s - 1) hR hst hs8 hl hm
    exact AR_pass (sp' := sp) hR.1 hs (fun Q hq => by rw [hk]; exact st_s (by omega) (by omega) (xk_6 hs8 rfl X hq)) hy (fin op oS oV oL e1 e2 e3 e4) (by omega)
  · obtain ⟨op, oS, oV, oL, e1, e2, e3, e4, X⟩ := xw_open (x := xa_out u) (l := 2) hR hst hs8 hl hm
    exact AR_pass (sp' := sp) hR.1 hs (fun Q hq => by rw [hk]; exact st_s (by omega) (by omega) (xk_7 hs8 X hq)) hy (fin op oS oV oL e1 e2 e3 e4) (by omega)
theorem yk_ask11 {Q : Int32 → SY → Prop} (hs : s < 8) (hk : ya_kinds v s = nI 11) (hb : ¬ ya_begun v s = 0) (h : wpY_asked Q v (nI s)) : wpY_match Q v (nI s) := by
  have e : (nI s).toNatClampNeg = s := nI_clamp (by omega)
  have h' := And.right h (nI 11) (by rw [e]; exact hk.symm)
  have h2 := And.right ((((((((((((h'.2 (by decide)).2 (by decide)).2 (by decide)).2 (by decide)).2 (by decide)).2 (by decide)).2 (by decide)).2 (by decide)).2 (by decide)).2 (by decide)).2 (by decide)).1 rfl)
  rw [e] at h2
  exact h2.2 hb
theorem ar_11 (h : FL_ L N K n tk fr en sp rem cnt P stk s u v) (hs : s < N) (hk : K s = 11) : AR_ L N K n tk cnt fr rem sp s u v := by
  obtain ⟨hs8, hkx, hky, h0⟩ := FL_k h hs hk
  obtain ⟨hR, ht, hst, hf, he, hsN, h1, ho⟩ := h
  have hSt := hR.1.2.2.2.2.2.1
  have hN := hR.1.2.2.2.2.2.2.1
  obtain ⟨A, hA⟩ : ∃ A, A = upd (ya_last v) s (ya_v v) := ⟨_, rfl⟩
  obtain ⟨B, hB⟩ : ∃ B, B = upd (ya_place v) s 0 := ⟨_, rfl⟩
  obtain ⟨C, hC⟩ : ∃ C, C = upd (ya_begun v) s 1 := ⟨_, rfl⟩
  obtain ⟨op, oS, oV, oL, e1, e2, e3, e4, X⟩ := xw_open (x := xa_out u) (l := 0) (m := 0) hR hst hs8 rfl (by omega)
  have hbn : ¬ ya_begun (ym_lpb v A B C) s = 0 := by
    show ¬ C s = 0
    rw [hC, pk_us]; decide
  refine AR_again (P := P) (sp' := sp) (v' := ym_lpb v A B C) hR.1 hs (fun Q hq => by rw [hk]; exact st_s (by omega) (by omega) (xk_11 hs8 X hq)) (fun post hp => ?_) (R_all (P' := P) (b := bd_ sp s) (stk' := (s, xa_out u, 0) :: stk) ?_) (t_cg ht (fun e _ => ⟨rfl, rfl⟩)) (fun e he' => ?_) hf he (by omega)
  · obtain ⟨f, hf'⟩ := hp
    match f, hf' with
    | f + 1, hf' =>
    have hns : ¬ ya_stages (ym_lpb v A B C) ≤ nI s := by
      show ¬ ya_stages v ≤ nI s
      rw [hSt]; exact nI_ge hs (by omega)
    have ha := And.right (And.left (And.right hf' hns) (nI_pos' (by omega))) (show ¬ (1 : Int32) = 0 by decide)
    have hm := yk_ask11 (v := ym_lpb v A B C) hs8 hky hbn ha
    exact ⟨f + 1, br_f (by rw [hSt]; exact nI_ge hs (by omega)) (br_t (nI_pos' (by omega)) (br_t rfl (br_t rfl (yi_11 hs8 hky hA hB hC hm))))⟩
  · rw [yV_lpb]
    refine R_push hR hf he hs (by omega) (by omega) hst e1 e2 e3 e4 (of_Ylpb (of_iu hA) (of_iu hB) (of_iu hC)) ⟨?_, fun z => absurd (show K s = 6 ∨ K s = 7 from z) (by omega), fun _ => ⟨?_, ?_⟩⟩
    · show A s = xa_out u; rw [hA, pk_us, ho]
    · show C s = 1; rw [hC, pk_us]
    · show B s = nI 0; rw [hB, pk_us]; rfl
  · rcases List.mem_cons.mp he' with z | z
    · rw [z]; exact Nat.le_refl s
    · have := hst e z; omega
end
end
section
/-! an element at a stage that holds: kinds 8, 14, 15, 16 -/
theorem xV_nw (u : SX) (A B D C : Nat → Int32) : xm_nw u A B D C = xV_s u (xa_memory u) (xa_begun u) (xa_place u) A B D C (xa_head u) := rfl
theorem xV_in (u : SX) (A B D C H : Nat → Int32) : xm_in u A B D C H = xV_s u (xa_memory u) (xa_begun u) (xa_place u) A B D C H := rfl
theorem xV_hd (u : SX) (A B C : Nat → Int32) : xm_hd u A B C = xV_s u (xa_memory u) (xa_begun u) (xa_place u) A B (xa_next u) C (xa_head u) := rfl
theorem xV_he (u : SX) (A : Nat → Int32) : xs_held u A = xV_s u (xa_memory u) (xa_begun u) (xa_place u) A (xa_keyOf u) (xa_next u) (xa_size u) (xa_head u) := rfl
theorem yV_hd (v : SY) (H Q Z : Nat → Int32) : ym_hd v H Q Z = yV_s v (ya_left v) (ya_last v) (ya_place v) (ya_begun v) H Q Z := rfl
theorem yV_he (v : SY) (H : Nat → Int32) : ys_held v H = yV_s v (ya_left v) (ya_last v) (ya_place v) (ya_begun v) H (ya_keys v) (ya_holds v) := rfl
section
variable {u u' : SX} {v v' : SY} {s : Nat}
theorem of_Xh {A B D C H : Nat → Int32} (h1 : of_x s A (xa_held u)) (h2 : of_x s B (xa_keyOf u)) (h3 : of_x s D (xa_next u)) (h4 : of_i s C (xa_size u)) (h5 : of_i s H (xa_head u)) : of_X s u (xa_memory u) (xa_begun u) (xa_place u) A B D C H := ⟨of_ir _, of_ir _, of_ir _, h1, h2, h3, h4, h5⟩
theorem of_Yh {H Q Z : Nat → Int32} (h1 : of_y s H (ya_held v)) (h2 : of_y s Q (ya_keys v)) (h3 : of_i s Z (ya_holds v)) : of_Y s v (ya_left v) (ya_last v) (ya_place v) (ya_begun v) H Q Z := ⟨of_ir _, of_ir _, of_ir _, of_ir _, h1, h2, h3⟩
theorem sr_is8 {c : Int32} {p q b : Nat} (h : p ≤ q ∧ q ≤ b) (e : sr_8 p b s u' v') : sr_ 8 c p q b s u' v' :=
  ⟨h.1, h.2, fun z => absurd z (by omega), fun z => absurd z (by omega), fun z => absurd z (by omega), fun _ => e, fun z => absurd z (by omega), fun z => absurd z (by omega), fun z => absurd z (by omega), fun z => absurd z (by omega), fun z => absurd z (by omega), fun z => absurd z (by omega)⟩
theorem sr_is14 {c : Int32} {p q b : Nat} (h : p ≤ q ∧ q ≤ b) (e : sr_14 p q s u' v') : sr_ 14 c p q b s u' v' :=
  ⟨h.1, h.2, fun z => absurd z (by omega), fun z => absurd z (by omega), fun z => absurd z (by omega), fun z => absurd z (by omega), fun z => absurd z (by omega), fun z => absurd z (by omega), fun z => absurd z (by omega), fun _ => e, fun z => absurd z (by omega), fun z => absurd z (by omega)⟩
theorem sr_is15 {c : Int32} {p q b : Nat} (h : p ≤ q ∧ q ≤ b) (e : sr_15 p q s u' v') : sr_ 15 c p q b s u' v' :=
  ⟨h.1, h.2, fun z => absurd z (by omega), fun z => absurd z (by omega), fun z => absurd z (by omega), fun z => absurd z (by omega), fun z => absurd z (by omega), fun z => absurd z (by omega), fun z => absurd z (by omega), fun z => absurd z (by omega), fun _ => e, fun z => absurd z (by omega)⟩
theorem sr_is16 {c : Int32} {p q b : Nat} (h : p ≤ q ∧ q ≤ b) (e : sr_16 p q s u' v') : sr_ 16 c p q b s u' v' :=
  ⟨h.1, h.2, fun z => absurd z (by omega), fun z => absurd z (by omega), fun z => absurd z (by omega), fun z => absurd z (by omega), fun z => absurd z (by omega), fun z => absurd z (by omega), fun z => absurd z (by omega), fun z => absurd z (by omega), fun z => absurd z (by omega), fun _ => e⟩
/-- Y holds one more -/
theorem yw_hold2 {q : Nat} {x k : Int32} {H Q Z : Nat → Int32} (hs : s < 8) (hq : q < 160) (hh : ya_holds v s = nI q) (hH : H = upd (ya_held v) (160 * s + q) x) (hQ : Q = upd (ya_keys v) (160 * s + q) k) (hZ : Z = upd (ya_holds v) s (nI (q + 1)))
    {post : SY → Prop} (hp : post (ym_hd v H Q Z)) : wpY_hold post v (nI s) x k := by
  have e : (160 : Int32) * nI s + ya_holds v s = nI (160 * s + q) := by rw [hh]; exact zn_160 _ _
  refine yw_hold (s := s) (c := 160 * s + q) (nI_clamp (by omega)) (vp_in_nI hs (by omega)) (by rw [e]; exact nI_clamp (by omega)) (by rw [e]; exact vp_in_nI (by omega) (by omega)) ?_
  rw [hh, nI_1, ← hH, ← hQ, ← hZ]
  exact hp
/-- find: the first place, or none -/
theorem fd_first (f : Nat → Int32) (q : Nat) (key : Int32) : ∃ j, j ≤ q ∧ (∀ i, i < j → ¬ f i = key) ∧ (j = q ∨ (j < q ∧ f j = key)) := by
  by_cases h : ∃ j, j < q ∧ f j = key
  · obtain ⟨j, ⟨h1, h2⟩, h3⟩ := pk_least _ h
    exact ⟨j, by omega, fun i hi z => h3 i hi ⟨by omega, z⟩, Or.inr ⟨h1, h2⟩⟩
  · exact ⟨q, Nat.le_refl _, fun i hi z => h ⟨i, hi, z⟩, Or.inl rfl⟩
end
section
variable {L N : Nat} {K : Nat → Nat} {n : Nat} {tk : Nat → Nat} {fr en : Int} {sp rem cnt : Nat} {P : Nat → Nat} {stk : List (Nat × Int32 × Nat)} {u : SX} {v : SY} {s : Nat}
theorem ar_8 (h : FL_ L N K n tk fr en sp rem cnt P stk s u v) (hs : s < N) (hk : K s = 8) : AR_ L N K n tk cnt fr rem sp s u v := by
  obtain ⟨hs8, hkx, hky, h0⟩ := FL_k h hs hk
  obtain ⟨hR, ht, hst, hf, he, hsN, h1, ho⟩ := h
  have hsr := hR.2.2.2.2.2.1 s ⟨hf, he, hs⟩
  obtain ⟨q, q1, q2, q3, q4, q5⟩ := hsr.2.2.2.2.2.1 hk
  rw [bd_s] at q1
  have hL := hR.1.2.2.2.1
  have hsp := hR.2.2.1.1
  obtain ⟨j, j1, j2, j3⟩ := fd_first (fun i => ya_keys v (160 * s + i)) q (ya_v v)
  rcases j3 with j3 | ⟨j3, j4⟩
  · subst j3
    have hnone : ∀ i, i < j → ¬ xa_held u (150 * s + i) = xa_out u := fun i hi z => j2 i hi (by show ya_keys v (160 * s + i) = ya_v v; rw [q4 i hi, z, ho])
    obtain ⟨A, B, D, C, a1, a2, a3, a4, X⟩ := xw_new hs8 (by omega) q2 q5 hnone
    obtain ⟨H, hH⟩ : ∃ H, H = upd (ya_held v) (160 * s + j) (ya_v v) := ⟨_, rfl⟩
    obtain ⟨Q0, hQ⟩ : ∃ Q0, Q0 = upd (ya_keys v) (160 * s + j) (ya_v v) := ⟨_, rfl⟩
    obtain ⟨Z, hZ⟩ : ∃ Z, Z = upd (ya_holds v) s (nI (j + 1)) := ⟨_, rfl⟩
    have R2 : rn_ L N K n tk fr en sp rem cnt (bd_ sp (s + 1)) P stk (xm_nw u A B D C) (ym_hd v H Q0 Z) := by
      rw [xV_nw, yV_hd]
      refine R_Wb (s0 := s) (b' := bd_ sp (s + 1)) hR hf (of_Xh (of_xu a1 (by omega)) (fun i hi => (a3 i hi).1) (fun i hi => (a3 i hi).2) (of_iu a2) (of_ir _)) (of_Yh (of_yu hH (by omega)) (of_yu hQ (by omega)) (of_iu hZ)) (by omega) (fun q => bd_pos (by omega) q) (fun _ => bd_le _ _ _) (fun _ g => ?_)
      rw [hk] at g ⊢
      rw [bd_s] at g
      rw [bd_s1]
      refine sr_is8 ⟨g.1, by have := g.2.1; omega⟩ ⟨j + 1, by omega, ?_, ?_, fun i hi => ?_, a4⟩
      · show C s = _; rw [a2, pk_us]
      · show Z s = _; rw [hZ, pk_us]
      · show Q0 (160 * s + i) = A (150 * s + i)
        by_cases c : i = j
        · subst c; rw [hQ, a1, pk_us, pk_us, ho]
        · rw [hQ, a1, pk_un (by omega), pk_un (by omega)]; exact q4 i (by omega)
    exact AR_pass (sp' := sp) hR.1 hs (fun Q hq => by rw [hk]; exact st_s (by omega) (by omega) (xk_8 hs8 (Or.inr rfl) X hq))
      (fun Q hq => yi_8 hs8 hky (yk_known (r := -1) (fun P hp => yw_find hs8 (by omega) q3 (Nat.le_refl _) j2 (Or.inr ⟨rfl, rfl⟩) hp) (br_t (by decide) (yw_hold2 hs8 (by omega) q3 hH hQ hZ (br_t rfl hq)))))
      ⟨R2, t_cg ht (fun e _ => ⟨rfl, rfl⟩), fun e he' => by have := hst e he'; omega, by omega, by omega, by omega, h1, ho⟩ (by omega)
  · have hx : ∃ i, i < q ∧ xa_held u (150 * s + i) = xa_out u := ⟨j, j3, by rw [← q4 j j3, ho]; exact j4⟩
    exact AR_drop (sp' := sp) hR.1 hs (fun Q hq => by rw [hk]; exact st_s (by omega) (by omega) (xk_8 hs8 (Or.inl rfl) (fun Q hq => xw_known hs8 (by omega) q2 q5 hx hq (by omega)) hq))
      (fun Q hq => yi_8 hs8 hky (yk_known (r := nI j) (fun P hp => yw_find hs8 (by omega) q3 j1 j2 (Or.inl ⟨j3, j4, rfl⟩) hp) (br_f (nI_pos (by omega)) (br_f (by decide) hq)))) (R_all hR) ht hst hf he (by omega)
theorem ar_15 (h : FL_ L N K n tk fr en sp rem cnt P stk s u v) (hs : s < N) (hk : K s = 15) : AR_ L N K n tk cnt fr rem sp s u v := by
  obtain ⟨hs8, hkx, hky, h0⟩ := FL_k h hs hk
  obtain ⟨hR, ht, hst, hf, he, hsN, h1, ho⟩ := h
  have hsr := hR.2.2.2.2.2.1 s ⟨hf, he, hs⟩
  obtain ⟨b1, q, q1, q2, q3, q4⟩ := hsr.2.2.2.2.2.2.2.2.2.2.1 hk
  have hq2 := hsr.2.1
  rw [bd_s] at hq2
  have hL := hR.1.2.2.2.1
  have hsp := hR.2.2.1.1
  obtain ⟨A, hA⟩ : ∃ A, A = upd (xa_held u) (150 * s + q) (xa_out u) := ⟨_, rfl⟩
  obtain ⟨B, hB⟩ : ∃ B, B = upd (xa_keyOf u) (150 * s + q) 0 := ⟨_, rfl⟩
  obtain ⟨C, hC⟩ : ∃ C, C = upd (xa_size u) s (nI (q + 1)) := ⟨_, rfl⟩
  obtain ⟨H, hH⟩ : ∃ H, H = upd (ya_held v) (160 * s + q) (ya_v v) := ⟨_, rfl⟩
  obtain ⟨Q0, hQ⟩ : ∃ Q0, Q0 = upd (ya_keys v) (160 * s + q) 0 := ⟨_, rfl⟩
  obtain ⟨Z, hZ⟩ : ∃ Z, Z = upd (ya_holds v) s (nI (q + 1)) := ⟨_, rfl⟩
  have R2 : rn_ L N K n tk fr en sp rem cnt (fun _ => sp) (fun j => if s < j then P j + 1 else P j) stk (xm_hd u A B C) (ym_hd v H Q0 Z) := by
    rw [xV_hd, yV_hd]
    refine R_H (s0 := s) hR hf hs h1 (of_Xh (of_xu hA (by omega)) (of_xu hB (by omega)) (of_xr _) (of_iu hC) (of_ir _)) (of_Yh (of_yu hH (by omega)) (of_yu hQ (by omega)) (of_iu hZ)) (by omega) (fun g => ?_)
    rw [hk] at g ⊢
    refine sr_is15 ⟨by have := g.1; omega, by have := g.2.1; omega⟩ ⟨b1, q + 1, by omega, ?_, ?_, fun i hi => ?_⟩
    · show C s = _; rw [hC, pk_us]
    · show Z s = _; rw [hZ, pk_us]
    · show H (160 * s + i) = A (150 * s + i)
      by_cases c : i = q
      · subst c; rw [hH, hA, pk_us, pk_us, ho]
      · rw [hH, hA, pk_un (by omega), pk_un (by omega)]; exact q4 i (by omega)
  exact AR_drop (sp' := sp) hR.1 hs (fun Q hq => by rw [hk]; exact st_g (by omega) (xk_15 (r := nI q) (fun Q hq => xw_hold3 (w := u) hs8 (by omega) q2 hA hB hC hq) hq))
    (fun Q hq => yk_later hs8 hky (by omega) (by omega) ⟨fun z => absurd z (by omega), fun z => absurd z (by omega), fun _ => yw_hold2 hs8 (by omega) q3 hH hQ hZ hq, fun z => absurd z (by omega)⟩) R2 (t_cg ht (fun e _ => ⟨rfl, rfl⟩)) hst hf he (by omega)
theorem ar_14 (h : FL_ L N K n tk fr en sp rem cnt P stk s u v) (hs : s < N) (hk : K s = 14) : AR_ L N K n tk cnt fr rem sp s u v := by
  obtain ⟨hs8, hkx, hky, h0⟩ := FL_k h hs hk
  obtain ⟨hR, ht, hst, hf, he, hsN, h1, ho⟩ := h
  rcases ap_lock hR hs (by rw [hk]; unfold rl_hx; omega) (xa_out u) 0 with ⟨e, X, Y⟩ | ⟨a, c, hlt, X, ⟨z, p, vt, ot, va, oa, XV, Y, R'⟩ | ⟨z, p, r, vt, ot, va, oa, XV, Y, ro⟩⟩
  · rw [ho] at Y
    exact AR_out hR.1 hs (fun Q hq => by rw [hk]; exact st_g (by omega) (xk_14n X hq))
      (fun Q hq => yk_later hs8 hky (by omega) (by omega) ⟨fun z => absurd z (by omega), fun z => absurd z (by omega), fun z => absurd z (by omega), fun _ => yk_141n Y hq⟩) (ro_stop hR)
  · rw [ho] at Y
    have hst0 : xa_stopped (xs_operand (xm_ps u a c) p) = 0 := R'.2.2.1.2.2.2.1
    have hsr := R'.2.2.2.2.2.1 s ⟨hf, he, hs⟩
    obtain ⟨b1, b2, q, q1, q2, q3, q4, Cs, q5, q6, q7⟩ := hsr.2.2.2.2.2.2.2.2.2.1 hk
    have hq2 := hsr.2.1
    rw [bd_s] at hq2
    have hL := hR.1.2.2.2.1
    generalize hu2 : xs_operand (xm_ps u a c) p = u2 at *
    generalize hv2 : yq_m v a c vt ot 0 va oa z = v2 at *
    have hkv : ya_kinds v2 s = nI 14 := by rw [← hv2, yk_q.1]; exact hky
    have hvz : ya_v v2 = z := by rw [← hv2]; exact yk_q.2.1
    obtain ⟨A, hA⟩ : ∃ A, A = upd (xa_held u2) (150 * s + q) (xa_out u) := ⟨_, rfl⟩
    obtain ⟨B, hB⟩ : ∃ B, B = upd (xa_keyOf u2) (150 * s + q) z := ⟨_, rfl⟩
    obtain ⟨C, hC⟩ : ∃ C, C = upd (xa_size u2) s (nI (q + 1)) := ⟨_, rfl⟩
    obtain ⟨H, hH⟩ : ∃ H, H = upd (ya_held v2) (160 * s + q) (ya_v v) := ⟨_, rfl⟩
    obtain ⟨Q0, hQ⟩ : ∃ Q0, Q0 = upd (ya_keys v2) (160 * s + q) z := ⟨_, rfl⟩
    obtain ⟨Z, hZ⟩ : ∃ Z, Z = upd (ya_holds v2) s (nI (q + 1)) := ⟨_, rfl⟩
    obtain ⟨D, hd, Cs', d1, d2, d3, d4, d5, XI⟩ := xw_insert (w := u2) hs8 (by omega) q2 q5 q6 q7 hA hB hC
    have R2 : rn_ L N K n tk fr en (sp + 1) rem cnt (fun _ => sp + 1) (fun j => if s < j then P j + 1 else P j) stk (xm_in u2 A B D C hd) (ym_hd v2 H Q0 Z) := by
      rw [xV_in, yV_hd]
      refine R_H (s0 := s) (R_mono R' (fun j => bd_mono (by omega) j) (fun j => bd_le _ _ _)) hf hs (by omega) (of_Xh (of_xu hA (by omega)) (of_xu hB (by omega)) d1 (of_iu hC) d2) (of_Yh (of_yu hH (by omega)) (of_yu hQ (by omega)) (of_iu hZ)) (by omega) (fun g => ?_)
      rw [hk] at g ⊢
      refine sr_is14 ⟨by have := g.1; omega, by have := g.2.1; omega⟩ ⟨b1, b2, q + 1, by omega, ?_, ?_, fun i hi => ⟨?_, ?_⟩, Cs', d3, d4, d5⟩
      · show C s = _; rw [hC, pk_us]
      · show Z s = _; rw [hZ, pk_us]
      · show H (160 * s + i) = A (150 * s + i)
        by_cases c : i = q
        · subst c; rw [hH, hA, pk_us, pk_us, ho]
        · rw [hH, hA, pk_un (by omega), pk_un (by omega)]; exact (q4 i (by omega)).1
      · show Q0 (160 * s + i) = B (150 * s + i)
        by_cases c : i = q
        · subst c; rw [hQ, hB, pk_us, pk_us]
        · rw [hQ, hB, pk_un (by omega), pk_un (by omega)]; exact (q4 i (by omega)).2
    have htt : rn_t fr en K (ym_hd v2 H Q0 Z) := t_cg ht (fun e _ => by rw [← hv2]; exact ⟨rfl, rfl⟩)
    exact AR_drop (sp' := sp + 1) hR.1 hs (fun Q hq => by rw [hk]; exact st_g (by omega) (xk_14 X rfl XV (br_t hst0 (XI _ hq))))
      (fun Q hq => yk_later hs8 hky (by omega) (by omega) ⟨fun z => absurd z (by omega), fun z => absurd z (by omega), fun z => absurd z (by omega), fun _ => yk_141 (k := 14) hs8 Y hkv (Or.inl rfl) hvz (fun _ => yw_hold2 hs8 (by omega) q3 hH hQ hZ hq) (fun z => absurd z (by omega))⟩) R2 htt hst hf he (by omega)
  · rw [ho] at Y
    have hst1 : ¬ xa_stopped (xf_s (xm_ps u a c) (nI s) 1 p) = 0 := by rw [ro.2.2.2.1]; decide
    exact AR_out hR.1 hs (fun Q hq => by rw [hk]; exact st_g (by omega) (xk_14 X rfl XV (br_f hst1 hq)))
      (fun Q hq => yk_later hs8 hky (by omega) (by omega) ⟨fun z => absurd z (by omega), fun z => absurd z (by omega), fun z => absurd z (by omega), fun _ => yk_141n Y hq⟩) ro
theorem ar_16 (h : FL_ L N K n tk fr en sp rem cnt P stk s u v) (hs : s < N) (hk : K s = 16) : AR_ L N K n tk cnt fr rem sp s u v := by
  obtain ⟨hs8, hkx, hky, h0⟩ := FL_k h hs hk
  obtain ⟨hR, ht, hst, hf, he, hsN, h1, ho⟩ := h
  rcases ap_lock hR hs (by rw [hk]; unfold rl_hx; omega) (xa_out u) 0 with ⟨e, X, Y⟩ | ⟨a, c, hlt, X, ⟨z, p, vt, ot, va, oa, XV, Y, R'⟩ | ⟨z, p, r, vt, ot, va, oa, XV, Y, ro⟩⟩
  · rw [ho] at Y
    exact AR_out hR.1 hs (fun Q hq => by rw [hk]; exact st_g (by omega) (xk_16n X hq))
      (fun Q hq => yk_later hs8 hky (by omega) (by omega) ⟨fun z => absurd z (by omega), fun z => absurd z (by omega), fun z => absurd z (by omega), fun _ => yk_141n Y hq⟩) (ro_stop hR)
  · rw [ho] at Y
    have hst0 : xa_stopped (xs_operand (xm_ps u a c) p) = 0 := R'.2.2.1.2.2.2.1
    have hsr := R'.2.2.2.2.2.1 s ⟨hf, he, hs⟩
    obtain ⟨b1, b2, q, q1, q2, q3, q4⟩ := hsr.2.2.2.2.2.2.2.2.2.2.2 hk
    have hq2 := hsr.2.1
    rw [bd_s] at hq2
    have hL := hR.1.2.2.2.1
    generalize hu2 : xs_operand (xm_ps u a c) p = u2 at *
    generalize hv2 : yq_m v a c vt ot 0 va oa z = v2 at *
    have hkv : ya_kinds v2 s = nI 16 := by rw [← hv2, yk_q.1]; exact hky
    have hvz : ya_v v2 = z := by rw [← hv2]; exact yk_q.2.1
    have hlf : ∀ e, ya_left v2 e = ya_left v e ∧ ya_numbers v2 e = ya_numbers v e := fun e => by rw [← hv2]; exact ⟨rfl, rfl⟩
    obtain ⟨j, j1, j2, j3⟩ := fd_first (fun i => ya_keys v2 (160 * s + i)) q z
    have j2x : ∀ i, i < j → ¬ xa_keyOf u2 (150 * s + i) = z := fun i hi zz => j2 i hi (by show ya_keys v2 (160 * s + i) = z; rw [(q4 i (by omega)).2]; exact zz)
    rcases j3 with j3 | ⟨j3, j4⟩
    · subst j3
      obtain ⟨A, hA⟩ : ∃ A, A = upd (xa_held u2) (150 * s + j) (xa_out u) := ⟨_, rfl⟩
      obtain ⟨B, hB⟩ : ∃ B, B = upd (xa_keyOf u2) (150 * s + j) z := ⟨_, rfl⟩
      obtain ⟨C, hC⟩ : ∃ C, C = upd (xa_size u2) s (nI (j + 1)) := ⟨_, rfl⟩
      obtain ⟨H, hH⟩ : ∃ H, H = upd (ya_held v2) (160 * s + j) (ya_v v) := ⟨_, rfl⟩
      obtain ⟨Q0, hQ⟩ : ∃ Q0, Q0 = upd (ya_keys v2) (160 * s + j) z := ⟨_, rfl⟩
      obtain ⟨Z, hZ⟩ : ∃ Z, Z = upd (ya_holds v2) s (nI (j + 1)) := ⟨_, rfl⟩
      have R2 : rn_ L N K n tk fr en (sp + 1) rem cnt (fun _ => sp + 1) (fun i => if s < i then P i + 1 else P i) stk (xm_hd u2 A B C) (ym_hd v2 H Q0 Z) := by
        rw [xV_hd, yV_hd]
        refine R_H (s0 := s) (R_mono R' (fun j => bd_mono (by omega) j) (fun j => bd_le _ _ _)) hf hs (by omega) (of_Xh (of_xu hA (by omega)) (of_xu hB (by omega)) (of_xr _) (of_iu hC) (of_ir _)) (of_Yh (of_yu hH (by omega)) (of_yu hQ (by omega)) (of_iu hZ)) (by omega) (fun g => ?_)
        rw [hk] at g ⊢
        refine sr_is16 ⟨by have := g.1; omega, by have := g.2.1; omega⟩ ⟨b1, b2, j + 1, by omega, ?_, ?_, fun i hi => ⟨?_, ?_⟩⟩
        · show C s = _; rw [hC, pk_us]
        · show Z s = _; rw [hZ, pk_us]
        · show H (160 * s + i) = A (150 * s + i)
          by_cases c : i = j
          · subst c; rw [hH, hA, pk_us, pk_us, ho]
          · rw [hH, hA, pk_un (by omega), pk_un (by omega)]; exact (q4 i (by omega)).1
        · show Q0 (160 * s + i) = B (150 * s + i)
          by_cases c : i = j
          · subst c; rw [hQ, hB, pk_us, pk_us]
          · rw [hQ, hB, pk_un (by omega), pk_un (by omega)]; exact (q4 i (by omega)).2
      exact AR_drop (sp' := sp + 1) hR.1 hs (fun Q hq => by rw [hk]; exact st_g (by omega) (xk_16 X rfl XV (br_t hst0 (xw_group hs8 (by omega) q2 j2x (Or.inl rfl) (gr_42n (w := u2) hs8 (by omega) q2 hA hB hC hq)))))
        (fun Q hq => yk_later hs8 hky (by omega) (by omega) ⟨fun z => absurd z (by omega), fun z => absurd z (by omega), fun z => absurd z (by omega), fun _ => yk_141 (k := 16) hs8 Y hkv (Or.inr rfl) hvz (fun z => absurd z (by omega))
          (fun _ => ⟨-1, fun P hp => yw_find hs8 (by omega) q3 (Nat.le_refl _) j2 (Or.inr ⟨rfl, rfl⟩) hp, fun _ => yw_hold2 hs8 (by omega) q3 hH hQ hZ hq, fun z => absurd (by decide) z⟩)⟩) R2 (t_cg ht (fun e _ => hlf e)) hst hf he (by omega)
    · obtain ⟨A, hA⟩ : ∃ A, A = upd (xa_held u2) (150 * s + j) (xa_held u2 (150 * s + j) + xa_out u) := ⟨_, rfl⟩
      obtain ⟨H, hH⟩ : ∃ H, H = upd (ya_held v2) (160 * s + j) (ya_held v2 (160 * s + j) + ya_v v) := ⟨_, rfl⟩
      have R2 : rn_ L N K n tk fr en (sp + 1) rem cnt (bd_ sp s) P stk (xs_held u2 A) (ys_held v2 H) := by
        rw [xV_he, yV_he]
        refine R_W (s0 := s) R' hf (of_Xh (of_xu hA (by omega)) (of_xr _) (of_xr _) (of_ir _) (of_ir _)) (of_Yh (of_yu hH (by omega)) (of_yr _) (of_ir _)) (by omega) (fun g => ?_)
        rw [hk] at g ⊢
        refine sr_is16 ⟨g.1, g.2.1⟩ ⟨b1, b2, q, q1, q2, q3, fun i hi => ⟨?_, (q4 i hi).2⟩⟩
        show H (160 * s + i) = A (150 * s + i)
        by_cases c : i = j
        · subst c; rw [hH, hA, pk_us, pk_us, ho, (q4 i hi).1]
        · rw [hH, hA, pk_un (by omega), pk_un (by omega)]; exact (q4 i hi).1
      exact AR_drop (sp' := sp + 1) hR.1 hs (fun Q hq => by rw [hk]; exact st_g (by omega) (xk_16 X rfl XV (br_t hst0 (xw_group hs8 (by omega) q2 j2x (Or.inr ⟨j3, by rw [← (q4 j j3).2]; exact j4⟩) (gr_42f (w := u2) hs8 (by omega) j3 hA hq)))))
        (fun Q hq => yk_later hs8 hky (by omega) (by omega) ⟨fun z => absurd z (by omega), fun z => absurd z (by omega), fun z => absurd z (by omega), fun _ => yk_141 (k := 16) hs8 Y hkv (Or.inr rfl) hvz (fun z => absurd z (by omega))
          (fun _ => ⟨nI j, fun P hp => yw_find hs8 (by omega) q3 j1 j2 (Or.inl ⟨j3, j4, rfl⟩) hp, fun z => absurd z (nI_pos (by omega)), fun _ => ⟨j, by omega, rfl, fun A' ea => by rw [ea, ← hH]; exact hq⟩⟩)⟩) (R_all R2) (t_cg ht (fun e _ => hlf e)) hst hf he (by omega)
  · rw [ho] at Y
    have hst1 : ¬ xa_stopped (xf_s (xm_ps u a c) (nI s) 1 p) = 0 := by rw [ro.2.2.2.1]; decide
    exact AR_out hR.1 hs (fun Q hq => by rw [hk]; exact st_g (by omega) (xk_16 X rfl XV (br_f hst1 hq)))
      (fun Q hq => yk_later hs8 hky (by omega) (by omega) ⟨fun z => absurd z (by omega), fun z => absurd z (by omega), fun z => absurd z (by omega), fun _ => yk_141n Y hq⟩) ro
end
end
section
/-! an element at a stage that joins a list: kind 10; and all kinds -/
theorem xV_pl (u : SX) (A : Nat → Int32) : xs_place u A = xV_s u (xa_memory u) (xa_begun u) A (xa_held u) (xa_keyOf u) (xa_next u) (xa_size u) (xa_head u) := rfl
theorem yV_pl (v : SY) (A : Nat → Int32) : ys_place v A = yV_s v (ya_left v) (ya_last v) A (ya_begun v) (ya_held v) (ya_keys v) (ya_holds v) := rfl
theorem yf_pl (v : SY) (A d : Nat → Int32) (a z : Int32) : ym_ft (ys_place v A) a z d = ys_place (ym_ft v a z d) A := rfl
section
variable {u u' : SX} {v v' : SY} {s : Nat}
theorem of_Xp {A : Nat → Int32} (h : of_i s A (xa_place u)) : of_X s u (xa_memory u) (xa_begun u) A (xa_held u) (xa_keyOf u) (xa_next u) (xa_size u) (xa_head u) := ⟨of_ir _, of_ir _, h, of_xr _, of_xr _, of_xr _, of_ir _, of_ir _⟩
theorem of_Yp {A : Nat → Int32} (h : of_i s A (ya_place v)) : of_Y s v (ya_left v) (ya_last v) A (ya_begun v) (ya_held v) (ya_keys v) (ya_holds v) := ⟨of_ir _, of_ir _, h, of_ir _, of_yr _, of_yr _, of_ir _⟩
theorem sr_is10 {c : Int32} {p q b : Nat} (h : p ≤ q ∧ q ≤ b) (e : ∃ n, n ≤ 24 ∧ xa_place u' s = nI n ∧ ya_place v' s = nI n) : sr_ 10 c p q b s u' v' :=
  ⟨h.1, h.2, fun z => absurd z (by omega), fun z => absurd z (by omega), fun z => absurd z (by omega), fun z => absurd z (by omega), fun z => absurd z (by omega), fun _ => e, fun z => absurd z (by omega), fun z => absurd z (by omega), fun z => absurd z (by omega), fun z => absurd z (by omega)⟩
end
section
variable {Q : Int32 → SX → Prop} {u u1 u2 u3 u4 : SX} {s l q m : Nat} {z y : Int32}
theorem x10_end (hs : s < 8) (hl : l < 3) (hq : xa_place u s = nI q) (hm : xa_length u l = nI m) (hq31 : q < 1000) (h : m ≤ q) (hp : Q 0 (xs_ended u (nI s))) : xl_10 Q (nI s) (nI l) u := by
  have es : (nI s).toNatClampNeg = s := nI_clamp (by omega)
  have el : (nI l).toNatClampNeg = l := nI_clamp (by omega)
  refine ⟨vp_in_nI hs (by omega), vp_in_nI hl (by omega), ?_⟩
  rw [es, el]
  exact br_f (by rw [hq, hm]; exact nI_nlt h (by omega)) hp
theorem x10_no (hs : s < 8) (hl : l < 3) (hq : xa_place u s = nI q) (hm : xa_length u l = nI m) (hm24 : m ≤ 24) (h : q < m) (hx : ∀ Q : Int32 → SX → Prop, Q 0 u1 → wpX_payRead Q u (nI l)) (hp : Q 0 u1) : xl_10 Q (nI s) (nI l) u := by
  have es : (nI s).toNatClampNeg = s := nI_clamp (by omega)
  have el : (nI l).toNatClampNeg = l := nI_clamp (by omega)
  refine ⟨vp_in_nI hs (by omega), vp_in_nI hl (by omega), ?_⟩
  rw [es, el]
  exact br_t (by rw [hq, hm]; exact nI_lt h (by omega)) (hx _ (br_t rfl hp))
theorem x10_go {A : Nat → Int32} (hs : s < 8) (hl : l < 3) (hq : xa_place u s = nI q) (hm : xa_length u l = nI m) (hm24 : m ≤ 24) (h : q < m) (hx : ∀ Q : Int32 → SX → Prop, Q 1 u1 → wpX_payRead Q u (nI l))
    (hq1 : xa_place u1 s = nI q) (hA : A = upd (xa_place u1) s (nI (q + 1))) (hy : xa_element u1 (24 * l + q) = y)
    (hp : wpX_payStage (fun r w => (r = 0 → Q 0 w) ∧ (¬ r = 0 → wpX_value (fun r w => (xa_stopped w = 0 → Q 1 (xs_out w r)) ∧ (¬ xa_stopped w = 0 → Q 0 (xs_out w r))) w (nI s) (xa_out w) y)) (xs_place u1 A) (nI s)) : xl_10 Q (nI s) (nI l) u := by
  have es : (nI s).toNatClampNeg = s := nI_clamp (by omega)
  have el : (nI l).toNatClampNeg = l := nI_clamp (by omega)
  have e24 : (24 : Int32) * nI l + nI q = nI (24 * l + q) := zn_24 _ _
  have h8 : vp_in (nI s) 8 := vp_in_nI hs (by omega)
  refine ⟨h8, vp_in_nI hl (by omega), ?_⟩
  rw [es, el]
  refine br_t (by rw [hq, hm]; exact nI_lt h (by omega)) (hx _ ?_)
  refine br_f (by decide) ⟨h8, h8, fun a ea => ?_⟩
  rw [hq1, nI_1, zn_vb (by omega), ← hA] at ea
  subst ea
  rw [hq1, e24, nI_clamp (by omega)]
  exact ⟨vp_in_nI (by omega) (by omega), fun y' ey => by rw [ey, hy]; exact hp⟩
end
section
variable {L N : Nat} {K : Nat → Nat} {n : Nat} {tk : Nat → Nat} {fr en : Int} {sp rem cnt : Nat} {P : Nat → Nat} {stk : List (Nat × Int32 × Nat)} {u : SX} {v : SY} {s : Nat}
theorem yo_pl (v : SY) (A : Nat → Int32) (y : Int64) : ys_outcome (ys_place v A) y = ys_place (ys_outcome v y) A := rfl
theorem ro_p1 {A : Nat → Int32} (h : ro_ L N K n tk u v) : ro_ L N K n tk u (ys_place v A) := h
theorem ro_pl {y : Int64} {A : Nat → Int32} (h : ro_ L N K n tk u (ys_outcome v y)) : ro_ L N K n tk u (ys_outcome (ys_place v A) y) := by
  rw [yo_pl]
  exact ro_p1 h
theorem pl_f {A : Nat → Int32} : ya_paid (ys_place v A) = ya_paid v ∧ ya_limit (ys_place v A) = ya_limit v ∧ ya_sizes (ys_place v A) = ya_sizes v ∧ ya_lists (ys_place v A) = ya_lists v ∧ ya_reads (ys_place v A) = ya_reads v := ⟨rfl, rfl, rfl, rfl, rfl⟩
theorem pr_f {a : Int32} {d A : Nat → Int32} : xa_place (xm_pr u a d) = xa_place u ∧ xa_element (xm_pr u a d) = xa_element u ∧ xa_out (xs_place (xm_pr u a d) A) = xa_out u := ⟨rfl, rfl, rfl⟩
theorem ft_f {a z : Int32} {d A : Nat → Int32} : ya_v (ys_place (ym_ft v a z d) A) = z ∧ ya_left (ys_place (ym_ft v a z d) A) = ya_left v ∧ ya_numbers (ys_place (ym_ft v a z d) A) = ya_numbers v := ⟨rfl, rfl, rfl⟩
theorem ar_10 (h : FL_ L N K n tk fr en sp rem cnt P stk s u v) (hs : s < N) (hk : K s = 10) : AR_ L N K n tk cnt fr rem sp s u v := by
  obtain ⟨hs8, hkx, hky, h0⟩ := FL_k h hs hk
  obtain ⟨hR, ht, hst, hf, he, hsN, h1, ho⟩ := h
  have hsr := hR.2.2.2.2.2.1 s ⟨hf, he, hs⟩
  obtain ⟨q, q1, q2, q3⟩ := hsr.2.2.2.2.2.2.2.1 hk
  obtain ⟨l, l1, l2⟩ := (hR.1.2.2.2.2.2.2.2.2.2.2.2.2.2 s hs).2.2.2.1 (Or.inr (Or.inl hk))
  obtain ⟨m, m1, m2⟩ := hR.1.2.2.2.2.2.2.2.2.2.2.1 l l1
  have hnum : ya_numbers v = xa_constant u := hR.1.2.2.2.2.2.2.2.2.2.2.2.2.1
  have hsz : ya_sizes v l = nI m := by rw [hR.1.2.2.2.2.2.2.2.2.2.1]; exact m2
  have hns : ya_numbers v s = nI l := by rw [hnum]; exact l2
  obtain ⟨A, hA⟩ : ∃ A, A = upd (ya_place v) s (ya_place v s + 1) := ⟨_, rfl⟩
  have hA' : A = upd (ya_place v) s (nI (q + 1)) := by rw [hA, q3, nI_1]
  have el : (nI l).toNatClampNeg = l := nI_clamp (by omega)
  have vl : vp_in (nI l) 3 := vp_in_nI l1 (by omega)
  have hL := hR.1.2.2.2.1
  have hsp := hR.2.2.1.1
  have hgl := hR.2.2.1
  by_cases hqm : q < m
  · have hlt : nI q < ya_sizes (ys_place v A) l := by rw [pl_f.2.2.1, hsz]; exact nI_lt hqm (by omega)
    obtain ⟨p1, p2⟩ := pay_iff hR
    have e24 : (24 : Int32) * nI l + nI q = nI (24 * l + q) := zn_24 _ _
    by_cases hspL : sp = L
    · refine AR_out hR.1 hs (fun Q hq => by rw [hk]; exact st_s (by omega) (by omega) (xk_10 hs8 l2 (x10_no hs8 l1 q2 m2 m1 hqm (fun Q hq => xw_pr_no (p1.mpr hspL) hq) hq))) (fun Q hq => yi_10 hs8 hky hA ?_) (ro_pl (A := A) (ro_stop hR))
      rw [hns, q3]
      exact yw_fetch_no (l := l) el vl hlt (p2.mpr hspL) (br_f (by decide) hq)
    · have hx1 : ¬ xa_spent u = xa_limit u := fun e => hspL (p1.mp e)
      have hy1 : ¬ ya_paid v = ya_limit v := fun e => hspL (p2.mp e)
      obtain ⟨a, ha⟩ : ∃ a, a = xa_spent u + 1 := ⟨_, rfl⟩
      obtain ⟨d, hd⟩ : ∃ d, d = upd (xa_reads u) l (xa_reads u l + 1) := ⟨_, rfl⟩
      obtain ⟨y, hy⟩ : ∃ y, y = xa_element u (24 * l + q) := ⟨_, rfl⟩
      have ha' : a = nI (sp + 1) := by rw [ha, hgl.2.1, nI_1]
      have hay : ya_paid v + 1 = a := by rw [ha', hgl.2.2.1, nI_1]
      have hrd : ya_reads v = xa_reads u := hgl.2.2.2.2.2.1.2.2.1
      have hel : ya_lists v = xa_element u := hR.1.2.2.2.2.2.2.2.2.1
      obtain ⟨PL, hPL⟩ : ∃ PL, PL = upd (xa_place (xm_pr u a d)) s (nI (q + 1)) := ⟨_, rfl⟩
      have XR : ∀ Q : Int32 → SX → Prop, Q 1 (xm_pr u a d) → wpX_payRead Q u (nI l) := fun Q hq => xw_pr_ok (s := l) el vl hx1 (by rw [← ha, ← hd]; exact hq)
      have YF : ∀ Q : Int32 → SY → Prop, Q 1 (ys_place (ym_ft v a y d) A) → wpY_fetch Q (ys_place v A) (nI l) (nI q) := fun Q hq => by
        refine yw_fetch_ok (l := l) (c := 24 * l + q) el vl hlt hy1 (by rw [e24]; exact nI_clamp (by omega)) (by rw [e24]; exact vp_in_nI (by omega) (by omega)) ?_
        rw [pl_f.1, pl_f.2.2.2.1, pl_f.2.2.2.2, hay, hrd, hel, ← hd, ← hy, yf_pl]
        exact hq
      have R2 : rn_ L N K n tk fr en (sp + 1) rem cnt (bd_ sp s) P stk (xs_place (xm_pr u a d) PL) (ys_place (ym_ft v a y d) A) := by
        rw [xV_pl, yV_pl]
        refine R_W (s0 := s) (R_pr hR (by omega) ha') hf (of_Xp (of_iu hPL)) (of_Yp (v := ym_ft v a y d) (of_iu hA)) (by omega) (fun g => ?_)
        rw [hk] at g ⊢
        refine sr_is10 ⟨g.1, g.2.1⟩ ⟨q + 1, by omega, ?_, ?_⟩
        · show PL s = _; rw [hPL, pk_us]
        · show A s = _; rw [hA', pk_us]
      obtain ⟨u3, hu3⟩ : ∃ u3, u3 = xs_place (xm_pr u a d) PL := ⟨_, rfl⟩
      obtain ⟨v3, hv3⟩ : ∃ v3, v3 = ys_place (ym_ft v a y d) A := ⟨_, rfl⟩
      rw [← hu3, ← hv3] at R2
      have o3 : xa_out u3 = xa_out u := by rw [hu3]; exact pr_f (d := d).2.2
      have w3 : ya_v v3 = y := by rw [hv3]; exact ft_f.1
      have t3 : rn_t fr en K v3 := t_cg ht (fun e _ => by rw [hv3, ft_f.2.1, ft_f.2.2]; exact ⟨rfl, rfl⟩)
      have XG : ∀ Q : Int32 → SX → Prop, wpX_payStage (fun r w => (r = 0 → Q 0 w) ∧ (¬ r = 0 → wpX_value (fun r w => (xa_stopped w = 0 → Q 1 (xs_out w r)) ∧ (¬ xa_stopped w = 0 → Q 0 (xs_out w r))) w (nI s) (xa_out w) y)) u3 (nI s) → xw_st Q u s (K s) := fun Q hq => by
        rw [hk]
        refine st_s (by omega) (by omega) (xk_10 hs8 l2 (x10_go hs8 l1 q2 m2 m1 hqm XR (by rw [pr_f (A := A).1]; exact q2) hPL hy.symm ?_))
        rw [← hu3]
        exact hq
      have YG : ∀ Q : Int32 → SY → Prop, wpY_apply (fun r w => (r = 0 → Q 3 w) ∧ (¬ r = 0 → Q 1 w)) v3 (nI s) (ya_v v) y → wpY_came Q v (nI s) := fun Q hq => by
        refine yi_10 hs8 hky hA ?_
        rw [hns, q3]
        refine YF _ (br_t rfl ?_)
        rw [← hv3, w3]
        exact hq
      clear hu3 hv3 XR YF hPL
      rcases ap_lock R2 hs (by rw [hk]; unfold rl_hx; omega) (xa_out u) y with ⟨e, X, Y⟩ | ⟨a2, c2, hlt2, X, ⟨z, p, vt, ot, va, oa, XV, Y, R'⟩ | ⟨z, p, r, vt, ot, va, oa, XV, Y, ro⟩⟩
      · rw [ho] at Y
        exact AR_out hR.1 hs (fun Q hq => XG Q (X _ (br_t rfl hq))) (fun Q hq => YG Q (Y _ (br_t rfl hq))) (ro_stop R2)
      · rw [ho] at Y
        have hst0 := R'.2.2.1.2.2.2.1
        have XV' : ∀ Q : Int32 → SX → Prop, Q z (xs_operand (xm_ps u3 a2 c2) p) → wpX_value Q (xm_ps u3 a2 c2) (nI s) (xa_out (xm_ps u3 a2 c2)) y := fun Q hq => by
          rw [(ps_f (u := u3) (a := a2) (c := c2) (p := p)).2.2.1, o3]
          exact XV Q hq
        exact AR_pass (sp' := sp + 1 + 1) (u' := xs_out (xs_operand (xm_ps u3 a2 c2) p) z) hR.1 hs (fun Q hq => XG Q (X _ (br_f (by decide) (XV' _ (br_t hst0 hq))))) (fun Q hq => YG Q (Y _ (br_f (by decide) hq)))
          (FL_next (R_x2 R') (t_cg t3 (fun e _ => ⟨rfl, rfl⟩)) (fun e he' => by have := hst e he'; omega) hf (by omega) hs h1 (by omega) rfl) (by omega)
      · rw [ho] at Y
        have hst1 : ¬ xa_stopped (xf_s (xm_ps u3 a2 c2) (nI s) 1 p) = 0 := by rw [ro.2.2.2.1]; decide
        have XV' : ∀ Q : Int32 → SX → Prop, Q z (xf_s (xm_ps u3 a2 c2) (nI s) 1 p) → wpX_value Q (xm_ps u3 a2 c2) (nI s) (xa_out (xm_ps u3 a2 c2)) y := fun Q hq => by
          rw [(ps_f (u := u3) (a := a2) (c := c2) (p := p)).2.2.1, o3]
          exact XV Q hq
        exact AR_out (u' := xs_out (xf_s (xm_ps u3 a2 c2) (nI s) 1 p) z) hR.1 hs (fun Q hq => XG Q (X _ (br_f (by decide) (XV' _ (br_f hst1 hq))))) (fun Q hq => YG Q (Y _ (br_t rfl hq))) (ro_o ro)
  · have R2 : rn_ L N K n tk fr (s : Nat) sp rem cnt (bd_ sp s) P stk (xs_ended u (nI s)) (ys_place v A) := by
      rw [yV_pl]
      have := R_Wb (s0 := s) (b' := bd_ sp s) (R_end hR (nI_toInt (by omega)) hs he (Or.inl hf)) hf of_Xr (of_Yp (of_iu hA)) (by omega) (fun _ => Nat.le_refl _) (fun _ => bd_le _ _ _) (fun hl => absurd hl.2.1 (by omega))
      rw [xV_self] at this
      exact this
    refine AR_ends (sp' := sp) hR.1 hs (fun Q hq => by rw [hk]; exact st_s (by omega) (by omega) (xk_10 hs8 l2 (x10_end hs8 l1 q2 m2 (by omega) (by omega) hq))) (fun Q hq => yi_10 hs8 hky hA ?_) (R_all R2) hst hf (by omega)
    rw [hns, q3]
    refine yw_fetch_end (l := l) el vl ?_ (br_f (by decide) hq)
    rw [pl_f.2.2.1, hsz]
    exact nI_nlt (by omega) (by omega)
end
end
section
/-! any kind; the whole flow -/
section
variable {L N : Nat} {K : Nat → Nat} {n : Nat} {tk : Nat → Nat} {fr en : Int} {sp rem cnt : Nat} {P : Nat → Nat} {stk : List (Nat × Int32 × Nat)} {u : SX} {v : SY} {s : Nat}
/-- any kind -/
theorem ar_all (h : FL_ L N K n tk fr en sp rem cnt P stk s u v) (hs : s < N) : AR_ L N K n tk cnt fr rem sp s u v := by
  have hk16 := (h.1.1.2.2.2.2.2.2.2.2.2.2.2.2.2 s hs).1
  have hc : K s = 0 ∨ K s = 1 ∨ K s = 2 ∨ K s = 3 ∨ K s = 4 ∨ K s = 5 ∨ K s = 6 ∨ K s = 7 ∨ K s = 8 ∨ K s = 9 ∨ K s = 10 ∨ K s = 11 ∨ K s = 12 ∨ K s = 13 ∨ K s = 14 ∨ K s = 15 ∨ K s = 16 := by omega
  rcases hc with hk | hk | hk | hk | hk | hk | hk | hk | hk | hk | hk | hk | hk | hk | hk | hk | hk
  · exact ar_0 h hs hk
  · exact ar_1 h hs hk
  · exact ar_2 h hs hk
  · exact ar_3 h hs hk
  · exact ar_4 h hs hk
  · exact ar_5 h hs hk
  · exact ar_67 h hs hk (Or.inl rfl)
  · exact ar_67 h hs hk (Or.inr rfl)
  · exact ar_8 h hs hk
  · exact ar_9 h hs hk
  · exact ar_10 h hs hk
  · exact ar_11 h hs hk
  · exact ar_12 h hs hk
  · exact ar_13 h hs hk
  · exact ar_14 h hs hk
  · exact ar_15 h hs hk
  · exact ar_16 h hs hk
/-- the whole flow -/
def FW_ (L N : Nat) (K : Nat → Nat) (n : Nat) (tk : Nat → Nat) (cnt : Nat) (fr : Int) (rem sp s : Nat) (u : SX) (v : SY) : Prop :=
  (∃ en sp' P stk u' v', FL_ L N K n tk fr en sp' rem cnt P stk N u' v' ∧ sp ≤ sp' ∧ (∀ post : Int32 → SX → Prop, post 1 u' → xF_ post s u) ∧ (∀ post : Int32 → SY → Prop, post 1 v' → yL_ post (nI s) 1 0 v)) ∨
  (∃ u' m, m < be_ L fr sp rem + 20 ∧ LH_ L N K n tk cnt m u' (fun post => yL_ post (nI s) 1 0 v) ∧ (∀ post : Int32 → SX → Prop, post 0 u' → xF_ post s u))
theorem be_mono {sp' : Nat} (h : sp ≤ sp') : be_ L fr sp' rem ≤ be_ L fr sp rem := by
  unfold be_
  omega
theorem LH_imp {m : Nat} {W W' : (Int32 → SY → Prop) → Prop} (h : LH_ L N K n tk cnt m u W) (hw : ∀ post, W post → W' post) : LH_ L N K n tk cnt m u W' := by
  rcases h with ⟨v, fr, en, sp, rem, P, stk, t, a, b, c, d, e⟩ | ⟨v, fr, en, sp, rem, P, stk, a, b, c, d, e⟩ | ⟨v, a, b⟩
  · exact Or.inl ⟨v, fr, en, sp, rem, P, stk, t, a, b, c, d, fun post x hx hp => hw _ (e post x hx hp)⟩
  · exact Or.inr (Or.inl ⟨v, fr, en, sp, rem, P, stk, a, b, c, d, fun post x hx hp => hw _ (e post x hx hp)⟩)
  · exact Or.inr (Or.inr ⟨v, a, fun post hp => hw _ (b post hp)⟩)
theorem fw_all : ∀ (d s : Nat) (en : Int) (sp : Nat) (P : Nat → Nat) (stk : List (Nat × Int32 × Nat)) (u : SX) (v : SY), s + d = N → FL_ L N K n tk fr en sp rem cnt P stk s u v → FW_ L N K n tk cnt fr rem sp s u v := by
  intro d
  induction d with
  | zero =>
    intro s en sp P stk u v e h
    have e' : s = N := by omega
    subst e'
    have hN := h.1.1.2.2.2.2.2.2.1
    exact Or.inl ⟨en, sp, P, stk, u, v, h, Nat.le_refl _, fun post hp => xF_end h.1.1.2.2.2.2.1 hN hp, fun post hp => yL_end h.1.1.2.2.2.2.2.1 hN hp⟩
  | succ d ih =>
    intro s en sp P stk u v e h
    rcases ar_all h (by omega) with ⟨en', sp', P', stk', u', v', h', hsp, hx, hy⟩ | ⟨u', m, hm, hl, hx⟩
    · rcases ih (s + 1) en' sp' P' stk' u' v' (by omega) h' with ⟨en2, sp2, P2, stk2, u2, v2, h2, hsp2, hx2, hy2⟩ | ⟨u2, m, hm, hl, hx2⟩
      · exact Or.inl ⟨en2, sp2, P2, stk2, u2, v2, h2, by omega, fun post hp => hx post (hx2 post hp), fun post hp => hy post (hy2 post hp)⟩
      · have := be_mono (L := L) (fr := fr) (rem := rem) hsp
        exact Or.inr ⟨u2, m, by omega, LH_imp hl (fun post hp => hy post hp), fun post hp => hx post (hx2 post hp)⟩
    · exact Or.inr ⟨u', m, hm, hl, hx⟩
end
end
section
/-! X: more, give, nextSource, and the loop of pull -/
def xL_n (post : Int32 → SX → Prop) (f : Nat) (w : SX) : Prop := wX_pull_0 post f (xa_limit w) (xa_source w) (xa_stages w) (xa_tokens w) (xa_wrongPlace w) (xa_waits w) (xa_parens w) (xa_opens w) (xa_from w) (xa_at w) (xa_ended w) (xa_spent w) (xa_stopped w) (xa_out w) (xa_lastStages w) (xa_failedStage w) (xa_shownCount w) (xa_element w) (xa_length w) (xa_kind w) (xa_constant w) (xa_step w) (xa_number w) (xa_steps w) (xa_quick w) (xa_token w) (xa_waiting w) (xa_compared w) (xa_operand w) (xa_memory w) (xa_begun w) (xa_place w) (xa_held w) (xa_keyOf w) (xa_next w) (xa_size w) (xa_head w) (xa_openStage w) (xa_openValue w) (xa_openLeft w) (xa_applications w) (xa_reads w) (xa_shown w)
def xL_ (post : Int32 → SX → Prop) (w : SX) : Prop := ∃ f, xL_n post f w
def xL_45 (post : Int32 → SX → Prop) (f : Nat) (w : SX) : Prop := wX_pull_45 post (wX_pull_0 post f) (xa_limit w) (xa_source w) (xa_stages w) (xa_tokens w) (xa_wrongPlace w) (xa_waits w) (xa_parens w) (xa_opens w) (xa_from w) (xa_at w) (xa_ended w) (xa_spent w) (xa_stopped w) (xa_out w) (xa_lastStages w) (xa_failedStage w) (xa_shownCount w) (xa_element w) (xa_length w) (xa_kind w) (xa_constant w) (xa_step w) (xa_number w) (xa_steps w) (xa_quick w) (xa_token w) (xa_waiting w) (xa_compared w) (xa_operand w) (xa_memory w) (xa_begun w) (xa_place w) (xa_held w) (xa_keyOf w) (xa_next w) (xa_size w) (xa_head w) (xa_openStage w) (xa_openValue w) (xa_openLeft w) (xa_applications w) (xa_reads w) (xa_shown w)
section
variable {post : Int32 → SX → Prop} {w w' : SX} {m : Nat} {r : Int32}
theorem xL_stop (h : ¬ xa_stopped w = 0) (hp : post 0 w) : xL_ post w := ⟨1, br_f h hp⟩
theorem xL_pop {t : Int32} (h0 : xa_stopped w = 0) (hm : xa_opens w = nI (m + 1)) (h8 : m < 8) (ht : xa_openStage w m = t) (h : ¬ xa_ended w < t) (hp : xL_ post (xs_opens w (nI m))) : xL_ post w := by
  obtain ⟨f, hf⟩ := hp
  have e : xa_opens w - 1 = nI m := by rw [hm, nI_pred]
  have hi : vp_in (xa_opens w - 1) 8 := by rw [e]; exact vp_in_nI h8 (by omega)
  have hc : ¬ xa_ended w < xa_openStage w (xa_opens w - 1).toNatClampNeg := by rw [e, nI_clamp (by omega), ht]; exact h
  have hn : ¬ xa_opens w ≤ 0 := by rw [hm]; exact nI_nle (by omega) (by omega)
  exact ⟨f + 1, br_t h0 (br_f hn (And.intro hi (br_f hc (nm_r e hf))))⟩
theorem xL_in0 {f : Nat} (h0 : xa_stopped w = 0) (hm : xa_opens w = 0) (h : xL_45 post f w) : xL_n post (f + 1) w :=
  br_t h0 (br_t (show xa_opens w ≤ 0 by rw [hm]; decide) h)
theorem xL_in1 {f : Nat} {t : Int32} (h0 : xa_stopped w = 0) (hm : xa_opens w = nI (m + 1)) (h8 : m < 8) (ht : xa_openStage w m = t) (h : xa_ended w < t) (h45 : xL_45 post f w) : xL_n post (f + 1) w := by
  have e : xa_opens w - 1 = nI m := by rw [hm, nI_pred]
  have hi : vp_in (xa_opens w - 1) 8 := by rw [e]; exact vp_in_nI h8 (by omega)
  have hc : xa_ended w < xa_openStage w (xa_opens w - 1).toNatClampNeg := by rw [e, nI_clamp (by omega), ht]; exact h
  have hn : ¬ xa_opens w ≤ 0 := by rw [hm]; exact nI_nle (by omega) (by omega)
  exact br_t h0 (br_f hn (And.intro hi (br_t hc h45)))
theorem xL_give0 (h0 : xa_stopped w = 0) (hm : xa_opens w = 0) (he : xa_ended w < xa_from w) (h : ∀ Q : Int32 → SX → Prop, Q 0 w' → wpX_give Q w) (hp : xL_ post w') : xL_ post w := by
  obtain ⟨f, hf⟩ := hp
  exact ⟨f + 1, xL_in0 h0 hm (br_t (show xa_opens w ≤ 0 by rw [hm]; decide) (br_t he (h _ (br_t rfl hf))))⟩
theorem xL_give1 (h0 : xa_stopped w = 0) (hm : xa_opens w = 0) (he : xa_ended w < xa_from w) (h : ∀ Q : Int32 → SX → Prop, Q 1 w' → wpX_give Q w) (hp : post 1 w') : xL_ post w :=
  ⟨1, xL_in0 (f := 0) h0 hm (br_t (show xa_opens w ≤ 0 by rw [hm]; decide) (br_t he (h _ (br_f (by decide) hp))))⟩
theorem xL_next1 (h0 : xa_stopped w = 0) (hm : xa_opens w = 0) (he : ¬ xa_ended w < xa_from w) (h : ∀ Q : Int32 → SX → Prop, Q 1 w' → wpX_nextSource Q w) (hp : xL_ post w') : xL_ post w := by
  obtain ⟨f, hf⟩ := hp
  exact ⟨f + 1, xL_in0 h0 hm (br_t (show xa_opens w ≤ 0 by rw [hm]; decide) (br_f he (h _ (br_f (by decide) hf))))⟩
theorem xL_next0 (h0 : xa_stopped w = 0) (hm : xa_opens w = 0) (he : ¬ xa_ended w < xa_from w) (h : ∀ Q : Int32 → SX → Prop, Q 0 w' → wpX_nextSource Q w) (hp : post 0 w') : xL_ post w :=
  ⟨1, xL_in0 (f := 0) h0 hm (br_t (show xa_opens w ≤ 0 by rw [hm]; decide) (br_f he (h _ (br_t rfl hp))))⟩
theorem xL_more0 {t : Int32} (h0 : xa_stopped w = 0) (hm : xa_opens w = nI (m + 1)) (h8 : m < 8) (ht : xa_openStage w m = t) (he : xa_ended w < t) (h : ∀ Q : Int32 → SX → Prop, Q 0 w' → wpX_more Q w) (hp : xL_ post w') : xL_ post w := by
  obtain ⟨f, hf⟩ := hp
  have hn : ¬ xa_opens w ≤ 0 := by rw [hm]; exact nI_nle (by omega) (by omega)
  exact ⟨f + 1, xL_in1 h0 hm h8 ht he (br_f hn (h _ (br_t rfl hf)))⟩
theorem xL_more1 {t : Int32} (h0 : xa_stopped w = 0) (hm : xa_opens w = nI (m + 1)) (h8 : m < 8) (ht : xa_openStage w m = t) (he : xa_ended w < t) (h : ∀ Q : Int32 → SX → Prop, Q 1 w' → wpX_more Q w) (hp : post 1 w') : xL_ post w := by
  have hn : ¬ xa_opens w ≤ 0 := by rw [hm]; exact nI_nle (by omega) (by omega)
  exact ⟨1, xL_in1 (f := 0) h0 hm h8 ht he (br_f hn (h _ (br_f (by decide) hp)))⟩
end
theorem xw_flow {post : Int32 → SX → Prop} {w : SX} {s : Nat} {x : Int32} (h : xF_ post s (xs_out w x)) : wpX_flow post w x (nI s) := h
section
variable {Q : Int32 → SX → Prop} {w w1 w2 : SX} {m o k : Nat} {x : Int32}
/-- more, up to the kind -/
def mo_11 (Q : Int32 → SX → Prop) (w : SX) (x1 x2 x3 c : Int32) : Prop :=
  vp_in x1 8 ∧ (vp_in c 3 ∧ ((xa_openLeft w x1.toNatClampNeg < xa_length w c.toNatClampNeg → wpX_payRead (fun r w => (r = 0 → Q 0 w) ∧ (¬ r = 0 → (vp_in x1 8 ∧ (vp_in x1 8 ∧ ∀ a : Nat → Int32, a = upd (xa_openLeft w) x1.toNatClampNeg (vp_nar .byte ((xa_openLeft w x1.toNatClampNeg + 1).toInt8.toInt32)) →
    (vp_in (24 * c + xa_openLeft w x1.toNatClampNeg) 72 ∧ ∀ y : Int32, y = xa_element w (24 * c + xa_openLeft w x1.toNatClampNeg).toNatClampNeg → (((x3 ^^^ y) &&& 3 = 0 → wpX_flow (fun r w => (r = 0 → Q 0 w) ∧ (¬ r = 0 → Q 1 w)) (xs_openLeft w a) (x3 + y) (x2 + 1)) ∧
      (¬ (x3 ^^^ y) &&& 3 = 0 → Q 0 (xs_openLeft w a)))))))) w c) ∧ (¬ xa_openLeft w x1.toNatClampNeg < xa_length w c.toNatClampNeg → ∀ z : Int32, z = xa_opens w - 1 → Q 0 (xs_opens w z))))
def mo_201 (Q : Int32 → SX → Prop) (x2 x3 : Int32) (w : SX) : Prop := wX_more_201 Q x2 x3 (xa_limit w) (xa_source w) (xa_stages w) (xa_tokens w) (xa_wrongPlace w) (xa_waits w) (xa_parens w) (xa_opens w) (xa_from w) (xa_at w) (xa_ended w) (xa_spent w) (xa_stopped w) (xa_out w) (xa_lastStages w) (xa_failedStage w) (xa_shownCount w) (xa_element w) (xa_length w) (xa_kind w) (xa_constant w) (xa_step w) (xa_number w) (xa_steps w) (xa_quick w) (xa_token w) (xa_waiting w) (xa_compared w) (xa_operand w) (xa_memory w) (xa_begun w) (xa_place w) (xa_held w) (xa_keyOf w) (xa_next w) (xa_size w) (xa_head w) (xa_openStage w) (xa_openValue w) (xa_openLeft w) (xa_applications w) (xa_reads w) (xa_shown w)
theorem mo_in11 {c : Int32} (hm : xa_opens w = nI (m + 1)) (h8 : m < 8) (ho : xa_openStage w m = nI o) (ho8 : o < 8) (hx : xa_openValue w m = x) (hk : xa_kind w o = nI 11) (hc : xa_constant w o = c)
    (h : mo_11 Q w (nI m) (nI o) x c) : wpX_more Q w := by
  have e : xa_opens w - 1 = nI m := by rw [hm, nI_pred]
  have em : (nI m).toNatClampNeg = m := nI_clamp (by omega)
  have eo : (nI o).toNatClampNeg = o := nI_clamp (by omega)
  have hi : vp_in (nI m) 8 := vp_in_nI h8 (by omega)
  have hio : vp_in (nI o) 8 := vp_in_nI ho8 (by omega)
  unfold mo_11 at h
  rw [em] at h
  refine nm_r e (And.intro hi ?_)
  rw [em]
  refine nm_r ho (And.intro hi (nm_r hx (And.intro hio ?_)))
  rw [eo]
  exact br_t hk (And.intro hio (nm_r hc h))
def mo_67 (Q : Int32 → SX → Prop) (w : SX) (x1 x2 x3 : Int32) : Prop :=
  vp_in x1 8 ∧ ((xa_openLeft w x1.toNatClampNeg = 0 → ∀ z : Int32, z = xa_opens w - 1 → Q 0 (xs_opens w z)) ∧ (¬ xa_openLeft w x1.toNatClampNeg = 0 → wpX_payStage (fun r w => (r = 0 → Q 0 w) ∧ (¬ r = 0 → (vp_in x1 8 ∧ (vp_in x1 8 ∧
    ∀ a : Nat → Int32, a = upd (xa_openLeft w) x1.toNatClampNeg (vp_nar .byte ((xa_openLeft w x1.toNatClampNeg - 1).toInt8.toInt32)) → (vp_in x2 8 ∧ ((xa_kind w x2.toNatClampNeg = 7 → wpX_value (fun r w => vp_in x1 8 ∧ ∀ b : Nat → Int32, b = upd (xa_openValue w) x1.toNatClampNeg r → mo_201 Q x2 r (xs_openValue w b)) (xs_openLeft w a) x2 x3 0) ∧
      (¬ xa_kind w x2.toNatClampNeg = 7 → mo_201 Q x2 x3 (xs_openLeft w a))))))) ) w x2))
theorem mo_in67 (hm : xa_opens w = nI (m + 1)) (h8 : m < 8) (ho : xa_openStage w m = nI o) (ho8 : o < 8) (hx : xa_openValue w m = x) (hk : xa_kind w o = nI k) (hk' : k = 6 ∨ k = 7)
    (h : mo_67 Q w (nI m) (nI o) x) : wpX_more Q w := by
  have e : xa_opens w - 1 = nI m := by rw [hm, nI_pred]
  have em : (nI m).toNatClampNeg = m := nI_clamp (by omega)
  have eo : (nI o).toNatClampNeg = o := nI_clamp (by omega)
  have hi : vp_in (nI m) 8 := vp_in_nI h8 (by omega)
  have hio : vp_in (nI o) 8 := vp_in_nI ho8 (by omega)
  unfold mo_67 at h
  rw [em] at h
  refine nm_r e (And.intro hi ?_)
  rw [em]
  refine nm_r ho (And.intro hi (nm_r hx (And.intro hio ?_)))
  rw [eo]
  rw [eo] at h
  exact br_f (kn_ne (b := 11) hk (by omega) (by omega) (by omega)) h
end
end
section
/-! X: more, its outcomes -/
section
variable {Q : Int32 → SX → Prop} {w w1 w2 : SX} {m o j l q : Nat} {x y z : Int32}
theorem mo_11e (h8 : m < 8) (hl : l < 3) (hj : xa_openLeft w m = nI j) (hq : xa_length w l = nI q) (hj31 : j < 1000) (h : q ≤ j) (hm : xa_opens w = nI (m + 1)) (hp : Q 0 (xs_opens w (nI m))) : mo_11 Q w (nI m) (nI o) x (nI l) := by
  have em : (nI m).toNatClampNeg = m := nI_clamp (by omega)
  have el : (nI l).toNatClampNeg = l := nI_clamp (by omega)
  unfold mo_11
  rw [em, el]
  refine ⟨vp_in_nI h8 (by omega), vp_in_nI hl (by omega), br_f (by rw [hj, hq]; exact nI_nlt h (by omega)) (fun z ez => ?_)⟩
  rw [hm, nI_pred] at ez
  rw [ez]
  exact hp
theorem mo_11n (h8 : m < 8) (hl : l < 3) (hj : xa_openLeft w m = nI j) (hq : xa_length w l = nI q) (hq24 : q ≤ 24) (h : j < q) (hx : ∀ Q : Int32 → SX → Prop, Q 0 w1 → wpX_payRead Q w (nI l)) (hp : Q 0 w1) : mo_11 Q w (nI m) (nI o) x (nI l) := by
  have em : (nI m).toNatClampNeg = m := nI_clamp (by omega)
  have el : (nI l).toNatClampNeg = l := nI_clamp (by omega)
  unfold mo_11
  rw [em, el]
  exact ⟨vp_in_nI h8 (by omega), vp_in_nI hl (by omega), br_t (by rw [hj, hq]; exact nI_lt h (by omega)) (hx _ (br_t rfl hp))⟩
theorem mo_11y {a : Nat → Int32} (h8 : m < 8) (hl : l < 3) (hj : xa_openLeft w m = nI j) (hq : xa_length w l = nI q) (hq24 : q ≤ 24) (h : j < q) (hx : ∀ Q : Int32 → SX → Prop, Q 1 w1 → wpX_payRead Q w (nI l))
    (hj1 : xa_openLeft w1 m = nI j) (ha : a = upd (xa_openLeft w1) m (nI (j + 1))) (hy : xa_element w1 (24 * l + j) = y)
    (h1 : (x ^^^ y) &&& 3 = 0 → xF_ (fun r w => (r = 0 → Q 0 w) ∧ (¬ r = 0 → Q 1 w)) (o + 1) (xs_out (xs_openLeft w1 a) (x + y))) (h2 : ¬ (x ^^^ y) &&& 3 = 0 → Q 0 (xs_openLeft w1 a)) : mo_11 Q w (nI m) (nI o) x (nI l) := by
  have em : (nI m).toNatClampNeg = m := nI_clamp (by omega)
  have el : (nI l).toNatClampNeg = l := nI_clamp (by omega)
  have hi : vp_in (nI m) 8 := vp_in_nI h8 (by omega)
  have e24 : (24 : Int32) * nI l + nI j = nI (24 * l + j) := zn_24 _ _
  unfold mo_11
  rw [em, el]
  refine ⟨hi, vp_in_nI hl (by omega), br_t (by rw [hj, hq]; exact nI_lt h (by omega)) (hx _ ?_)⟩
  refine br_f (by decide) ⟨hi, hi, fun b eb => ?_⟩
  rw [hj1, nI_1, zn_vb (by omega), ← ha] at eb
  subst eb
  rw [hj1, e24, nI_clamp (by omega), nI_1]
  refine ⟨vp_in_nI (by omega) (by omega), fun y' ey => ?_⟩
  rw [hy] at ey
  subst ey
  exact ⟨fun c => xw_flow (h1 c), h2⟩
theorem mo_67e (h8 : m < 8) (hj : xa_openLeft w m = nI 0) (hm : xa_opens w = nI (m + 1)) (hp : Q 0 (xs_opens w (nI m))) : mo_67 Q w (nI m) (nI o) x := by
  have em : (nI m).toNatClampNeg = m := nI_clamp (by omega)
  unfold mo_67
  rw [em]
  refine ⟨vp_in_nI h8 (by omega), br_t hj (fun z ez => ?_)⟩
  rw [hm, nI_pred] at ez
  rw [ez]
  exact hp
theorem mo_67n (h8 : m < 8) (hj : xa_openLeft w m = nI (j + 1)) (hj24 : j < 24) (hx : ∀ Q : Int32 → SX → Prop, Q 0 w1 → wpX_payStage Q w (nI o)) (hp : Q 0 w1) : mo_67 Q w (nI m) (nI o) x := by
  have em : (nI m).toNatClampNeg = m := nI_clamp (by omega)
  unfold mo_67
  rw [em]
  exact ⟨vp_in_nI h8 (by omega), br_f (by rw [hj]; exact nI_ne0 (by omega) (by omega)) (hx _ (br_t rfl hp))⟩
theorem mo_67y {a : Nat → Int32} {k : Nat} (h8 : m < 8) (ho8 : o < 8) (hj : xa_openLeft w m = nI (j + 1)) (hj24 : j < 24) (hx : ∀ Q : Int32 → SX → Prop, Q 1 w1 → wpX_payStage Q w (nI o)) (hj1 : xa_openLeft w1 m = nI (j + 1)) (ha : a = upd (xa_openLeft w1) m (nI j))
    (hk : xa_kind w1 o = nI k) (hk' : k = 6 ∨ k = 7) (h7 : k = 7 → wpX_value (fun r w => vp_in (nI m) 8 ∧ ∀ b : Nat → Int32, b = upd (xa_openValue w) m r → mo_201 Q (nI o) r (xs_openValue w b)) (xs_openLeft w1 a) (nI o) x 0)
    (h6 : k = 6 → mo_201 Q (nI o) x (xs_openLeft w1 a)) : mo_67 Q w (nI m) (nI o) x := by
  have em : (nI m).toNatClampNeg = m := nI_clamp (by omega)
  have eo : (nI o).toNatClampNeg = o := nI_clamp (by omega)
  have hi : vp_in (nI m) 8 := vp_in_nI h8 (by omega)
  unfold mo_67
  rw [em, eo]
  refine ⟨hi, br_f (by rw [hj]; exact nI_ne0 (by omega) (by omega)) (hx _ ?_)⟩
  refine br_f (by decide) ⟨hi, hi, fun b eb => ?_⟩
  rw [hj1, nI_pred, zn_vb (by omega), ← ha] at eb
  subst eb
  refine ⟨vp_in_nI ho8 (by omega), ?_⟩
  rcases hk' with rfl | rfl
  · exact br_f (kn_ne (b := 7) hk (by omega) (by omega) (by omega)) (h6 rfl)
  · exact br_t hk (h7 rfl)
theorem mo_201y (h0 : xa_stopped w = 0) (h : xF_ (fun r w => (r = 0 → Q 0 w) ∧ (¬ r = 0 → Q 1 w)) (o + 1) (xs_out w x)) : mo_201 Q (nI o) x w := by
  have e : nI o + 1 = nI (o + 1) := nI_1 o
  unfold mo_201 wX_more_201
  rw [e]
  exact br_t h0 (xw_flow h)
theorem mo_201n (h0 : ¬ xa_stopped w = 0) (h : Q 0 w) : mo_201 Q (nI o) x w := br_f h0 h
end
end
section
/-! Y: a stage is asked, a stage is told the end -/
def ym_s6 (u : SY) (z_paid : Int32) (z_applied : Nat → Int32) (z_left : Nat → Int32) (z_v : Int32) : SY := (u.1, u.2.1, u.2.2.1, u.2.2.2.1, z_paid, u.2.2.2.2.2.1, u.2.2.2.2.2.2.1, u.2.2.2.2.2.2.2.1, z_v, u.2.2.2.2.2.2.2.2.2.1, u.2.2.2.2.2.2.2.2.2.2.1, u.2.2.2.2.2.2.2.2.2.2.2.1, u.2.2.2.2.2.2.2.2.2.2.2.2.1, u.2.2.2.2.2.2.2.2.2.2.2.2.2.1, u.2.2.2.2.2.2.2.2.2.2.2.2.2.2.1, u.2.2.2.2.2.2.2.2.2.2.2.2.2.2.2.1, u.2.2.2.2.2.2.2.2.2.2.2.2.2.2.2.2.1, u.2.2.2.2.2.2.2.2.2.2.2.2.2.2.2.2.2.1, u.2.2.2.2.2.2.2.2.2.2.2.2.2.2.2.2.2.2.1, u.2.2.2.2.2.2.2.2.2.2.2.2.2.2.2.2.2.2.2.1, z_left, u.2.2.2.2.2.2.2.2.2.2.2.2.2.2.2.2.2.2.2.2.2.1, u.2.2.2.2.2.2.2.2.2.2.2.2.2.2.2.2.2.2.2.2.2.2.1, u.2.2.2.2.2.2.2.2.2.2.2.2.2.2.2.2.2.2.2.2.2.2.2.1, u.2.2.2.2.2.2.2.2.2.2.2.2.2.2.2.2.2.2.2.2.2.2.2.2.1, u.2.2.2.2.2.2.2.2.2.2.2.2.2.2.2.2.2.2.2.2.2.2.2.2.2.1, u.2.2.2.2.2.2.2.2.2.2.2.2.2.2.2.2.2.2.2.2.2.2.2.2.2.2.1, z_applied, u.2.2.2.2.2.2.2.2.2.2.2.2.2.2.2.2.2.2.2.2.2.2.2.2.2.2.2.2)
section
variable {Q : Int32 → SY → Prop} {v v1 : SY} {s k : Nat} {x z r : Int32}
theorem ya_in (hs : s < 8) (hk : ya_kinds v s = nI k) (hk16 : k ≤ 16)
    (h2 : k = 2 → ((ya_left v s < ya_numbers v s → Q 2 v) ∧ (¬ ya_left v s < ya_numbers v s → Q 0 v)))
    (h6 : k = 6 → ((ya_left v s = 0 → Q 2 v) ∧ (¬ ya_left v s = 0 → wpY_pay (fun r w => (r = 0 → Q 3 w) ∧ (¬ r = 0 → (vp_in (nI s) 8 ∧ (vp_in (nI s) 8 ∧ ∀ a : Nat → Int32, a = upd (ya_applied w) s (ya_applied w s + 1) → (vp_in (nI s) 8 ∧ (vp_in (nI s) 8 ∧ ∀ b : Nat → Int32, b = upd (ya_left w) s (ya_left w s - 1) →
      (vp_in (nI s) 8 ∧ ∀ z : Int32, z = ya_last w s → Q 1 (ys_v (ys_left (ys_applied w a) b) z)))))))) v)))
    (h7 : k = 7 → ((ya_left v s = 0 → Q 2 v) ∧ (¬ ya_left v s = 0 → ∀ a : Nat → Int32, a = upd (ya_left v) s (ya_left v s - 1) → wpY_apply (fun r w => (r = 0 → Q 3 w) ∧ (¬ r = 0 → ∀ b : Nat → Int32, b = upd (ya_last w) s (ya_v w) → Q 1 (ys_last w b))) (ys_left v a) (nI s) (ya_last v s) 0)))
    (h9 : k = 9 → ((ya_begun v s = 0 → Q 2 v) ∧ (¬ ya_begun v s = 0 → ∀ a : Nat → Int32, a = upd (ya_place v) s (ya_place v s + 1) → wpY_fetch Q (ys_place v a) (ya_numbers v s) (ya_place v s))))
    (h11 : k = 11 → ((ya_begun v s = 0 → Q 2 v) ∧ (¬ ya_begun v s = 0 → wpY_match Q v (nI s))))
    (h14 : k = 14 ∨ k = 15 ∨ k = 16 → ((ya_begun v s = 0 → Q 2 v) ∧ (¬ ya_begun v s = 0 → wpY_release Q v (nI s))))
    (hd : ¬ (k = 2 ∨ k = 6 ∨ k = 7 ∨ k = 9 ∨ k = 11 ∨ k = 14 ∨ k = 15 ∨ k = 16) → Q 2 v) : wpY_asked Q v (nI s) := by
  have e : (nI s).toNatClampNeg = s := nI_clamp (by omega)
  have h8 : vp_in (nI s) 8 := vp_in_nI hs (by omega)
  have h257 : (k = 14 ∨ k = 15 ∨ k = 16) → wY_asked_257 Q (nI s) (ya_limit v) (ya_source v) (ya_stages v) (ya_wrongAt v) (ya_paid v) (ya_at v) (ya_seenCount v) (ya_failedAt v) (ya_v v) (ya_valTop v) (ya_opTop v) (ya_ran v) (ya_broken v) (ya_outcome v) (ya_lists v) (ya_sizes v) (ya_tokens v) (ya_counts v) (ya_kinds v) (ya_numbers v) (ya_left v) (ya_last v) (ya_place v) (ya_begun v) (ya_held v) (ya_keys v) (ya_holds v) (ya_applied v) (ya_reads v) (ya_seen v) (ya_vals v) (ya_ops v) := by
    intro hc
    refine And.intro h8 ?_
    rw [e]
    exact h14 hc
  refine And.intro h8 ?_
  rw [e]
  refine nm_r hk ?_
  by_cases c2 : k < 2
  · exact br_t (nI_lt (b := 2) c2 (by omega)) (hd (by omega))
  · refine br_f (nI_nlt (b := 2) (by omega) (by omega)) (br_f (nI_nlt (a := 16) hk16 (by omega)) ?_)
    have hc : k = 2 ∨ k = 3 ∨ k = 4 ∨ k = 5 ∨ k = 6 ∨ k = 7 ∨ k = 8 ∨ k = 9 ∨ k = 10 ∨ k = 11 ∨ k = 12 ∨ k = 13 ∨ k = 14 ∨ k = 15 ∨ k = 16 := by omega
    rcases hc with rfl | rfl | rfl | rfl | rfl | rfl | rfl | rfl | rfl | rfl | rfl | rfl | rfl | rfl | rfl
    · exact br_t rfl (And.intro h8 (And.intro h8 (h2 rfl)))
    · exact br_f (by decide) (br_t rfl (hd (by omega)))
    · exact br_f (by decide) (br_f (by decide) (br_t rfl (hd (by omega))))
    · exact br_f (by decide) (br_f (by decide) (br_f (by decide) (br_t rfl (hd (by omega)))))
    · exact br_f (by decide) (br_f (by decide) (br_f (by decide) (br_f (by decide) (br_t rfl (And.intro h8 (h6 rfl))))))
    · refine br_f (by decide) (br_f (by decide) (br_f (by decide) (br_f (by decide) (br_f (by decide) (br_t rfl (And.intro h8 (br_c (h7 rfl).1 (fun c => And.intro h8 (And.intro h8 (fun a ea => And.intro h8 ?_))))))))))
      have g := (h7 rfl).2 c a ea
      have hm : (fun (r : Int32) (w : SY) => (r = 0 → Q 3 w) ∧ (¬ r = 0 → ∀ b : Nat → Int32, b = upd (ya_last w) s (ya_v w) → Q 1 (ys_last w b))) =
          (fun (r : Int32) (w : SY) => (r = 0 → Q 3 w) ∧ (¬ r = 0 → (vp_in (nI s) 8 ∧ ∀ b : Nat → Int32, b = upd (ya_last w) s (ya_v w) → Q 1 (ys_last w b)))) := by
        funext r w
        exact propext ⟨fun h => ⟨h.1, fun c => ⟨h8, h.2 c⟩⟩, fun h => ⟨h.1, fun c => (h.2 c).2⟩⟩
      rw [hm] at g
      exact g
    · exact br_f (by decide) (br_f (by decide) (br_f (by decide) (br_f (by decide) (br_f (by decide) (br_f (by decide) (br_t rfl (hd (by omega))))))))
    · exact br_f (by decide) (br_f (by decide) (br_f (by decide) (br_f (by decide) (br_f (by decide) (br_f (by decide) (br_f (by decide) (br_t rfl (And.intro h8 (br_c (h9 rfl).1 (fun c => And.intro h8 (And.intro h8 (And.intro h8 ((h9 rfl).2 c)))))))))))))
    · exact br_f (by decide) (br_f (by decide) (br_f (by decide) (br_f (by decide) (br_f (by decide) (br_f (by decide) (br_f (by decide) (br_f (by decide) (br_t rfl (hd (by omega))))))))))
    · exact br_f (by decide) (br_f (by decide) (br_f (by decide) (br_f (by decide) (br_f (by decide) (br_f (by decide) (br_f (by decide) (br_f (by decide) (br_f (by decide) (br_t rfl (And.intro h8 (h11 rfl)))))))))))
    · exact br_f (by decide) (br_f (by decide) (br_f (by decide) (br_f (by decide) (br_f (by decide) (br_f (by decide) (br_f (by decide) (br_f (by decide) (br_f (by decide) (br_f (by decide) (br_t rfl (hd (by omega))))))))))))
    · exact br_f (by decide) (br_f (by decide) (br_f (by decide) (br_f (by decide) (br_f (by decide) (br_f (by decide) (br_f (by decide) (br_f (by decide) (br_f (by decide) (br_f (by decide) (br_f (by decide) (br_t rfl (hd (by omega)))))))))))))
    · exact br_f (by decide) (br_f (by decide) (br_f (by decide) (br_f (by decide) (br_f (by decide) (br_f (by decide) (br_f (by decide) (br_f (by decide) (br_f (by decide) (br_f (by decide) (br_f (by decide) (br_f (by decide) (br_t rfl (h257 (by omega))))))))))))))
    · exact br_f (by decide) (br_f (by decide) (br_f (by decide) (br_f (by decide) (br_f (by decide) (br_f (by decide) (br_f (by decide) (br_f (by decide) (br_f (by decide) (br_f (by decide) (br_f (by decide) (br_f (by decide) (br_f (by decide) (br_t rfl (h257 (by omega)))))))))))))))
    · exact br_f (by decide) (br_f (by decide) (br_f (by decide) (br_f (by decide) (br_f (by decide) (br_f (by decide) (br_f (by decide) (br_f (by decide) (br_f (by decide) (br_f (by decide) (br_f (by decide) (br_f (by decide) (br_f (by decide) (br_f (by decide) (br_t rfl (h257 (by omega))))))))))))))))
/-- the end passes -/
theorem ye_pass (hs : s < 8) (hk : ya_kinds v s = nI k) (hk' : k < 14) (hk9 : k ≠ 9) (hp : Q 0 v) : wpY_ended Q v (nI s) := by
  have e : (nI s).toNatClampNeg = s := nI_clamp (by omega)
  refine And.intro (vp_in_nI hs (by omega)) ?_
  rw [e]
  exact nm_r hk (br_f (nI_ge (b := 14) hk' (by omega)) (br_f (fun z => hk9 ((nI_eq (b := 9) (by omega) (by omega)).mp z)) hp))
theorem ye_src (hs : s < 8) (hk : ya_kinds v s = nI k) (hk' : k = 9 ∨ k = 14 ∨ k = 15 ∨ k = 16) (h : wY_ended_21 Q (nI s) (nI k) (ya_limit v) (ya_source v) (ya_stages v) (ya_wrongAt v) (ya_paid v) (ya_at v) (ya_seenCount v) (ya_failedAt v) (ya_v v) (ya_valTop v) (ya_opTop v) (ya_ran v) (ya_broken v) (ya_outcome v) (ya_lists v) (ya_sizes v) (ya_tokens v) (ya_counts v) (ya_kinds v) (ya_numbers v) (ya_left v) (ya_last v) (ya_place v) (ya_begun v) (ya_held v) (ya_keys v) (ya_holds v) (ya_applied v) (ya_reads v) (ya_seen v) (ya_vals v) (ya_ops v)) : wpY_ended Q v (nI s) := by
  have e : (nI s).toNatClampNeg = s := nI_clamp (by omega)
  refine And.intro (vp_in_nI hs (by omega)) ?_
  rw [e]
  refine nm_r hk ?_
  rcases hk' with rfl | rfl | rfl | rfl
  · exact br_f (by decide) (br_t rfl h)
  · exact br_t (by decide) h
  · exact br_t (by decide) h
  · exact br_t (by decide) h
end
end
section
/-! the stack's top; idle stages -/
def xm_ov (u : SX) (z_openValue : Nat → Int32) (z_openLeft : Nat → Int32) : SX := (u.1, u.2.1, u.2.2.1, u.2.2.2.1, u.2.2.2.2.1, u.2.2.2.2.2.1, u.2.2.2.2.2.2.1, u.2.2.2.2.2.2.2.1, u.2.2.2.2.2.2.2.2.1, u.2.2.2.2.2.2.2.2.2.1, u.2.2.2.2.2.2.2.2.2.2.1, u.2.2.2.2.2.2.2.2.2.2.2.1, u.2.2.2.2.2.2.2.2.2.2.2.2.1, u.2.2.2.2.2.2.2.2.2.2.2.2.2.1, u.2.2.2.2.2.2.2.2.2.2.2.2.2.2.1, u.2.2.2.2.2.2.2.2.2.2.2.2.2.2.2.1, u.2.2.2.2.2.2.2.2.2.2.2.2.2.2.2.2.1, u.2.2.2.2.2.2.2.2.2.2.2.2.2.2.2.2.2.1, u.2.2.2.2.2.2.2.2.2.2.2.2.2.2.2.2.2.2.1, u.2.2.2.2.2.2.2.2.2.2.2.2.2.2.2.2.2.2.2.1, u.2.2.2.2.2.2.2.2.2.2.2.2.2.2.2.2.2.2.2.2.1, u.2.2.2.2.2.2.2.2.2.2.2.2.2.2.2.2.2.2.2.2.2.1, u.2.2.2.2.2.2.2.2.2.2.2.2.2.2.2.2.2.2.2.2.2.2.1, u.2.2.2.2.2.2.2.2.2.2.2.2.2.2.2.2.2.2.2.2.2.2.2.1, u.2.2.2.2.2.2.2.2.2.2.2.2.2.2.2.2.2.2.2.2.2.2.2.2.1, u.2.2.2.2.2.2.2.2.2.2.2.2.2.2.2.2.2.2.2.2.2.2.2.2.2.1, u.2.2.2.2.2.2.2.2.2.2.2.2.2.2.2.2.2.2.2.2.2.2.2.2.2.2.1, u.2.2.2.2.2.2.2.2.2.2.2.2.2.2.2.2.2.2.2.2.2.2.2.2.2.2.2.1, u.2.2.2.2.2.2.2.2.2.2.2.2.2.2.2.2.2.2.2.2.2.2.2.2.2.2.2.2.1, u.2.2.2.2.2.2.2.2.2.2.2.2.2.2.2.2.2.2.2.2.2.2.2.2.2.2.2.2.2.1, u.2.2.2.2.2.2.2.2.2.2.2.2.2.2.2.2.2.2.2.2.2.2.2.2.2.2.2.2.2.2.1, u.2.2.2.2.2.2.2.2.2.2.2.2.2.2.2.2.2.2.2.2.2.2.2.2.2.2.2.2.2.2.2.1, u.2.2.2.2.2.2.2.2.2.2.2.2.2.2.2.2.2.2.2.2.2.2.2.2.2.2.2.2.2.2.2.2.1, u.2.2.2.2.2.2.2.2.2.2.2.2.2.2.2.2.2.2.2.2.2.2.2.2.2.2.2.2.2.2.2.2.2.1, u.2.2.2.2.2.2.2.2.2.2.2.2.2.2.2.2.2.2.2.2.2.2.2.2.2.2.2.2.2.2.2.2.2.2.1, u.2.2.2.2.2.2.2.2.2.2.2.2.2.2.2.2.2.2.2.2.2.2.2.2.2.2.2.2.2.2.2.2.2.2.2.1, u.2.2.2.2.2.2.2.2.2.2.2.2.2.2.2.2.2.2.2.2.2.2.2.2.2.2.2.2.2.2.2.2.2.2.2.2.1, u.2.2.2.2.2.2.2.2.2.2.2.2.2.2.2.2.2.2.2.2.2.2.2.2.2.2.2.2.2.2.2.2.2.2.2.2.2.1, z_openValue, z_openLeft, u.2.2.2.2.2.2.2.2.2.2.2.2.2.2.2.2.2.2.2.2.2.2.2.2.2.2.2.2.2.2.2.2.2.2.2.2.2.2.2.2)
section
variable {L N : Nat} {K : Nat → Nat} {n : Nat} {tk : Nat → Nat} {fr en : Int} {sp rem cnt : Nat} {b P : Nat → Nat} {stk : List (Nat × Int32 × Nat)} {u : SX} {v : SY} {s : Nat}
theorem kk_y (h : rn_ L N K n tk fr en sp rem cnt b P stk u v) (hs : s < N) : s < 8 ∧ K s ≤ 16 ∧ xa_kind u s = nI (K s) ∧ ya_kinds v s = nI (K s) := by
  have hN := h.1.2.2.2.2.2.2.1
  have hkx := (h.1.2.2.2.2.2.2.2.2.2.2.2.2.2 s hs).2.1
  exact ⟨by omega, (h.1.2.2.2.2.2.2.2.2.2.2.2.2.2 s hs).1, hkx, by rw [h.1.2.2.2.2.2.2.2.2.2.2.2.1]; exact hkx⟩
theorem ask_idle (h : rn_ L N K n tk fr en sp rem cnt b P stk u v) (hl : li_v fr en N s) (hne : ∀ e, e ∈ stk → e.1 ≠ s) (Q : Int32 → SY → Prop) (hq : Q 2 v) : wpY_asked Q v (nI s) := by
  obtain ⟨hs8, hk16, hkx, hky⟩ := kk_y h hl.2.2
  have hsr := h.2.2.2.2.2.1 s hl
  have hid := h.2.2.2.2.1.2 s hl hne
  have hnum : ya_numbers v = xa_constant u := h.1.2.2.2.2.2.2.2.2.2.2.2.2.1
  refine ya_in hs8 hky hk16 (fun e => br_t ?_ hq) (fun e => br_t (hid.1 (Or.inl e)) hq) (fun e => br_t (hid.1 (Or.inr e)) hq) (fun e => br_t (hsr.2.2.2.2.2.2.1 e).1 hq) (fun e => br_t (hid.2 e) hq) (fun e => br_t ?_ hq) (fun _ => hq)
  · obtain ⟨q, m, e1, e2, e3, e4, e5⟩ := hsr.2.2.1 e
    rw [e1, hnum, e3]
    exact nI_lt e4 e5
  · rcases e with e | e | e
    · exact (hsr.2.2.2.2.2.2.2.2.2.1 e).1
    · exact (hsr.2.2.2.2.2.2.2.2.2.2.1 e).1
    · exact (hsr.2.2.2.2.2.2.2.2.2.2.2 e).1
/-- Y goes down over idle stages -/
theorem ask_down {post : Int32 → SY → Prop} (h : rn_ L N K n tk fr en sp rem cnt b P stk u v) (g : Int) (hg : -1 ≤ g) (hfg : fr ≤ g) (heg : en ≤ g) (hsg : ∀ e, e ∈ stk → (e.1 : Int) ≤ g) :
    ∀ (d : Nat) (x : Int32), x.toInt = g + d → g + d < N → (∀ y : Int32, y.toInt = g → yL_ post y 2 1 v) → yL_ post x 2 1 v := by
  have hN := h.1.2.2.2.2.2.2.1
  have hSt := h.1.2.2.2.2.2.1
  intro d
  induction d with
  | zero => intro x hx _ hp; exact hp x (by omega)
  | succ d ih =>
    intro x hx hlt hp
    obtain ⟨s, hs⟩ : ∃ s : Nat, (s : Int) = g + (d + 1 : Nat) := ⟨(g + (d + 1 : Nat)).toNat, by omega⟩
    have hxs : x = nI s := zn_ti (by rw [hx, hs])
    subst hxs
    refine yL_asked (r := 2) hSt hN (by omega) (fun Q hq => ask_idle h ⟨by omega, by omega, by omega⟩ (fun e he => by have := hsg e he; omega) Q hq) (Or.inr (Or.inl ⟨rfl, ih _ ?_ (by omega) hp⟩))
    rw [zn_sub1 hx (by omega)]
    omega
theorem ve_xo {op : Int32} : ve_x s u (xs_opens u op) := ⟨rfl, rfl, rfl, rfl, rfl, fun _ _ => ⟨rfl, rfl, rfl⟩⟩
theorem ve_xv {a c : Nat → Int32} : ve_x s u (xm_ov u a c) := ⟨rfl, rfl, rfl, rfl, rfl, fun _ _ => ⟨rfl, rfl, rfl⟩⟩
theorem ve_yr : ve_y s v v := ⟨rfl, rfl, rfl, rfl, rfl, fun _ _ => ⟨rfl, rfl⟩⟩
section
variable {l1 l2 l3 l4 l5 l6 l7 : Nat → Int32} {e0 : Nat × Int32 × Nat} {r : List (Nat × Int32 × Nat)}
/-- the top goes -/
theorem R_pop {op : Int32} (h : rn_ L N K n tk fr en sp rem cnt b P (e0 :: r) u v) (hop : op = nI r.length) (hy : of_Y e0.1 v l1 l2 l3 l4 l5 l6 l7) (hid : (e0.1 : Int) ≤ en ∨ id_rel K (yV_s v l1 l2 l3 l4 l5 l6 l7) e0.1) :
    rn_ L N K n tk fr en sp rem cnt b P r (xs_opens u op) (yV_s v l1 l2 l3 l4 l5 l6 l7) := by
  obtain ⟨o, x, l⟩ := e0
  obtain ⟨g1, g2, g3, ⟨c1, c2, c3, c4, c5, c6, c7, c8, c9⟩, g5, g6, g7, g8⟩ := h
  have hL := g1.2.2.2.1
  have hsp := g3.1
  refine ⟨g1, g2, g3, ⟨c1, c2, c3, c4, c5, c6, hop, c8.2.2.2, c9.2.2.2.2.2⟩, ⟨fun e hin hen => ?_, fun q hq hne => ?_⟩, fun q hq => ?_, fun hlt' => ?_, g8⟩
  · have hlt := c9.2.2.2.2.1 e hin
    exact op_cg (g5.1 e (List.mem_cons_of_mem _ hin) hen) (of_vy hy (by show e.1 ≠ o; omega))
  · by_cases c : q = o
    · subst c
      rcases hid with z | z
      · exact absurd hq.2.1 (by have : (q : Int) ≤ en := z; omega)
      · exact z
    · refine id_cg (g5.2 q hq (fun e he' => ?_)) (of_vy hy c)
      rcases List.mem_cons.mp he' with z | z
      · rw [z]; exact fun w => c w.symm
      · exact hne e z
  · by_cases c : q = o
    · subst c
      exact sr_no (by have := c9.2.2.1; omega) (g6 q hq)
    · have hb := g8.2.2.2 q
      exact sr_cg (g6 q hq) (by omega) ve_xo (of_vy hy c)
  · refine so_cg (g7 hlt') rfl (fun _ => rfl) (fun q e => ve_xo) (fun q e => of_vy hy ?_)
    have := c9.1
    show q ≠ o
    omega
/-- the top changes -/
theorem R_top {o l l' : Nat} {x x' : Int32} {oV oL : Nat → Int32} (h : rn_ L N K n tk fr en sp rem cnt b P ((o, x, l) :: r) u v) (hl : l' ≤ 24) (h3 : oV = upd (xa_openValue u) r.length x') (h4 : oL = upd (xa_openLeft u) r.length (nI l'))
    (hy : of_Y o v l1 l2 l3 l4 l5 l6 l7) (hop : op_rel K (yV_s v l1 l2 l3 l4 l5 l6 l7) (o, x', l')) :
    rn_ L N K n tk fr en sp rem cnt b P ((o, x', l') :: r) (xm_ov u oV oL) (yV_s v l1 l2 l3 l4 l5 l6 l7) := by
  obtain ⟨g1, g2, g3, ⟨c1, c2, c3, c4, c5, c6, c7, c8, c9⟩, g5, g6, g7, g8⟩ := h
  have hL := g1.2.2.2.1
  have hsp := g3.1
  have hst : ∀ (a b c : Nat → Int32) (k : Nat) (y z : Int32) (q : List (Nat × Int32 × Nat)), sk_st a b c q → q.length ≤ k → sk_st a (upd b k y) (upd c k z) q := by
    intro a b c k y z q
    induction q with
    | nil => intro _ _; trivial
    | cons p q ih =>
      obtain ⟨p1, p2, p3⟩ := p
      intro hq hk
      simp only [List.length_cons] at hk
      exact ⟨hq.1, (pk_un (by omega)).trans hq.2.1, (pk_un (by omega)).trans hq.2.2.1, ih hq.2.2.2 (by omega)⟩
  refine ⟨g1, g2, g3, ⟨c1, c2, c3, c4, c5, c6, c7, ⟨c8.1, ?_, ?_, ?_⟩, ⟨c9.1, c9.2.1, c9.2.2.1, hl, c9.2.2.2.2.1, c9.2.2.2.2.2⟩⟩, ⟨fun e hin hen => ?_, fun q hq hne => ?_⟩, fun q hq => ?_, fun hlt' => ?_, g8⟩
  · show oV r.length = _; rw [h3, pk_us]
  · show oL r.length = _; rw [h4, pk_us]
  · show sk_st (xa_openStage u) oV oL r
    rw [h3, h4]
    exact hst _ _ _ _ _ _ r c8.2.2.2 (Nat.le_refl _)
  · rcases List.mem_cons.mp hin with z | z
    · rw [z]; exact hop
    · have hlt := c9.2.2.2.2.1 e z
      exact op_cg (g5.1 e (List.mem_cons_of_mem _ z) hen) (of_vy hy (by omega))
  · have hq0 : q ≠ o := fun z => hne (o, x', l') (List.mem_cons_self ..) z.symm
    refine id_cg (g5.2 q hq (fun e he' => ?_)) (of_vy hy hq0)
    rcases List.mem_cons.mp he' with z | z
    · rw [z]; exact fun w => hq0 w.symm
    · exact hne e (List.mem_cons_of_mem _ z)
  · by_cases c : q = o
    · subst c
      exact sr_no (by have := c9.2.2.1; omega) (g6 q hq)
    · have hb := g8.2.2.2 q
      exact sr_cg (g6 q hq) (by omega) ve_xv (of_vy hy c)
  · refine so_cg (g7 hlt') rfl (fun _ => rfl) (fun q e => ve_xv) (fun q e => of_vy hy ?_)
    have := c9.1
    omega
end
end
end
section
/-! one turn of X's loop in lockstep -/
/-- X goes on with less, or both give an element, or both are at the end -/
def ST_ (L N : Nat) (K : Nat → Nat) (n : Nat) (tk : Nat → Nat) (cnt m : Nat) (u : SX) (W : (Int32 → SY → Prop) → Prop) : Prop :=
  (∃ u' m', m' < m ∧ LH_ L N K n tk cnt m' u' W ∧ ∀ post : Int32 → SX → Prop, xL_ post u' → xL_ post u) ∨
  (∃ fr en sp rem P stk u' v', FL_ L N K n tk fr en sp rem cnt P stk N u' v' ∧ (∀ post : Int32 → SX → Prop, post 1 u' → xL_ post u) ∧ (∀ post : Int32 → SY → Prop, post 1 v' → W post)) ∨
  (∃ fr en sp rem b P stk u' v', rn_ L N K n tk fr en sp rem cnt b P stk u' v' ∧ (∀ post : Int32 → SX → Prop, post 0 u' → xL_ post u) ∧ (∀ post : Int32 → SY → Prop, post 0 v' → W post))
section
variable {L N : Nat} {K : Nat → Nat} {n : Nat} {tk : Nat → Nat} {fr en : Int} {sp rem cnt m : Nat} {b P : Nat → Nat} {stk : List (Nat × Int32 × Nat)} {u : SX} {v : SY} {s : Nat} {W : (Int32 → SY → Prop) → Prop}
/-- the flow as a turn -/
theorem ST_flow {sp' rem' : Nat} {u1 : SX} {v1 : SY} (h : FW_ L N K n tk cnt fr rem' sp' s u1 v1) (hm : be_ L fr sp' rem' + 20 ≤ m) (hx0 : ∀ post : Int32 → SX → Prop, (∀ Q : Int32 → SX → Prop, (∀ w, Q 0 w → Q 0 w) → True) → True)
    (hx1 : ∀ (post : Int32 → SX → Prop) (u' : SX), (∀ Q : Int32 → SX → Prop, Q 1 u' → xF_ Q s u1) → post 1 u' → xL_ post u) (hx2 : ∀ (post : Int32 → SX → Prop) (u' : SX), (∀ Q : Int32 → SX → Prop, Q 0 u' → xF_ Q s u1) → xL_ post u' → xL_ post u)
    (hy : ∀ post : Int32 → SY → Prop, yL_ post (nI s) 1 0 v1 → W post) : ST_ L N K n tk cnt m u W := by
  rcases h with ⟨en', sp2, P', stk', u', v', h', hsp, hX, hY⟩ | ⟨u', m', hm', hl, hX⟩
  · exact Or.inr (Or.inl ⟨fr, en', sp2, rem', P', stk', u', v', h', fun post hp => hx1 post u' hX hp, fun post hp => hy post (hY post hp)⟩)
  · exact Or.inl ⟨u', m', by omega, LH_imp hl (fun post hp => hy post hp), fun post hp => hx2 post u' hX hp⟩
theorem xend_lt {t : Int32} {a c : Int} (h1 : (xa_ended u).toInt = a) (h2 : t.toInt = c) : (xa_ended u < t ↔ a < c) := zn_lt h1 h2
/-- a dead open stage is popped -/
theorem ST_pop {e0 : Nat × Int32 × Nat} {r : List (Nat × Int32 × Nat)} (h : rn_ L N K n tk fr en sp rem cnt (fun _ => sp) P (e0 :: r) u v) (ho : (e0.1 : Int) ≤ en)
    (hl : ∀ m', LD_ L N K n tk cnt m' (xs_opens u (nI r.length)) W → LH_ L N K n tk cnt m' (xs_opens u (nI r.length)) W) : rn_ L N K n tk fr en sp rem cnt (fun _ => sp) P r (xs_opens u (nI r.length)) v ∧ ∀ post : Int32 → SX → Prop, xL_ post (xs_opens u (nI r.length)) → xL_ post u := by
  have h8 := sk_len8 h
  simp only [List.length_cons] at h8
  have hc := h.2.2.2.1
  have hin := sk_in (e := e0) (e0 :: r) hc.2.2.2.2.2.2.2.2 (List.mem_cons_self ..)
  have hN := h.1.2.2.2.2.2.2.1
  refine ⟨?_, fun post hp => ?_⟩
  · have := R_pop (op := nI r.length) h rfl (of_Yr (s := e0.1)) (Or.inl ho)
    rw [yV_self] at this
    exact this
  · obtain ⟨o, x, l⟩ := e0
    have ho' : (o : Int) ≤ en := ho
    have hoN : o < N := hin.2.1
    refine xL_pop (t := nI o) h.2.2.1.2.2.2.1 hc.2.2.2.2.2.2.1 (by omega) hc.2.2.2.2.2.2.2.1.1 ?_ hp
    rw [zn_lt hc.2.1 (nI_toInt (n := o) (by omega))]
    omega
theorem mu_pop {e0 : Nat × Int32 × Nat} {r : List (Nat × Int32 × Nat)} : mu_ L fr en sp rem r + 1 = mu_ L fr en sp rem (e0 :: r) := by
  unfold mu_
  rw [List.length_cons]
  omega
end
end
section
/-! the top of the stack gives: kind 6 -/
theorem upd_same {a : Nat → Int32} {k : Nat} {x : Int32} (h : a k = x) : a = upd a k x := by
  funext j
  by_cases c : j = k
  · subst c; rw [pk_us]; exact h
  · rw [pk_un c]
theorem ov_l (u : SX) (a : Nat → Int32) : xs_openLeft u a = xm_ov u (xa_openValue u) a := rfl
theorem y6_e (v : SY) (a x : Int32) (c B : Nat → Int32) : ys_v (ys_left (ys_applied (ys_paid v a) c) B) x = ys_v (yV_s (ym_pa v a c) B (ya_last v) (ya_place v) (ya_begun v) (ya_held v) (ya_keys v) (ya_holds v)) x := rfl
section
variable {L N : Nat} {K : Nat → Nat} {n : Nat} {tk : Nat → Nat} {fr en : Int} {sp rem cnt m : Nat} {P : Nat → Nat} {r : List (Nat × Int32 × Nat)} {u : SX} {v : SY} {o l : Nat} {x : Int32} {W : (Int32 → SY → Prop) → Prop} {t : Int}
theorem be_step (h : sp < L) : be_ L fr (sp + 1) rem + 36000 = be_ L fr sp rem := by
  unfold be_
  omega
theorem mu_ge {stk : List (Nat × Int32 × Nat)} : be_ L fr sp rem ≤ mu_ L fr en sp rem stk := by
  unfold be_ mu_
  omega
/-- Y comes down to the top -/
theorem down_o (h : rn_ L N K n tk fr en sp rem cnt (fun _ => sp) P ((o, x, l) :: r) u v) (heo : en < o) (hto : (o : Int) ≤ t) (htN : t < N) (hW : ∀ (post : Int32 → SY → Prop) (x : Int32), x.toInt = t → yL_ post x 2 1 v → W post) :
    ∀ post : Int32 → SY → Prop, yL_ post (nI o) 2 1 v → W post := by
  have hN := h.1.2.2.2.2.2.2.1
  have hin := sk_in (e := (o, x, l)) ((o, x, l) :: r) h.2.2.2.1.2.2.2.2.2.2.2.2 (List.mem_cons_self ..)
  have hlt := h.2.2.2.1.2.2.2.2.2.2.2.2.2.2.2.2.1
  intro post hp
  have e1 : (nI t.toNat).toInt = t := by rw [nI_toInt (by omega)]; omega
  have hfo : fr < o := hin.1
  refine hW post (nI t.toNat) e1 (ask_down h (o : Int) (by omega) (by omega) (by omega) (fun e he => ?_) (t.toNat - o) (nI t.toNat) (by rw [e1]; omega) (by omega) (fun y hy => ?_))
  · rcases List.mem_cons.mp he with z | z
    · rw [z]; exact Int.le_refl _
    · have := hlt e z; omega
  · rw [zn_ti hy]; exact hp
theorem more_6 (h : rn_ L N K n tk fr en sp rem cnt (fun _ => sp) P ((o, x, l) :: r) u v) (ht : rn_t fr en K v) (heo : en < o) (hk : K o = 6) (hm : mu_ L fr en sp rem ((o, x, l) :: r) ≤ m) (hY : ∀ post : Int32 → SY → Prop, yL_ post (nI o) 2 1 v → W post) :
    ST_ L N K n tk cnt m u W := by
  have h8 := sk_len8 h
  simp only [List.length_cons] at h8
  have hc := h.2.2.2.1
  have hN := h.1.2.2.2.2.2.2.1
  have hSt := h.1.2.2.2.2.2.1
  have hgl := h.2.2.1
  have hst0 := hgl.2.2.2.1
  have hin := sk_in (e := (o, x, l)) ((o, x, l) :: r) hc.2.2.2.2.2.2.2.2 (List.mem_cons_self ..)
  have hfo : fr < o := hin.1
  have hoN : o < N := hin.2.1
  have hl24 : l ≤ 24 := hin.2.2.2
  have hlt := hc.2.2.2.2.2.2.2.2.2.2.2.2.1
  have hop := h.2.2.2.2.1.1 (o, x, l) (List.mem_cons_self ..) heo
  have hlast : ya_last v o = x := hop.1
  have hleft : ya_left v o = nI l := hop.2.1 (Or.inl hk)
  obtain ⟨ho8, hk16, hkx, hky⟩ := kk_y h hoN
  rw [hk] at hkx hky
  have a1 : xa_openStage u r.length = nI o := hc.2.2.2.2.2.2.2.1.1
  have a2 : xa_openValue u r.length = x := hc.2.2.2.2.2.2.2.1.2.1
  have a3 : xa_openLeft u r.length = nI l := hc.2.2.2.2.2.2.2.1.2.2.1
  have hmo : xa_opens u = nI (r.length + 1) := hc.2.2.2.2.2.2.1
  have hen : xa_ended u < nI o := (zn_lt hc.2.1 (nI_toInt (n := o) (by omega))).mpr heo
  match l, hleft, a3, hl24, h, hop, hm with
  | 0, hleft, a3, hl24, h, hop, hm =>
    have R2 : rn_ L N K n tk fr en sp rem cnt (fun _ => sp) P r (xs_opens u (nI r.length)) v := by
      have := R_pop (op := nI r.length) h rfl (of_Yr (s := o)) (Or.inr (by rw [yV_self]; exact ⟨fun _ => hleft, fun z => absurd z (by show ¬ K o = 11; omega)⟩))
      rw [yV_self] at this
      exact this
    refine Or.inl ⟨xs_opens u (nI r.length), mu_ L fr en sp rem r, by have := mu_pop (L := L) (fr := fr) (en := en) (sp := sp) (rem := rem) (e0 := (o, x, 0)) (r := r); omega, Or.inl ⟨v, fr, en, sp, rem, P, r, (o : Int) - 1, R2, ht, ⟨by omega, by omega, by omega, fun e he => by have := hlt e he; omega⟩, Nat.le_refl _, fun post y hy hp => hY post ?_⟩, fun post hp => ?_⟩
    · refine yL_asked (r := 2) hSt hN hoN (fun Q hq => ya_in ho8 hky (by omega) (fun z => absurd z (by omega)) (fun _ => br_t hleft hq) (fun z => absurd z (by omega)) (fun z => absurd z (by omega)) (fun z => absurd z (by omega)) (fun z => absurd z (by omega)) (fun _ => hq)) (Or.inr (Or.inl ⟨rfl, ?_⟩))
      have e : y = nI o - 1 := by
        apply Int32.toInt_inj.mp
        rw [hy, zn_sub1 (nI_toInt (by omega)) (by omega)]
      rw [← e]
      exact hp
    · exact xL_more0 hst0 hmo (by omega) a1 hen (fun Q hq => mo_in67 hmo (by omega) a1 ho8 a2 hkx (Or.inl rfl) (mo_67e (by omega) a3 hmo hq)) hp
  | j + 1, hleft, a3, hl24, h, hop, hm =>
    have hnl : ¬ ya_left v o = 0 := by rw [hleft]; exact nI_ne0 (by omega) (by omega)
    obtain ⟨p1, p2⟩ := pay_iff h
    have hsp := hgl.1
    have h8v : vp_in (nI o) 8 := vp_in_nI ho8 (by omega)
    by_cases hL : sp = L
    · refine Or.inl ⟨xs_stopped u 1, 0, ?_, Or.inr (Or.inr ⟨ys_outcome v 9000000000000000001, ro_stop h, fun post hp => hY post ?_⟩), fun post hp => ?_⟩
      · have : 0 < mu_ L fr en sp rem ((o, x, j + 1) :: r) := by unfold mu_; rw [List.length_cons]; omega
        omega
      · exact yL_asked (r := 3) hSt hN hoN (fun Q hq => ya_in ho8 hky (by omega) (fun z => absurd z (by omega)) (fun _ => br_f hnl (yw_pay_no (p2.mpr hL) (br_t rfl hq))) (fun z => absurd z (by omega)) (fun z => absurd z (by omega)) (fun z => absurd z (by omega)) (fun z => absurd z (by omega)) (fun z => absurd (Or.inr (Or.inl rfl)) z)) (Or.inl ⟨rfl, hp⟩)
      · exact xL_more0 hst0 hmo (by omega) a1 hen (fun Q hq => mo_in67 hmo (by omega) a1 ho8 a2 hkx (Or.inl rfl) (mo_67n (by omega) a3 (by omega) (fun Q hq => xw_ps_no (p1.mpr hL) hq) hq)) hp
    · have hlt2 : sp < L := by omega
      have hx1 : ¬ xa_spent u = xa_limit u := fun e => hL (p1.mp e)
      have hy1 : ¬ ya_paid v = ya_limit v := fun e => hL (p2.mp e)
      obtain ⟨a, ha⟩ : ∃ a, a = xa_spent u + 1 := ⟨_, rfl⟩
      obtain ⟨c, hcc⟩ : ∃ c, c = upd (xa_applications u) o (xa_applications u o + 1) := ⟨_, rfl⟩
      have ha' : a = nI (sp + 1) := by rw [ha, hgl.2.1, nI_1]
      have hay : ya_paid v + 1 = a := by rw [ha', hgl.2.2.1, nI_1]
      have hap : ya_applied v = xa_applications u := hgl.2.2.2.2.2.1.2.1
      have hcy : upd (ya_applied v) o (ya_applied v o + 1) = c := by rw [hcc, hap]
      have hps : ∀ Q : Int32 → SX → Prop, Q 1 (xm_ps u a c) → wpX_payStage Q u (nI o) := fun Q hq =>
        xw_ps_ok (s := o) (nI_clamp (by omega)) h8v hx1 (by rw [← ha, ← hcc]; exact hq)
      obtain ⟨oL, hoL⟩ : ∃ oL, oL = upd (xa_openLeft (xm_ps u a c)) r.length (nI j) := ⟨_, rfl⟩
      obtain ⟨B, hB⟩ : ∃ B, B = upd (ya_left v) o (nI j) := ⟨_, rfl⟩
      obtain ⟨u3, hu3⟩ : ∃ u3, u3 = xs_openLeft (xm_ps u a c) oL := ⟨_, rfl⟩
      obtain ⟨v3, hv3⟩ : ∃ v3, v3 = yV_s (ym_pa v a c) B (ya_last v) (ya_place v) (ya_begun v) (ya_held v) (ya_keys v) (ya_holds v) := ⟨_, rfl⟩
      have R2 : rn_ L N K n tk fr en (sp + 1) rem cnt (fun _ => sp) P ((o, x, j) :: r) u3 v3 := by
        rw [hu3, hv3, ov_l]
        refine R_top (R_ps h hlt2 hoN ha' hcc) (by omega) (upd_same a2) hoL (of_Yl (v := ym_pa v a c) (of_iu hB)) ⟨hlast, fun _ => ?_, fun z => absurd (show K o = 11 from z) (by omega)⟩
        show B o = nI j
        rw [hB, pk_us]
      have t3 : rn_t fr en K v3 := t_cg ht (fun e he => ⟨by rw [hv3]; show B e = _; rw [hB]; exact pk_un (by omega), by rw [hv3]; rfl⟩)
      have hst3 := R2.2.2.1.2.2.2.1
      have FLo : FL_ L N K n tk fr en (sp + 1) rem cnt P ((o, x, j) :: r) (o + 1) (xs_out u3 x) (ys_v v3 x) := by
        refine ⟨R_mono (R_x2 (R_y2 R2)) (fun q => ?_) (fun q => bd_le _ _ _), t_cg t3 (fun e _ => ⟨rfl, rfl⟩), fun e he => ?_, by omega, by omega, by omega, by omega, rfl⟩
        · unfold bd_; split <;> omega
        · rcases List.mem_cons.mp he with z | z
          · rw [z]; exact Nat.lt_succ_self o
          · have := hlt e z; omega
      have XM : ∀ Q : Int32 → SX → Prop, xF_ (fun r w => (r = 0 → Q 0 w) ∧ (¬ r = 0 → Q 1 w)) (o + 1) (xs_out u3 x) → wpX_more Q u := fun Q hq => by
        refine mo_in67 hmo (by omega) a1 ho8 a2 hkx (Or.inl rfl) (mo_67y (k := 6) (by omega) ho8 a3 (by omega) hps a3 hoL hkx (Or.inl rfl) (fun z => absurd z (by omega)) (fun _ => ?_))
        rw [← hu3]
        exact mo_201y hst3 hq
      refine ST_flow (fw_all (N - (o + 1)) (o + 1) en (sp + 1) P ((o, x, j) :: r) (xs_out u3 x) (ys_v v3 x) (by omega) FLo) ?_ (fun _ _ => trivial) (fun post u' hX hp => ?_) (fun post u' hX hp => ?_) (fun post hp => hY post ?_)
      · have := be_step (L := L) (fr := fr) (sp := sp) (rem := rem) hlt2
        have := mu_ge (L := L) (fr := fr) (en := en) (sp := sp) (rem := rem) (stk := (o, x, j + 1) :: r)
        omega
      · exact xL_more1 hst0 hmo (by omega) a1 hen (fun Q hq => XM Q (hX _ (br_f (by decide) hq))) hp
      · exact xL_more0 hst0 hmo (by omega) a1 hen (fun Q hq => XM Q (hX _ (br_t rfl hq))) hp
      · refine yL_asked (r := 1) (w' := ys_v v3 x) hSt hN hoN (fun Q hq => ya_in ho8 hky (by omega) (fun z => absurd z (by omega)) (fun _ => br_f hnl (yw_pay_ok hy1 (br_f (by decide) ⟨h8v, h8v, fun a' ea => ⟨h8v, h8v, fun b' eb => ⟨h8v, fun z ez => ?_⟩⟩⟩))) (fun z => absurd z (by omega)) (fun z => absurd z (by omega)) (fun z => absurd z (by omega)) (fun z => absurd z (by omega)) (fun z => absurd (Or.inr (Or.inl rfl)) z)) (Or.inr (Or.inr (Or.inl ⟨rfl, by rw [nI_1]; exact hp⟩)))
        have ea' : a' = c := by rw [ea]; exact hcy
        have eb' : b' = B := by rw [eb, hB]; show upd (ya_left v) o (ya_left v o - 1) = _; rw [hleft, nI_pred]
        have ez' : z = x := by rw [ez]; exact hlast
        rw [ea', eb', ez', hay, y6_e, ← hv3]
        exact hq
end
end
section
/-! the top of the stack gives: kind 7 -/
theorem ps_ol (u : SX) (a : Int32) (c l : Nat → Int32) : xs_openLeft (xm_ps u a c) l = xm_ps (xs_openLeft u l) a c := by dsimp only [xs_openLeft, xm_ps]
theorem ov_v (u : SX) (b : Nat → Int32) : xs_openValue u b = xm_ov u b (xa_openLeft u) := rfl
theorem yV_la (v : SY) (A : Nat → Int32) : ys_last v A = yV_s v (ya_left v) A (ya_place v) (ya_begun v) (ya_held v) (ya_keys v) (ya_holds v) := rfl
theorem of_Yla {v : SY} {s : Nat} {A : Nat → Int32} (h : of_i s A (ya_last v)) : of_Y s v (ya_left v) A (ya_place v) (ya_begun v) (ya_held v) (ya_keys v) (ya_holds v) := ⟨of_ir _, h, of_ir _, of_ir _, of_yr _, of_yr _, of_ir _⟩
theorem ol_f {u : SX} {l : Nat → Int32} : xa_spent (xs_openLeft u l) = xa_spent u ∧ xa_applications (xs_openLeft u l) = xa_applications u ∧ xa_reads (xs_openLeft u l) = xa_reads u ∧ xa_element (xs_openLeft u l) = xa_element u ∧ xa_length (xs_openLeft u l) = xa_length u := ⟨rfl, rfl, rfl, rfl, rfl⟩
theorem y7_o (v : SY) (B : Nat → Int32) (oc : Int64) : ys_outcome (ys_left v B) oc = ys_left (ys_outcome v oc) B := by dsimp only [ys_outcome, ys_left]
section
variable {L N : Nat} {K : Nat → Nat} {n : Nat} {tk : Nat → Nat} {fr en : Int} {sp rem cnt m : Nat} {P : Nat → Nat} {r : List (Nat × Int32 × Nat)} {u : SX} {v : SY} {o l : Nat} {x : Int32} {W : (Int32 → SY → Prop) → Prop}
theorem ro_lf {B : Nat → Int32} (h : ro_ L N K n tk u v) : ro_ L N K n tk u (ys_left v B) := h
theorem ro_vv {a : Nat → Int32} (h : ro_ L N K n tk u v) : ro_ L N K n tk (xs_openValue u a) v := h
theorem more_7f {u2 : SX} {v2 : SY} {q : Nat} {z : Int32} {mu : Nat} {XVal : (Int32 → SX → Prop) → Prop} {YApp : (Int32 → SY → Prop) → Prop} (hX : ∀ Q : Int32 → SX → Prop, Q z u2 → XVal Q) (hro : ro_ L N K n tk u2 v2) (hY : ∀ Q : Int32 → SY → Prop, Q 0 v2 → YApp Q) (hml : vp_in (nI q) 8) (mu0 : 0 < mu) (hm : mu ≤ m)
    (hX0 : ∀ (post : Int32 → SX → Prop) (w : SX), (∀ Q : Int32 → SX → Prop, Q 0 w → XVal (fun r1 w => vp_in (nI q) 8 ∧ ∀ b : Nat → Int32, b = upd (xa_openValue w) q r1 → mo_201 Q (nI o) r1 (xs_openValue w b))) → xL_ post w → xL_ post u)
    (hY0 : ∀ post : Int32 → SY → Prop, (∀ Q : Int32 → SY → Prop, Q 3 v2 → YApp (fun r w => (r = 0 → Q 3 w) ∧ (¬ r = 0 → ∀ b : Nat → Int32, b = upd (ya_last w) o (ya_v w) → Q 1 (ys_last w b)))) → post 3 v2 → W post) : ST_ L N K n tk cnt m u W := by
  have hst1 : ¬ xa_stopped u2 = 0 := by rw [hro.2.2.2.1]; decide
  obtain ⟨oV, hoV⟩ : ∃ oV, oV = upd (xa_openValue u2) q z := ⟨_, rfl⟩
  exact Or.inl ⟨xs_openValue u2 oV, 0, by omega, Or.inr (Or.inr ⟨v2, ro_vv hro, fun post hp => hY0 post (fun Q hq => hY _ (br_t rfl hq)) hp⟩), fun post hp => hX0 post (xs_openValue u2 oV) (fun Q hq => hX _ ⟨hml, fun b eb => by rw [eb, ← hoV]; exact mo_201n hst1 hq⟩) hp⟩
theorem more_7 (h : rn_ L N K n tk fr en sp rem cnt (fun _ => sp) P ((o, x, l) :: r) u v) (ht : rn_t fr en K v) (heo : en < o) (hk : K o = 7) (hm : mu_ L fr en sp rem ((o, x, l) :: r) ≤ m) (hY : ∀ post : Int32 → SY → Prop, yL_ post (nI o) 2 1 v → W post) :
    ST_ L N K n tk cnt m u W := by
  have h8 := sk_len8 h
  simp only [List.length_cons] at h8
  have hc := h.2.2.2.1
  have hN := h.1.2.2.2.2.2.2.1
  have hSt := h.1.2.2.2.2.2.1
  have hgl := h.2.2.1
  have hst0 := hgl.2.2.2.1
  have hin := sk_in (e := (o, x, l)) ((o, x, l) :: r) hc.2.2.2.2.2.2.2.2 (List.mem_cons_self ..)
  have hfo : fr < o := hin.1
  have hoN : o < N := hin.2.1
  have hl24 : l ≤ 24 := hin.2.2.2
  have hlt := hc.2.2.2.2.2.2.2.2.2.2.2.2.1
  have hop := h.2.2.2.2.1.1 (o, x, l) (List.mem_cons_self ..) heo
  have hlast : ya_last v o = x := hop.1
  have hleft : ya_left v o = nI l := hop.2.1 (Or.inr hk)
  obtain ⟨ho8, hk16, hkx, hky⟩ := kk_y h hoN
  rw [hk] at hkx hky
  have a1 : xa_openStage u r.length = nI o := hc.2.2.2.2.2.2.2.1.1
  have a2 : xa_openValue u r.length = x := hc.2.2.2.2.2.2.2.1.2.1
  have a3 : xa_openLeft u r.length = nI l := hc.2.2.2.2.2.2.2.1.2.2.1
  have hmo : xa_opens u = nI (r.length + 1) := hc.2.2.2.2.2.2.1
  have hen : xa_ended u < nI o := (zn_lt hc.2.1 (nI_toInt (n := o) (by omega))).mpr heo
  match l, hleft, a3, hl24, h, hop, hm with
  | 0, hleft, a3, hl24, h, hop, hm =>
    have R2 : rn_ L N K n tk fr en sp rem cnt (fun _ => sp) P r (xs_opens u (nI r.length)) v := by
      have := R_pop (op := nI r.length) h rfl (of_Yr (s := o)) (Or.inr (by rw [yV_self]; exact ⟨fun _ => hleft, fun z => absurd z (by show ¬ K o = 11; omega)⟩))
      rw [yV_self] at this
      exact this
    refine Or.inl ⟨xs_opens u (nI r.length), mu_ L fr en sp rem r, by have := mu_pop (L := L) (fr := fr) (en := en) (sp := sp) (rem := rem) (e0 := (o, x, 0)) (r := r); omega, Or.inl ⟨v, fr, en, sp, rem, P, r, (o : Int) - 1, R2, ht, ⟨by omega, by omega, by omega, fun e he => by have := hlt e he; omega⟩, Nat.le_refl _, fun post y hy hp => hY post ?_⟩, fun post hp => ?_⟩
    · refine yL_asked (r := 2) hSt hN hoN (fun Q hq => ya_in ho8 hky (by omega) (fun z => absurd z (by omega)) (fun z => absurd z (by omega)) (fun _ => br_t hleft hq) (fun z => absurd z (by omega)) (fun z => absurd z (by omega)) (fun z => absurd z (by omega)) (fun _ => hq)) (Or.inr (Or.inl ⟨rfl, ?_⟩))
      have e : y = nI o - 1 := by
        apply Int32.toInt_inj.mp
        rw [hy, zn_sub1 (nI_toInt (by omega)) (by omega)]
      rw [← e]
      exact hp
    · exact xL_more0 hst0 hmo (by omega) a1 hen (fun Q hq => mo_in67 hmo (by omega) a1 ho8 a2 hkx (Or.inr rfl) (mo_67e (by omega) a3 hmo hq)) hp
  | j + 1, hleft, a3, hl24, h, hop, hm =>
    have hnl : ¬ ya_left v o = 0 := by rw [hleft]; exact nI_ne0 (by omega) (by omega)
    obtain ⟨p1, p2⟩ := pay_iff h
    have hsp := hgl.1
    have h8v : vp_in (nI o) 8 := vp_in_nI ho8 (by omega)
    obtain ⟨B, hB⟩ : ∃ B, B = upd (ya_left v) o (ya_left v o - 1) := ⟨_, rfl⟩
    have hB' : B = upd (ya_left v) o (nI j) := by rw [hB, hleft, nI_pred]
    have mu0 : 0 < mu_ L fr en sp rem ((o, x, j + 1) :: r) := by unfold mu_; rw [List.length_cons]; omega
    obtain ⟨v0, hv0⟩ : ∃ v0, v0 = ys_left v B := ⟨_, rfl⟩
    -- Y: up to its apply
    have YA : ∀ (Q : Int32 → SY → Prop), wpY_apply (fun r w => (r = 0 → Q 3 w) ∧ (¬ r = 0 → ∀ b : Nat → Int32, b = upd (ya_last w) o (ya_v w) → Q 1 (ys_last w b))) v0 (nI o) x 0 → wpY_asked Q v (nI o) := fun Q hq =>
      ya_in ho8 hky (by omega) (fun z => absurd z (by omega)) (fun z => absurd z (by omega)) (fun _ => br_f hnl (fun a ea => by rw [ea, ← hB, ← hv0, hlast]; exact hq)) (fun z => absurd z (by omega)) (fun z => absurd z (by omega)) (fun z => absurd z (by omega)) (fun z => absurd (Or.inr (Or.inr (Or.inl rfl))) z)
    obtain ⟨oL, hoL⟩ : ∃ oL, oL = upd (xa_openLeft u) r.length (nI j) := ⟨_, rfl⟩
    obtain ⟨u0, hu0⟩ : ∃ u0, u0 = xs_openLeft u oL := ⟨_, rfl⟩
    have e_sp : xa_spent u0 = xa_spent u := by rw [hu0]; exact ol_f.1
    have e_ap : xa_applications u0 = xa_applications u := by rw [hu0]; exact ol_f.2.1
    have R0 : rn_ L N K n tk fr en sp rem cnt (fun _ => sp) P ((o, x, j) :: r) u0 v0 := by
      rw [hu0, hv0, ov_l, yV_le]
      refine R_top h (by omega) (upd_same a2) hoL (of_Yl (of_iu hB)) ⟨hlast, fun _ => ?_, fun z => absurd (show K o = 11 from z) (by omega)⟩
      show B o = nI j
      rw [hB', pk_us]
    have tB : ∀ e : Nat, (e : Int) = en → B e = ya_left v e := fun e he => by rw [hB]; exact pk_un (by omega)
    have t0 : rn_t fr en K v0 := t_cg ht (fun e he => by rw [hv0]; exact ⟨tB e he, rfl⟩)
    have hps0 : ∀ (a : Int32) (c : Nat → Int32), xs_openLeft (xm_ps u a c) oL = xm_ps u0 a c := fun a c => by rw [ps_ol, ← hu0]
    have ho0 : ys_outcome v0 9000000000000000001 = ys_left (ys_outcome v 9000000000000000001) B := by rw [hv0, y7_o]
    clear hu0 hv0
    rcases ap_lock2 R0 hoN (by rw [hk]; unfold rl_hx; omega) x 0 with ⟨hL, X, Y⟩ | ⟨a, c, hlt2, ⟨ha, hcc⟩, X, CC⟩
    · refine Or.inl ⟨xs_stopped u 1, 0, by omega, Or.inr (Or.inr ⟨ys_left (ys_outcome v 9000000000000000001) B, ro_lf (ro_stop h), fun post hp => hY post ?_⟩), fun post hp => ?_⟩
      · refine yL_asked (r := 3) hSt hN hoN (fun Q hq => YA Q (Y _ (br_t rfl ?_))) (Or.inl ⟨rfl, hp⟩)
        rw [ho0]
        exact hq
      · exact xL_more0 hst0 hmo (by omega) a1 hen (fun Q hq => mo_in67 hmo (by omega) a1 ho8 a2 hkx (Or.inr rfl) (mo_67n (by omega) a3 (by omega) (fun Q hq => xw_ps_no (p1.mpr hL) hq) hq)) hp
    · rw [e_sp] at ha
      rw [e_ap] at hcc
      have hx1 : ¬ xa_spent u = xa_limit u := fun e => by have := p1.mp e; omega
      have hps : ∀ Q : Int32 → SX → Prop, Q 1 (xm_ps u a c) → wpX_payStage Q u (nI o) := fun Q hq =>
        xw_ps_ok (s := o) (nI_clamp (by omega)) h8v hx1 (by rw [← ha, ← hcc]; exact hq)
      have XM : ∀ Q : Int32 → SX → Prop, wpX_value (fun r1 w => vp_in (nI r.length) 8 ∧ ∀ b : Nat → Int32, b = upd (xa_openValue w) r.length r1 → mo_201 Q (nI o) r1 (xs_openValue w b)) (xm_ps u0 a c) (nI o) x 0 → wpX_more Q u := fun Q hq => by
        refine mo_in67 hmo (by omega) a1 ho8 a2 hkx (Or.inr rfl) (mo_67y (k := 7) (by omega) ho8 a3 (by omega) hps a3 hoL hkx (Or.inr rfl) (fun _ => ?_) (fun z => absurd z (by omega)))
        rw [hps0]
        exact hq
      have hml : vp_in (nI r.length) 8 := vp_in_nI (by omega) (by omega)
      have hX0 : ∀ (post : Int32 → SX → Prop) (w : SX), (∀ Q : Int32 → SX → Prop, Q 0 w → wpX_value (fun r1 w => vp_in (nI r.length) 8 ∧ ∀ b : Nat → Int32, b = upd (xa_openValue w) r.length r1 → mo_201 Q (nI o) r1 (xs_openValue w b)) (xm_ps u0 a c) (nI o) x 0) → xL_ post w → xL_ post u := fun post w hh hp =>
        xL_more0 hst0 hmo (by omega) a1 hen (fun Q hq => XM Q (hh Q hq)) hp
      have hY0 : ∀ (v2 : SY) (post : Int32 → SY → Prop), (∀ Q : Int32 → SY → Prop, Q 3 v2 → wpY_apply (fun r w => (r = 0 → Q 3 w) ∧ (¬ r = 0 → ∀ b : Nat → Int32, b = upd (ya_last w) o (ya_v w) → Q 1 (ys_last w b))) v0 (nI o) x 0) → post 3 v2 → W post := fun v2 post hh hp =>
        hY post (yL_asked (r := 3) hSt hN hoN (fun Q hq => YA Q (hh Q hq)) (Or.inl ⟨rfl, hp⟩))
      rcases CC with ⟨z, p, vt, ot, va, oa, XV, Y, R'⟩ | ⟨z, p, r0, vt, ot, va, oa, XV, Y, ro⟩
      · have ht2 : rn_t fr en K (yq_m v0 a c vt ot 0 va oa z) := t_cg t0 (fun e _ => ⟨rfl, rfl⟩)
        have hvz : ya_v (yq_m v0 a c vt ot 0 va oa z) = z := yk_q.2.1
        generalize hu2 : xs_operand (xm_ps u0 a c) p = u2 at *
        generalize hv2 : yq_m v0 a c vt ot 0 va oa z = v2 at *
        clear hu2 hv2
        obtain ⟨oV, hoV⟩ : ∃ oV, oV = upd (xa_openValue u2) r.length z := ⟨_, rfl⟩
        obtain ⟨A, hA⟩ : ∃ A, A = upd (ya_last v2) o (ya_v v2) := ⟨_, rfl⟩
        have hop2 := R'.2.2.2.2.1.1 (o, x, j) (List.mem_cons_self ..) heo
        have a32 : xa_openLeft u2 r.length = nI j := R'.2.2.2.1.2.2.2.2.2.2.2.1.2.2.1
        obtain ⟨u3, hu3⟩ : ∃ u3, u3 = xs_openValue u2 oV := ⟨_, rfl⟩
        obtain ⟨v3, hv3⟩ : ∃ v3, v3 = ys_last v2 A := ⟨_, rfl⟩
        have R2 : rn_ L N K n tk fr en (sp + 1) rem cnt (fun _ => sp) P ((o, z, j) :: r) u3 v3 := by
          rw [hu3, hv3, ov_v, yV_la]
          refine R_top R' (by omega) hoV (upd_same a32) (of_Yla (of_iu hA)) ⟨?_, fun _ => show ya_left v2 o = nI j from hop2.2.1 (Or.inr hk), fun z => absurd (show K o = 11 from z) (by omega)⟩
          show A o = z
          rw [hA, pk_us, hvz]
        have t3 : rn_t fr en K v3 := t_cg ht2 (fun e he => by rw [hv3]; exact ⟨rfl, rfl⟩)
        have hst3 := R2.2.2.1.2.2.2.1
        have hv3v : ya_v v3 = z := by rw [hv3]; exact hvz
        have FLo : FL_ L N K n tk fr en (sp + 1) rem cnt P ((o, z, j) :: r) (o + 1) (xs_out u3 z) v3 := by
          refine ⟨R_mono (R_x2 R2) (fun q => ?_) (fun q => bd_le _ _ _), t3, fun e he => ?_, by omega, by omega, by omega, by omega, ?_⟩
          · unfold bd_; split <;> omega
          · rcases List.mem_cons.mp he with z | z
            · rw [z]; exact Nat.lt_succ_self o
            · have := hlt e z; omega
          · rw [hv3v]; rfl
        have XM2 : ∀ Q : Int32 → SX → Prop, xF_ (fun r w => (r = 0 → Q 0 w) ∧ (¬ r = 0 → Q 1 w)) (o + 1) (xs_out u3 z) → wpX_more Q u := fun Q hq =>
          XM Q (XV _ ⟨hml, fun b eb => by rw [eb, ← hoV, ← hu3]; exact mo_201y hst3 hq⟩)
        refine ST_flow (fw_all (N - (o + 1)) (o + 1) en (sp + 1) P ((o, z, j) :: r) (xs_out u3 z) v3 (by omega) FLo) ?_ (fun _ _ => trivial) (fun post u' hX hp => ?_) (fun post u' hX hp => ?_) (fun post hp => hY post ?_)
        · have := be_step (L := L) (fr := fr) (sp := sp) (rem := rem) hlt2
          have := mu_ge (L := L) (fr := fr) (en := en) (sp := sp) (rem := rem) (stk := (o, x, j + 1) :: r)
          omega
        · exact xL_more1 hst0 hmo (by omega) a1 hen (fun Q hq => XM2 Q (hX _ (br_f (by decide) hq))) hp
        · exact xL_more0 hst0 hmo (by omega) a1 hen (fun Q hq => XM2 Q (hX _ (br_t rfl hq))) hp
        · exact yL_asked (r := 1) (w' := v3) hSt hN hoN (fun Q hq => YA Q (Y _ (br_f (by decide) (fun b eb => by rw [eb, ← hA, ← hv3]; exact hq)))) (Or.inr (Or.inr (Or.inl ⟨rfl, by rw [nI_1]; exact hp⟩)))
      · exact more_7f XV ro Y hml mu0 hm hX0 (hY0 _)
end
end
section
/-! the top of the stack gives: kind 11 -/
def ym_pb (u : SY) (z_place : Nat → Int32) (z_begun : Nat → Int32) : SY := (u.1, u.2.1, u.2.2.1, u.2.2.2.1, u.2.2.2.2.1, u.2.2.2.2.2.1, u.2.2.2.2.2.2.1, u.2.2.2.2.2.2.2.1, u.2.2.2.2.2.2.2.2.1, u.2.2.2.2.2.2.2.2.2.1, u.2.2.2.2.2.2.2.2.2.2.1, u.2.2.2.2.2.2.2.2.2.2.2.1, u.2.2.2.2.2.2.2.2.2.2.2.2.1, u.2.2.2.2.2.2.2.2.2.2.2.2.2.1, u.2.2.2.2.2.2.2.2.2.2.2.2.2.2.1, u.2.2.2.2.2.2.2.2.2.2.2.2.2.2.2.1, u.2.2.2.2.2.2.2.2.2.2.2.2.2.2.2.2.1, u.2.2.2.2.2.2.2.2.2.2.2.2.2.2.2.2.2.1, u.2.2.2.2.2.2.2.2.2.2.2.2.2.2.2.2.2.2.1, u.2.2.2.2.2.2.2.2.2.2.2.2.2.2.2.2.2.2.2.1, u.2.2.2.2.2.2.2.2.2.2.2.2.2.2.2.2.2.2.2.2.1, u.2.2.2.2.2.2.2.2.2.2.2.2.2.2.2.2.2.2.2.2.2.1, z_place, z_begun, u.2.2.2.2.2.2.2.2.2.2.2.2.2.2.2.2.2.2.2.2.2.2.2.2)
theorem bx_3 (x y : Int32) : ((x ^^^ y) &&& 3 = 0) ↔ (y &&& 3) = (x &&& 3) := by
  have h : (x ^^^ y) &&& 3 = (x &&& 3) ^^^ (y &&& 3) := by
    apply Int32.toBitVec_inj.mp
    simp only [Int32.toBitVec_and, Int32.toBitVec_xor]
    ext i hi
    simp only [BitVec.getElem_and, BitVec.getElem_xor]
    cases x.toBitVec[i] <;> cases y.toBitVec[i] <;> cases (Int32.toBitVec 3)[i] <;> rfl
  rw [h, Int32.xor_eq_zero_iff]
  exact eq_comm
theorem pr_ol (u : SX) (a : Int32) (d l : Nat → Int32) : xs_openLeft (xm_pr u a d) l = xm_pr (xs_openLeft u l) a d := by dsimp only [xs_openLeft, xm_pr]
theorem yV_pb (v : SY) (A B : Nat → Int32) : ym_pb v A B = yV_s v (ya_left v) (ya_last v) A B (ya_held v) (ya_keys v) (ya_holds v) := rfl
theorem pb_e (v : SY) (A B : Nat → Int32) : ys_begun (ys_place v A) B = ym_pb v A B := rfl
theorem of_Ypb {v : SY} {s : Nat} {A B : Nat → Int32} (h1 : of_i s A (ya_place v)) (h2 : of_i s B (ya_begun v)) : of_Y s v (ya_left v) (ya_last v) A B (ya_held v) (ya_keys v) (ya_holds v) := ⟨of_ir _, of_ir _, h1, h2, of_yr _, of_yr _, of_ir _⟩
theorem yp_o (v : SY) (B : Nat → Int32) (oc : Int64) : ys_outcome (ys_place v B) oc = ys_place (ys_outcome v oc) B := by dsimp only [ys_outcome, ys_place]
def yM_ (Q : Int32 → SY → Prop) (s c : Int32) (w : SY) : Prop := ∃ f, wY_match_7 Q s c f (ya_limit w) (ya_source w) (ya_stages w) (ya_wrongAt w) (ya_paid w) (ya_at w) (ya_seenCount w) (ya_failedAt w) (ya_v w) (ya_valTop w) (ya_opTop w) (ya_ran w) (ya_broken w) (ya_outcome w) (ya_lists w) (ya_sizes w) (ya_tokens w) (ya_counts w) (ya_kinds w) (ya_numbers w) (ya_left w) (ya_last w) (ya_place w) (ya_begun w) (ya_held w) (ya_keys w) (ya_holds w) (ya_applied w) (ya_reads w) (ya_seen w) (ya_vals w) (ya_ops w)
def yM_p (Q : Int32 → SY → Prop) (f s c : Nat) (r : Int32) (w : SY) : Prop :=
  (r = 3 → Q 3 w) ∧ (¬ r = 3 → ((r = 0 → (vp_in (nI s) 8 ∧ ∀ b : Nat → Int32, b = upd (ya_begun w) s (vp_nar .boolean 0) → Q 2 (ys_begun w b))) ∧
    (¬ r = 0 → (vp_in (nI s) 8 ∧ ((ya_v w &&& 3 = ya_last w s &&& 3 → (vp_in (nI s) 8 ∧ ∀ z : Int32, z = ya_v w + ya_last w s → Q 1 (ys_v w z))) ∧ (¬ ya_v w &&& 3 = ya_last w s &&& 3 → wY_match_7 Q (nI s) (nI c) f (ya_limit w) (ya_source w) (ya_stages w) (ya_wrongAt w) (ya_paid w) (ya_at w) (ya_seenCount w) (ya_failedAt w) (ya_v w) (ya_valTop w) (ya_opTop w) (ya_ran w) (ya_broken w) (ya_outcome w) (ya_lists w) (ya_sizes w) (ya_tokens w) (ya_counts w) (ya_kinds w) (ya_numbers w) (ya_left w) (ya_last w) (ya_place w) (ya_begun w) (ya_held w) (ya_keys w) (ya_holds w) (ya_applied w) (ya_reads w) (ya_seen w) (ya_vals w) (ya_ops w)))))))
section
variable {Q : Int32 → SY → Prop} {w w1 : SY} {s c l q : Nat} {A B : Nat → Int32} {z : Int32}
theorem yM_in {f : Nat} (hs : s < 8) (hl : ya_place w s = nI l) (hA : A = upd (ya_place w) s (nI (l + 1))) (h : wpY_fetch (yM_p Q f s c) (ys_place w A) (nI c) (nI l)) : yM_ Q (nI s) (nI c) w := by
  have e : (nI s).toNatClampNeg = s := nI_clamp (by omega)
  have h8 : vp_in (nI s) 8 := vp_in_nI hs (by omega)
  refine ⟨f + 1, And.intro h8 (And.intro h8 (fun a ea => ?_))⟩
  rw [e, hl, nI_1, ← hA] at ea
  rw [e, hl, ea]
  exact h
theorem yM_end (hs : s < 8) (hc : c < 3) (hl : ya_place w s = nI l) (hA : A = upd (ya_place w) s (nI (l + 1))) (hq : ya_sizes w c = nI q) (hl31 : l < 1000) (h : q ≤ l) (hB : B = upd (ya_begun w) s 0) (hp : Q 2 (ym_pb w A B)) : yM_ Q (nI s) (nI c) w := by
  have h8 : vp_in (nI s) 8 := vp_in_nI hs (by omega)
  refine yM_in (f := 0) hs hl hA (yw_fetch_end (l := c) (nI_clamp (by omega)) (vp_in_nI hc (by omega)) ?_ ?_)
  · show ¬ nI l < ya_sizes w c
    rw [hq]
    exact nI_nlt h (by omega)
  · refine br_f (by decide) (br_t rfl (And.intro h8 (fun b eb => ?_)))
    rw [zn_b0] at eb
    have eb' : b = B := by rw [hB]; exact eb
    rw [eb', pb_e]
    exact hp
theorem yM_no (hs : s < 8) (hl : ya_place w s = nI l) (hA : A = upd (ya_place w) s (nI (l + 1))) (h : ∀ Q : Int32 → SY → Prop, Q 3 w1 → wpY_fetch Q (ys_place w A) (nI c) (nI l)) (hp : Q 3 w1) : yM_ Q (nI s) (nI c) w :=
  yM_in (f := 0) hs hl hA (h _ (br_t rfl hp))
theorem yM_hit (hs : s < 8) (hl : ya_place w s = nI l) (hA : A = upd (ya_place w) s (nI (l + 1))) (h : ∀ Q : Int32 → SY → Prop, Q 1 w1 → wpY_fetch Q (ys_place w A) (nI c) (nI l)) (hm : ya_v w1 &&& 3 = ya_last w1 s &&& 3) (hz : ya_v w1 + ya_last w1 s = z) (hp : Q 1 (ys_v w1 z)) : yM_ Q (nI s) (nI c) w := by
  have h8 : vp_in (nI s) 8 := vp_in_nI hs (by omega)
  exact yM_in (f := 0) hs hl hA (h _ (br_f (by decide) (br_f (by decide) (And.intro h8 (br_t hm (And.intro h8 (fun y ey => by rw [ey, hz]; exact hp)))))))
theorem yM_miss (hs : s < 8) (hl : ya_place w s = nI l) (hA : A = upd (ya_place w) s (nI (l + 1))) (h : ∀ Q : Int32 → SY → Prop, Q 1 w1 → wpY_fetch Q (ys_place w A) (nI c) (nI l)) (hm : ¬ ya_v w1 &&& 3 = ya_last w1 s &&& 3) (hp : yM_ Q (nI s) (nI c) w1) : yM_ Q (nI s) (nI c) w := by
  have h8 : vp_in (nI s) 8 := vp_in_nI hs (by omega)
  obtain ⟨f, hf⟩ := hp
  exact yM_in (f := f) hs hl hA (h _ (br_f (by decide) (br_f (by decide) (And.intro h8 (br_f hm hf)))))
theorem yM_m (hs : s < 8) (hc : ya_numbers w s = nI c) (h : yM_ Q (nI s) (nI c) w) : wpY_match Q w (nI s) := by
  have e : (nI s).toNatClampNeg = s := nI_clamp (by omega)
  refine And.intro (vp_in_nI hs (by omega)) ?_
  rw [e]
  exact nm_r hc h
theorem yM_of (hs : s < 8) (hc : ya_numbers w s = nI c) (h : wpY_match Q w (nI s)) : yM_ Q (nI s) (nI c) w := by
  have e : (nI s).toNatClampNeg = s := nI_clamp (by omega)
  have h2 := And.right h
  rw [e] at h2
  exact h2 (nI c) hc.symm
end
section
variable {L N : Nat} {K : Nat → Nat} {n : Nat} {tk : Nat → Nat} {fr en : Int} {sp rem cnt m : Nat} {P : Nat → Nat} {r : List (Nat × Int32 × Nat)} {u : SX} {v : SY} {o l : Nat} {x : Int32} {W : (Int32 → SY → Prop) → Prop}
theorem ro_pla {B : Nat → Int32} (h : ro_ L N K n tk u v) : ro_ L N K n tk u (ys_place v B) := h
theorem more_11 (h : rn_ L N K n tk fr en sp rem cnt (fun _ => sp) P ((o, x, l) :: r) u v) (ht : rn_t fr en K v) (heo : en < o) (hk : K o = 11) (hm : mu_ L fr en sp rem ((o, x, l) :: r) ≤ m) (hY : ∀ post : Int32 → SY → Prop, yL_ post (nI o) 2 1 v → W post) :
    ST_ L N K n tk cnt m u W := by
  have h8 := sk_len8 h
  have h8' := h8
  simp only [List.length_cons] at h8
  have hc := h.2.2.2.1
  have hN := h.1.2.2.2.2.2.2.1
  have hSt := h.1.2.2.2.2.2.1
  have hgl := h.2.2.1
  have hst0 := hgl.2.2.2.1
  have hin := sk_in (e := (o, x, l)) ((o, x, l) :: r) hc.2.2.2.2.2.2.2.2 (List.mem_cons_self ..)
  have hfo : fr < o := hin.1
  have hoN : o < N := hin.2.1
  have hl24 : l ≤ 24 := hin.2.2.2
  have hlt := hc.2.2.2.2.2.2.2.2.2.2.2.2.1
  have hop := h.2.2.2.2.1.1 (o, x, l) (List.mem_cons_self ..) heo
  have hlast : ya_last v o = x := hop.1
  have hbeg : ya_begun v o = 1 := (hop.2.2 hk).1
  have hpla : ya_place v o = nI l := (hop.2.2 hk).2
  obtain ⟨ho8, hk16, hkx, hky⟩ := kk_y h hoN
  rw [hk] at hkx hky
  have a1 : xa_openStage u r.length = nI o := hc.2.2.2.2.2.2.2.1.1
  have a2 : xa_openValue u r.length = x := hc.2.2.2.2.2.2.2.1.2.1
  have a3 : xa_openLeft u r.length = nI l := hc.2.2.2.2.2.2.2.1.2.2.1
  have hmo : xa_opens u = nI (r.length + 1) := hc.2.2.2.2.2.2.1
  have hen : xa_ended u < nI o := (zn_lt hc.2.1 (nI_toInt (n := o) (by omega))).mpr heo
  obtain ⟨c, c1, c2⟩ := (h.1.2.2.2.2.2.2.2.2.2.2.2.2.2 o hoN).2.2.2.1 (Or.inr (Or.inr hk))
  obtain ⟨q, q1, q2⟩ := h.1.2.2.2.2.2.2.2.2.2.2.1 c c1
  have hsz : ya_sizes v c = nI q := by rw [h.1.2.2.2.2.2.2.2.2.2.1]; exact q2
  have hns : ya_numbers v o = nI c := by rw [h.1.2.2.2.2.2.2.2.2.2.2.2.2.1]; exact c2
  have hbn : ¬ ya_begun v o = 0 := by rw [hbeg]; decide
  obtain ⟨A, hA⟩ : ∃ A, A = upd (ya_place v) o (nI (l + 1)) := ⟨_, rfl⟩
  have mu0 : 0 < mu_ L fr en sp rem ((o, x, l) :: r) := by unfold mu_; rw [List.length_cons]; omega
  have YA : ∀ Q : Int32 → SY → Prop, yM_ Q (nI o) (nI c) v → wpY_asked Q v (nI o) := fun Q hq =>
    ya_in ho8 hky (by omega) (fun z => absurd z (by omega)) (fun z => absurd z (by omega)) (fun z => absurd z (by omega)) (fun z => absurd z (by omega)) (fun _ => br_f hbn (yM_m ho8 hns hq)) (fun z => absurd z (by omega)) (fun z => absurd (Or.inr (Or.inr (Or.inr (Or.inr (Or.inl rfl))))) z)
  by_cases hq : q ≤ l
  · obtain ⟨B, hB⟩ : ∃ B, B = upd (ya_begun v) o 0 := ⟨_, rfl⟩
    have R2 : rn_ L N K n tk fr en sp rem cnt (fun _ => sp) P r (xs_opens u (nI r.length)) (ym_pb v A B) := by
      rw [yV_pb]
      refine R_pop h rfl (of_Ypb (of_iu hA) (of_iu hB)) (Or.inr ⟨fun z => absurd (show K o = 6 ∨ K o = 7 from z) (by omega), fun _ => ?_⟩)
      show B o = 0
      rw [hB, pk_us]
    refine Or.inl ⟨xs_opens u (nI r.length), mu_ L fr en sp rem r, by have := mu_pop (L := L) (fr := fr) (en := en) (sp := sp) (rem := rem) (e0 := (o, x, l)) (r := r); omega, Or.inl ⟨ym_pb v A B, fr, en, sp, rem, P, r, (o : Int) - 1, R2, t_cg ht (fun e _ => ⟨rfl, rfl⟩), ⟨by omega, by omega, by omega, fun e he => by have := hlt e he; omega⟩, Nat.le_refl _, fun post y hy hp => hY post ?_⟩, fun post hp => ?_⟩
    · refine yL_asked (r := 2) (w' := ym_pb v A B) hSt hN hoN (fun Q hq' => YA Q (yM_end ho8 c1 hpla hA hsz (by omega) hq hB hq')) (Or.inr (Or.inl ⟨rfl, ?_⟩))
      have e : y = nI o - 1 := by
        apply Int32.toInt_inj.mp
        rw [hy, zn_sub1 (nI_toInt (by omega)) (by omega)]
      rw [← e]
      exact hp
    · exact xL_more0 hst0 hmo (by omega) a1 hen (fun Q hq' => mo_in11 hmo (by omega) a1 ho8 a2 hkx c2 (mo_11e (by omega) c1 a3 q2 (by omega) hq hmo hq')) hp
  · have hlq : l < q := by omega
    obtain ⟨p1, p2⟩ := pay_iff h
    obtain ⟨oL, hoL⟩ : ∃ oL, oL = upd (xa_openLeft u) r.length (nI (l + 1)) := ⟨_, rfl⟩
    obtain ⟨u0, hu0⟩ : ∃ u0, u0 = xs_openLeft u oL := ⟨_, rfl⟩
    obtain ⟨v0, hv0⟩ : ∃ v0, v0 = ys_place v A := ⟨_, rfl⟩
    have e_sp : xa_spent u0 = xa_spent u := by rw [hu0]; exact ol_f.1
    have e_rd : xa_reads u0 = xa_reads u := by rw [hu0]; exact ol_f.2.2.1
    have e_el : xa_element u0 = xa_element u := by rw [hu0]; exact ol_f.2.2.2.1
    have e_le : xa_length u0 c = nI q := by rw [hu0, ol_f.2.2.2.2]; exact q2
    have e_nu : ya_numbers v0 o = nI c := by rw [hv0]; exact hns
    have R0 : rn_ L N K n tk fr en sp rem cnt (fun _ => sp) P ((o, x, l + 1) :: r) u0 v0 := by
      rw [hu0, hv0, ov_l, yV_pl]
      refine R_top h (by omega) (upd_same a2) hoL (of_Yp (of_iu hA)) ⟨hlast, fun z => absurd (show K o = 6 ∨ K o = 7 from z) (by omega), fun _ => ⟨hbeg, ?_⟩⟩
      show A o = nI (l + 1)
      rw [hA, pk_us]
    have t0 : rn_t fr en K v0 := t_cg ht (fun e he => by rw [hv0]; exact ⟨rfl, rfl⟩)
    have hpr0 : ∀ (a : Int32) (d : Nat → Int32), xs_openLeft (xm_pr u a d) oL = xm_pr u0 a d := fun a d => by rw [pr_ol, ← hu0]
    have ho0 : ys_outcome v0 9000000000000000001 = ys_place (ys_outcome v 9000000000000000001) A := by rw [hv0, yp_o]
    have YF : ∀ (w1 : SY) (b : Int32), (∀ Q : Int32 → SY → Prop, Q b w1 → wpY_fetch Q v0 (nI c) (nI l)) → ∀ Q : Int32 → SY → Prop, Q b w1 → wpY_fetch Q (ys_place v A) (nI c) (nI l) := fun w1 b hh => by rw [← hv0]; exact hh
    clear hu0 hv0
    rcases rd_lock2 R0 c1 e_le q1 hlq with ⟨hL, X, Y⟩ | ⟨a, d, hlt2, ⟨ha, hd⟩, X, Y, R'⟩
    · refine Or.inl ⟨xs_stopped u 1, 0, by omega, Or.inr (Or.inr ⟨ys_place (ys_outcome v 9000000000000000001) A, ro_pla (ro_stop h), fun post hp => hY post ?_⟩), fun post hp => ?_⟩
      · refine yL_asked (r := 3) hSt hN hoN (fun Q hq' => YA Q (yM_no ho8 hpla hA (YF _ _ Y) ?_)) (Or.inl ⟨rfl, hp⟩)
        rw [ho0]
        exact hq'
      · exact xL_more0 hst0 hmo (by omega) a1 hen (fun Q hq' => mo_in11 hmo (by omega) a1 ho8 a2 hkx c2 (mo_11n (by omega) c1 a3 q2 q1 hlq (fun Q hq => xw_pr_no (p1.mpr hL) hq) hq')) hp
    · rw [e_sp] at ha
      rw [e_rd] at hd
      rw [e_el] at Y R'
      have hx1 : ¬ xa_spent u = xa_limit u := fun e => by have := p1.mp e; omega
      have hpr : ∀ Q : Int32 → SX → Prop, Q 1 (xm_pr u a d) → wpX_payRead Q u (nI c) := fun Q hq =>
        xw_pr_ok (s := c) (nI_clamp (by omega)) (vp_in_nI c1 (by omega)) hx1 (by rw [← ha, ← hd]; exact hq)
      obtain ⟨y, hy⟩ : ∃ y, y = xa_element u (24 * c + l) := ⟨_, rfl⟩
      rw [← hy] at Y R'
      have XM : ∀ Q : Int32 → SX → Prop, ((x ^^^ y) &&& 3 = 0 → xF_ (fun r w => (r = 0 → Q 0 w) ∧ (¬ r = 0 → Q 1 w)) (o + 1) (xs_out (xm_pr u0 a d) (x + y))) → (¬ (x ^^^ y) &&& 3 = 0 → Q 0 (xm_pr u0 a d)) → wpX_more Q u := fun Q h1 h2 => by
        rw [← hpr0] at h1 h2
        exact mo_in11 hmo (by omega) a1 ho8 a2 hkx c2 (mo_11y (by omega) c1 a3 q2 q1 hlq hpr a3 hoL hy.symm h1 h2)
      have ht2 : rn_t fr en K (ym_ft v0 a y d) := t_cg t0 (fun e _ => ⟨rfl, rfl⟩)
      have hvy : ya_v (ym_ft v0 a y d) = y := rfl
      have hns2 : ya_numbers (ym_ft v0 a y d) o = nI c := e_nu
      generalize hu2 : xm_pr u0 a d = u2 at *
      generalize hv2 : ym_ft v0 a y d = v2 at *
      clear hu2 hv2
      have hop2 := R'.2.2.2.2.1.1 (o, x, l + 1) (List.mem_cons_self ..) heo
      have hlast2 : ya_last v2 o = x := hop2.1
      have hstk : ∀ e, e ∈ (o, x, l + 1) :: r → e.1 ≤ o := fun e he => by
        rcases List.mem_cons.mp he with z | z
        · rw [z]; exact Nat.le_refl o
        · have := hlt e z; omega
      have bstep := be_step (L := L) (fr := fr) (sp := sp) (rem := rem) hlt2
      have bge := mu_ge (L := L) (fr := fr) (en := en) (sp := sp) (rem := rem) (stk := (o, x, l) :: r)
      by_cases hmt : (x ^^^ y) &&& 3 = 0
      · have hmy : ya_v v2 &&& 3 = ya_last v2 o &&& 3 := by rw [hvy, hlast2]; exact (bx_3 x y).mp hmt
        have hz : ya_v v2 + ya_last v2 o = x + y := by rw [hvy, hlast2]; exact Int32.add_comm y x
        have FLo : FL_ L N K n tk fr en (sp + 1) rem cnt P ((o, x, l + 1) :: r) (o + 1) (xs_out u2 (x + y)) (ys_v v2 (x + y)) := by
          refine ⟨R_mono (R_x2 (R_y2 R')) (fun q => ?_) (fun q => bd_le _ _ _), t_cg ht2 (fun e _ => ⟨rfl, rfl⟩), fun e he => by have := hstk e he; omega, by omega, by omega, by omega, by omega, rfl⟩
          unfold bd_; split <;> omega
        refine ST_flow (fw_all (N - (o + 1)) (o + 1) en (sp + 1) P ((o, x, l + 1) :: r) (xs_out u2 (x + y)) (ys_v v2 (x + y)) (by omega) FLo) (by omega) (fun _ _ => trivial) (fun post u' hX hp => ?_) (fun post u' hX hp => ?_) (fun post hp => hY post ?_)
        · exact xL_more1 hst0 hmo (by omega) a1 hen (fun Q hq => XM Q (fun _ => hX _ (br_f (by decide) hq)) (fun z => absurd hmt z)) hp
        · exact xL_more0 hst0 hmo (by omega) a1 hen (fun Q hq => XM Q (fun _ => hX _ (br_t rfl hq)) (fun z => absurd hmt z)) hp
        · exact yL_asked (r := 1) (w' := ys_v v2 (x + y)) hSt hN hoN (fun Q hq => YA Q (yM_hit ho8 hpla hA (YF _ _ Y) hmy hz hq)) (Or.inr (Or.inr (Or.inl ⟨rfl, by rw [nI_1]; exact hp⟩)))
      · have hmy : ¬ ya_v v2 &&& 3 = ya_last v2 o &&& 3 := by rw [hvy, hlast2]; exact fun z => hmt ((bx_3 x y).mpr z)
        have hR8 := sk_len8 R'
        have hSt2 := R'.1.2.2.2.2.2.1
        obtain ⟨_, _, _, hky2⟩ := kk_y R' hoN
        rw [hk] at hky2
        have hbn2 : ¬ ya_begun v2 o = 0 := by rw [(hop2.2.2 hk).1]; decide
        refine Or.inl ⟨u2, mu_ L fr en (sp + 1) rem ((o, x, l + 1) :: r), ?_, Or.inl ⟨v2, fr, en, sp + 1, rem, P, (o, x, l + 1) :: r, (o : Int), R_mono R' (fun _ => by omega) (fun _ => Nat.le_refl _), ht2, ⟨by omega, by omega, by omega, fun e he => by have := hstk e he; omega⟩, Nat.le_refl _, fun post y' hy' hp => hY post ?_⟩, fun post hp => ?_⟩
        · have := mu_lt (L := L) (fr := fr) (en := en) (sp := sp + 1) (rem := rem) (stk := (o, x, l + 1) :: r) hR8 (Nat.le_refl _)
          omega
        · rw [zn_ti hy'] at hp
          obtain ⟨f, hf'⟩ := hp
          match f, hf' with
          | f + 1, hf' =>
          have hns' : ¬ ya_stages v2 ≤ nI o := by rw [hSt2]; exact nI_ge hoN (by omega)
          have hask := And.right (And.left (And.right hf' hns') (nI_pos' (by omega))) (show ¬ (1 : Int32) = 0 by decide)
          have hmm := yM_of ho8 hns2 (yk_ask11 (v := v2) ho8 hky2 hbn2 hask)
          exact ⟨f + 1, br_f (by rw [hSt]; exact nI_ge hoN (by omega)) (br_t (nI_pos' (by omega)) (br_f (by decide) (YA _ (yM_miss ho8 hpla hA (YF _ _ Y) hmy hmm))))⟩
        · exact xL_more0 hst0 hmo (by omega) a1 hen (fun Q hq => XM Q (fun z => absurd z hmt) (fun _ => hq)) hp
end
end
section
/-! X: give -/
def gv_20 (Q : Int32 → SX → Prop) (x1 k : Int32) (w : SX) : Prop := wX_give_20 Q x1 k (xa_limit w) (xa_source w) (xa_stages w) (xa_tokens w) (xa_wrongPlace w) (xa_waits w) (xa_parens w) (xa_opens w) (xa_from w) (xa_at w) (xa_ended w) (xa_spent w) (xa_stopped w) (xa_out w) (xa_lastStages w) (xa_failedStage w) (xa_shownCount w) (xa_element w) (xa_length w) (xa_kind w) (xa_constant w) (xa_step w) (xa_number w) (xa_steps w) (xa_quick w) (xa_token w) (xa_waiting w) (xa_compared w) (xa_operand w) (xa_memory w) (xa_begun w) (xa_place w) (xa_held w) (xa_keyOf w) (xa_next w) (xa_size w) (xa_head w) (xa_openStage w) (xa_openValue w) (xa_openLeft w) (xa_applications w) (xa_reads w) (xa_shown w)
def gv_44 (Q : Int32 → SX → Prop) (x1 c : Int32) (w : SX) : Prop := wX_give_44 Q x1 c (xa_limit w) (xa_source w) (xa_stages w) (xa_tokens w) (xa_wrongPlace w) (xa_waits w) (xa_parens w) (xa_opens w) (xa_from w) (xa_at w) (xa_ended w) (xa_spent w) (xa_stopped w) (xa_out w) (xa_lastStages w) (xa_failedStage w) (xa_shownCount w) (xa_element w) (xa_length w) (xa_kind w) (xa_constant w) (xa_step w) (xa_number w) (xa_steps w) (xa_quick w) (xa_token w) (xa_waiting w) (xa_compared w) (xa_operand w) (xa_memory w) (xa_begun w) (xa_place w) (xa_held w) (xa_keyOf w) (xa_next w) (xa_size w) (xa_head w) (xa_openStage w) (xa_openValue w) (xa_openLeft w) (xa_applications w) (xa_reads w) (xa_shown w)
section
variable {Q : Int32 → SX → Prop} {w w1 : SX} {x1 y z : Int32} {s s1 k l a q m : Nat}
theorem gv_196 (hs1 : x1 + 1 = nI s1) (h : xF_ (fun r w => narrow .boolean (.int r) = .int r ∧ Q r w) s1 (xs_out w y)) : wX_give_196 Q x1 y (xa_limit w) (xa_source w) (xa_stages w) (xa_tokens w) (xa_wrongPlace w) (xa_waits w) (xa_parens w) (xa_opens w) (xa_from w) (xa_at w) (xa_ended w) (xa_spent w) (xa_stopped w) (xa_out w) (xa_lastStages w) (xa_failedStage w) (xa_shownCount w) (xa_element w) (xa_length w) (xa_kind w) (xa_constant w) (xa_step w) (xa_number w) (xa_steps w) (xa_quick w) (xa_token w) (xa_waiting w) (xa_compared w) (xa_operand w) (xa_memory w) (xa_begun w) (xa_place w) (xa_held w) (xa_keyOf w) (xa_next w) (xa_size w) (xa_head w) (xa_openStage w) (xa_openValue w) (xa_openLeft w) (xa_applications w) (xa_reads w) (xa_shown w) := by
  unfold wX_give_196
  rw [hs1]
  exact xw_flow h
theorem gv_in (hf : xa_from w = x1) (e : x1.toNatClampNeg = s) (hp : 0 ≤ x1) (hi : vp_in x1 8) (hk : xa_kind w s = nI k) (h : gv_20 Q x1 (nI k) w) : wpX_give Q w := by
  subst hf
  refine br_t hp (And.intro hi ?_)
  show wX_give_20 Q (xa_from w) (xa_kind w (xa_from w).toNatClampNeg) (xa_limit w) (xa_source w) (xa_stages w) (xa_tokens w) (xa_wrongPlace w) (xa_waits w) (xa_parens w) (xa_opens w) (xa_from w) (xa_at w) (xa_ended w) (xa_spent w) (xa_stopped w) (xa_out w) (xa_lastStages w) (xa_failedStage w) (xa_shownCount w) (xa_element w) (xa_length w) (xa_kind w) (xa_constant w) (xa_step w) (xa_number w) (xa_steps w) (xa_quick w) (xa_token w) (xa_waiting w) (xa_compared w) (xa_operand w) (xa_memory w) (xa_begun w) (xa_place w) (xa_held w) (xa_keyOf w) (xa_next w) (xa_size w) (xa_head w) (xa_openStage w) (xa_openValue w) (xa_openLeft w) (xa_applications w) (xa_reads w) (xa_shown w)
  rw [e, hk]
  exact h
theorem gv_in1 (hf : xa_from w = x1) (hp : ¬ 0 ≤ x1) (h : gv_44 Q x1 (xa_source w) w) : wpX_give Q w := by
  subst hf
  exact br_f hp (br_t rfl (br_f hp h))
theorem gv_9 {c : Int32} (hf : xa_from w = x1) (e : x1.toNatClampNeg = s) (hp : 0 ≤ x1) (hi : vp_in x1 8) (hk : xa_kind w s = nI 9) (hc : xa_constant w s = c) (h : gv_44 Q x1 c w) : wpX_give Q w := by
  refine gv_in hf e hp hi hk (br_t rfl (br_t hp (And.intro hi ?_)))
  rw [e, hc]
  exact h
theorem gv_44e (hl : l < 3) (ha : xa_at w = nI a) (hq : xa_length w l = nI q) (ha1 : a < 1000) (h : q ≤ a) (hp : Q 0 (xs_ended w x1)) : gv_44 Q x1 (nI l) w := by
  have el : (nI l).toNatClampNeg = l := nI_clamp (by omega)
  refine And.intro (vp_in_nI hl (by omega)) ?_
  rw [el]
  exact br_f (show ¬ xa_at w < xa_length w l by rw [ha, hq]; exact nI_nlt h (by omega)) hp
theorem gv_44n (hl : l < 3) (ha : xa_at w = nI a) (hq : xa_length w l = nI q) (hq24 : q ≤ 24) (h : a < q) (hx : ∀ Q : Int32 → SX → Prop, Q 0 w1 → wpX_payRead Q w (nI l)) (hp : Q 0 w1) : gv_44 Q x1 (nI l) w := by
  have el : (nI l).toNatClampNeg = l := nI_clamp (by omega)
  refine And.intro (vp_in_nI hl (by omega)) ?_
  rw [el]
  exact br_t (show xa_at w < xa_length w l by rw [ha, hq]; exact nI_lt h (by omega)) (hx _ (br_t rfl hp))
theorem gv_44y (hl : l < 3) (ha : xa_at w = nI a) (hq : xa_length w l = nI q) (hq24 : q ≤ 24) (h : a < q) (hx : ∀ Q : Int32 → SX → Prop, Q 1 w1 → wpX_payRead Q w (nI l)) (ha1 : xa_at w1 = nI a) (hy : xa_element w1 (24 * l + a) = y)
    (hs1 : x1 + 1 = nI s1) (hp : xF_ (fun r w => narrow .boolean (.int r) = .int r ∧ Q r w) s1 (xs_out (xs_at w1 (nI (a + 1))) y)) : gv_44 Q x1 (nI l) w := by
  have el : (nI l).toNatClampNeg = l := nI_clamp (by omega)
  have e24 : (24 : Int32) * nI l + nI a = nI (24 * l + a) := zn_24 _ _
  refine And.intro (vp_in_nI hl (by omega)) ?_
  rw [el]
  refine br_t (show xa_at w < xa_length w l by rw [ha, hq]; exact nI_lt h (by omega)) (hx _ ?_)
  refine br_f (by decide) (fun z ez => ?_)
  have ez2 : z = xa_at w1 + 1 := ez
  rw [ha1, nI_1] at ez2
  have hx2 : (24 : Int32) * nI l + xa_at w1 = nI (24 * l + a) := by rw [ha1]; exact e24
  refine And.intro (show vp_in ((24 : Int32) * nI l + xa_at w1) 72 by rw [hx2]; exact vp_in_nI (by omega) (by omega)) (fun y' ey => ?_)
  have ey2 : y' = xa_element w1 ((24 : Int32) * nI l + xa_at w1).toNatClampNeg := ey
  rw [hx2, nI_clamp (by omega), hy] at ey2
  rw [ey2, ez2]
  exact gv_196 (w := xs_at w1 (nI (a + 1))) hs1 hp
theorem gv_he (hk : k = 14 ∨ k = 15 ∨ k = 16) (h : xa_at w < 0) (hp : Q 0 (xs_ended w x1)) : gv_20 Q x1 (nI k) w :=
  br_f (kn_ne (b := 9) rfl (by omega) (by omega) (by omega)) (br_t h hp)
theorem gv_hs (hs : s < 8) (hk : k = 14 ∨ k = 15 ∨ k = 16) (ha : xa_at w = nI a) (hm : xa_size w s = nI m) (ha1 : a < 1000) (h : m ≤ a) (hp : Q 0 (xs_ended w (nI s))) : gv_20 Q (nI s) (nI k) w := by
  have es : (nI s).toNatClampNeg = s := nI_clamp (by omega)
  refine br_f (kn_ne (b := 9) rfl (by omega) (by omega) (by omega)) (br_f (show ¬ xa_at w < 0 by rw [ha]; exact nI_pos (by omega)) (And.intro (vp_in_nI hs (by omega)) ?_))
  rw [es]
  exact br_f (show ¬ xa_at w < xa_size w s by rw [ha, hm]; exact nI_nlt h (by omega)) hp
theorem gv_hy (hs : s < 8) (hk : k = 14 ∨ k = 15 ∨ k = 16) (ha : xa_at w = nI a) (hm : xa_size w s = nI m) (hm1 : m ≤ 150) (h : a < m) (hz : (k = 14 → xa_next w (150 * s + a) = z) ∧ (k = 15 → nI a - 1 = z) ∧ (k = 16 → nI (a + 1) = z)) (hy : xa_held w (150 * s + a) = y)
    (hp : xF_ (fun r w => narrow .boolean (.int r) = .int r ∧ Q r w) (s + 1) (xs_out (xs_at w z) y)) : gv_20 Q (nI s) (nI k) w := by
  have es : (nI s).toNatClampNeg = s := nI_clamp (by omega)
  have e150 : (150 : Int32) * nI s + xa_at w = nI (150 * s + a) := by rw [ha]; exact zn_150 _ _
  have hv : vp_in (nI (150 * s + a)) 1200 := vp_in_nI (by omega) (by omega)
  refine br_f (kn_ne (b := 9) rfl (by omega) (by omega) (by omega)) (br_f (show ¬ xa_at w < 0 by rw [ha]; exact nI_pos (by omega)) (And.intro (vp_in_nI hs (by omega)) ?_))
  rw [es]
  refine br_t (show xa_at w < xa_size w s by rw [ha, hm]; exact nI_lt h (by omega)) ?_
  rw [e150, nI_clamp (by omega)]
  refine And.intro hv (fun y' ey => ?_)
  rw [hy] at ey
  rw [ey]
  have fin : wX_give_193 Q (nI s) y z (xa_limit w) (xa_source w) (xa_stages w) (xa_tokens w) (xa_wrongPlace w) (xa_waits w) (xa_parens w) (xa_opens w) (xa_from w) (xa_at w) (xa_ended w) (xa_spent w) (xa_stopped w) (xa_out w) (xa_lastStages w) (xa_failedStage w) (xa_shownCount w) (xa_element w) (xa_length w) (xa_kind w) (xa_constant w) (xa_step w) (xa_number w) (xa_steps w) (xa_quick w) (xa_token w) (xa_waiting w) (xa_compared w) (xa_operand w) (xa_memory w) (xa_begun w) (xa_place w) (xa_held w) (xa_keyOf w) (xa_next w) (xa_size w) (xa_head w) (xa_openStage w) (xa_openValue w) (xa_openLeft w) (xa_applications w) (xa_reads w) (xa_shown w) := gv_196 (w := xs_at w z) (nI_1 s) hp
  rcases hk with rfl | rfl | rfl
  · refine br_t rfl (And.intro hv ?_)
    rw [hz.1 rfl]
    exact fin
  · have e : xa_at w - 1 = z := by rw [ha]; exact hz.2.1 rfl
    refine br_f (by decide) (br_t rfl ?_)
    rw [e]
    exact fin
  · have e : xa_at w + 1 = z := by rw [ha, nI_1]; exact hz.2.2 rfl
    refine br_f (by decide) (br_f (by decide) ?_)
    rw [e]
    exact fin
end
end
section
/-! the source gives or ends: the relation -/
theorem pr_at (u : SX) (a z : Int32) (d : Nat → Int32) : xs_at (xm_pr u a d) z = xm_pr (xs_at u z) a d := by dsimp only [xs_at, xm_pr]
theorem yV_rl (v : SY) (z : Int32) (A H Q : Nat → Int32) : ym_rl v z A H Q = ys_v (yV_s v (ya_left v) (ya_last v) A (ya_begun v) H Q (ya_holds v)) z := rfl
theorem yV_vp (v : SY) (z : Int32) (A : Nat → Int32) : ym_vp v z A = ys_v (yV_s v (ya_left v) (ya_last v) A (ya_begun v) (ya_held v) (ya_keys v) (ya_holds v)) z := rfl
theorem of_Yrl {v : SY} {s : Nat} {A H Q : Nat → Int32} (h1 : of_i s A (ya_place v)) (h2 : of_y s H (ya_held v)) (h3 : of_y s Q (ya_keys v)) : of_Y s v (ya_left v) (ya_last v) A (ya_begun v) H Q (ya_holds v) := ⟨of_ir _, of_ir _, h1, of_ir _, h2, h3, of_ir _⟩
/-- the head of the chain is the first least one -/
theorem so_pick {Ky : Nat → Int32} {i0 q0 : Nat} {C D : List Nat} (hC : List.Pairwise (so_le Ky) (i0 :: C)) (hD : List.Pairwise (· < ·) D) (hm : ∀ i, i ∈ i0 :: C ↔ i ∈ D) (hq : q0 < D.length)
    (hmin : ∀ q i j : Nat, D[q]? = some i → D[q0]? = some j → Ky j ≤ Ky i) (hfst : ∀ q i j : Nat, q < q0 → D[q]? = some i → D[q0]? = some j → Ky j < Ky i) : D[q0]? = some i0 ∧ ∀ i, i ∈ C ↔ i ∈ D.eraseIdx q0 := by
  have hC0 := (List.pairwise_cons.mp hC).1
  have hDp := List.pairwise_iff_getElem.mp hD
  obtain ⟨q1, hq1, e1⟩ := List.getElem_of_mem ((hm i0).mp (List.mem_cons_self ..))
  have g1 : D[q1]? = some i0 := by rw [List.getElem?_eq_getElem hq1, e1]
  have g0 : D[q0]? = some D[q0] := List.getElem?_eq_getElem hq
  have h01 : q0 = q1 := by
    rcases Nat.lt_trichotomy q0 q1 with c | c | c
    · have hlt := hDp q0 q1 hq hq1 c
      rw [e1] at hlt
      have hin : D[q0] ∈ i0 :: C := (hm _).mpr (List.getElem_mem hq)
      rcases List.mem_cons.mp hin with z | z
      · omega
      · have hle := hmin q1 i0 _ g1 g0
        rcases hC0 _ z with w | ⟨_, w⟩
        · exact absurd w (Int32.not_lt.mpr hle)
        · omega
    · exact c
    · have := hfst q1 i0 _ c g1 g0
      have hlt := hDp q1 q0 hq1 hq c
      rw [e1] at hlt
      have hin : D[q0] ∈ i0 :: C := (hm _).mpr (List.getElem_mem hq)
      rcases List.mem_cons.mp hin with z | z
      · omega
      · rcases hC0 _ z with w | ⟨w, _⟩
        · exact absurd w (Int32.not_lt.mpr (Int32.le_of_lt this))
        · rw [w] at this
          exact absurd this Int32.lt_irrefl
  subst h01
  refine ⟨g1, fun i => ?_⟩
  rw [List.mem_eraseIdx_iff_getElem?]
  constructor
  · intro hi
    obtain ⟨q, hq', e⟩ := List.getElem_of_mem ((hm i).mp (List.mem_cons_of_mem _ hi))
    refine ⟨q, fun z => ?_, by rw [List.getElem?_eq_getElem hq', e]⟩
    subst z
    have : i = i0 := by rw [← e, ← e1]
    rcases hC0 i hi with w | ⟨_, w⟩
    · rw [this] at w
      exact absurd w Int32.lt_irrefl
    · omega
  · rintro ⟨q, hne, e⟩
    have hi : i ∈ i0 :: C := (hm i).mpr (List.mem_of_getElem? e)
    rcases List.mem_cons.mp hi with z | z
    · exfalso
      subst z
      have hql : q < D.length := by
        rcases Nat.lt_or_ge q D.length with c | c
        · exact c
        · rw [List.getElem?_eq_none c] at e; cases e
      rw [List.getElem?_eq_getElem hql] at e
      have e' : D[q] = i := Option.some.inj e
      rcases Nat.lt_trichotomy q q0 with c | c | c
      · have := hDp q q0 hql hq c; omega
      · exact hne c
      · have := hDp q0 q hq hql c; omega
    · exact z
section
variable {L N : Nat} {K : Nat → Nat} {n : Nat} {tk : Nat → Nat} {fr en : Int} {sp rem cnt : Nat} {b P : Nat → Nat} {u : SX} {v : SY} {s : Nat} {l1 l2 l3 l4 l5 l6 l7 : Nat → Int32} {z : Int32}
theorem ve_xa : ve_x s u (xs_at u z) := ⟨rfl, rfl, rfl, rfl, rfl, fun _ _ => ⟨rfl, rfl, rfl⟩⟩
theorem R_src {s0 rem' : Nat} {b' P' : Nat → Nat} (h : rn_ L N K n tk fr en sp rem cnt b P [] u v) (hf : fr = s0) (hy : of_Y s0 v l1 l2 l3 l4 l5 l6 l7) (hso : so_rel K fr rem' (xs_at u z) (yV_s v l1 l2 l3 l4 l5 l6 l7)) (hr : rem' ≤ P' (fr + 1).toNat) (hr2 : rem' ≤ 150) (hPN : cnt + P' N ≤ b' N) (hb' : ∀ s, b' s ≤ sp)
    (hP : ∀ s, li_v fr en N s → sr_ (K s) (xa_constant u s) (P s) (P (s + 1)) (b s) s u v → sr_ (K s) (xa_constant u s) (P' s) (P' (s + 1)) (b' s) s u v) :
    rn_ L N K n tk fr en sp rem' cnt b' P' [] (xs_at u z) (yV_s v l1 l2 l3 l4 l5 l6 l7) := by
  obtain ⟨h1, h2, h3, h4, h5, h6, h7, g1, g2, g3, g4⟩ := h
  have hL := h1.2.2.2.1
  have hsp := h3.1
  refine ⟨h1, h2, h3, h4, ⟨fun e he => absurd he (List.not_mem_nil), fun q hl hne => id_cg (h5.2 q hl hne) (of_vy hy (by have := hl.1; omega))⟩, fun q hl => ?_, fun _ => hso, hr, hr2, hPN, hb'⟩
  have := hb' q
  exact sr_cg (hP q hl (h6 q hl)) (by omega) ve_xa (of_vy hy (by have := hl.1; omega))
theorem R_srcl {a : Nat} (h : rn_ L N K n tk fr en sp rem cnt b P [] u v) (hf : fr = -1) (ha : a ≤ 24) (hef : en < fr) : rn_ L N K n tk fr en sp rem cnt b P [] (xs_at u (nI a)) (ys_at v (nI a)) := by
  obtain ⟨h1, h2, h3, h4, h5, h6, h7, h8⟩ := h
  exact ⟨h1, h2, h3, h4, h5, h6, fun _ => ⟨fun _ => ⟨((h7 hef).1 hf).1, a, ha, rfl, rfl⟩, fun q e => absurd e (by omega)⟩, h8⟩
theorem ve_xe : ve_x s u (xs_ended u z) := ⟨rfl, rfl, rfl, rfl, rfl, fun _ _ => ⟨rfl, rfl, rfl⟩⟩
theorem R_endS {s0 : Nat} (h : rn_ L N K n tk fr en sp rem cnt b P [] u v) (hf : fr = s0) (hef : en < fr) (hz : z.toInt = fr) (hy : of_Y s0 v l1 l2 l3 l4 l5 l6 l7) : rn_ L N K n tk fr fr sp rem cnt b P [] (xs_ended u z) (yV_s v l1 l2 l3 l4 l5 l6 l7) := by
  obtain ⟨h1, h2, h3, h4, h5, h6, h7, g1, g2, g3, g4⟩ := h
  obtain ⟨c1, c2, c3, c4, c5, c6, c7, c8, c9⟩ := h4
  have hL := h1.2.2.2.1
  have hsp := h3.1
  refine ⟨h1, h2, h3, ⟨c1, hz, c3, c4, by omega, c4, c7, c8, c9⟩, ⟨fun e he => absurd he (List.not_mem_nil), fun q hl hne => id_cg (h5.2 q ⟨hl.1, by have := hl.1; omega, hl.2.2⟩ hne) (of_vy hy (by have := hl.1; omega))⟩, fun q hl => ?_, fun hlt => absurd hlt (by omega), g1, g2, g3, g4⟩
  have := g4 q
  exact sr_cg (h6 q ⟨hl.1, by have := hl.1; omega, hl.2.2⟩) (by omega) ve_xe (of_vy hy (by have := hl.1; omega))
theorem R_endl {z' : Int32} (h : rn_ L N K n tk fr en sp rem cnt b P [] u v) (hef : en < fr) (hz : z.toInt = fr) : rn_ L N K n tk fr fr sp rem cnt b P [] (xs_ended u z) (ys_at v z') := by
  obtain ⟨h1, h2, h3, h4, h5, h6, h7, h8⟩ := h
  obtain ⟨c1, c2, c3, c4, c5, c6, c7, c8, c9⟩ := h4
  exact ⟨h1, h2, h3, ⟨c1, hz, c3, c4, by omega, c4, c7, c8, c9⟩, ⟨fun e he => absurd he (List.not_mem_nil), fun q hl hne => h5.2 q ⟨hl.1, by have := hl.1; omega, hl.2.2⟩ hne⟩, fun q hl => h6 q ⟨hl.1, by have := hl.1; omega, hl.2.2⟩, fun hlt => absurd hlt (by omega), h8⟩
/-- how many wait ahead of a live stage -/
theorem P_ge (h : rn_ L N K n tk fr en sp rem cnt b P [] u v) (hef : en < fr) : ∀ d s : Nat, (s : Int) = fr + 1 + d → s ≤ N → rem ≤ P s := by
  have hc := h.2.2.2.1
  intro d
  induction d with
  | zero =>
    intro s hs _
    have : (fr + 1).toNat = s := by omega
    rw [← this]
    exact h.2.2.2.2.2.2.2.1
  | succ d ih =>
    intro s hs hN
    obtain ⟨q, hq⟩ : ∃ q, s = q + 1 := ⟨s - 1, by have := hc.2.2.1; omega⟩
    subst hq
    have h1 := ih q (by omega) (by omega)
    have h2 := (h.2.2.2.2.2.1 q ⟨by omega, by omega, by omega⟩).1
    omega
/-- Y comes down to g -/
theorem down_g {W : (Int32 → SY → Prop) → Prop} {t g : Int} (h : rn_ L N K n tk fr en sp rem cnt b P [] u v) (hg : -1 ≤ g) (hfg : fr ≤ g) (heg : en ≤ g) (hgt : g ≤ t) (htN : t < N) (hW : ∀ (post : Int32 → SY → Prop) (x : Int32), x.toInt = t → yL_ post x 2 1 v → W post) :
    ∀ (post : Int32 → SY → Prop) (y : Int32), y.toInt = g → yL_ post y 2 1 v → W post := by
  have hN := h.1.2.2.2.2.2.2.1
  intro post y hy hp
  have hx : ∃ x : Int32, x.toInt = t := by
    by_cases c : t = -1
    · exact ⟨-1, by rw [c]; decide⟩
    · exact ⟨nI t.toNat, by rw [nI_toInt (by omega)]; omega⟩
  obtain ⟨x, hx⟩ := hx
  refine hW post x hx (ask_down h g hg hfg heg (fun e he => absurd he (List.not_mem_nil)) (t - g).toNat x (by rw [hx]; omega) (by omega) (fun y' hy' => ?_))
  have : y' = y := Int32.toInt_inj.mp (by rw [hy', hy])
  rw [this]
  exact hp
end
end
section
/-! the source gives -/
/-- what a stage that holds elements gives -/
def GV_ (K : Nat → Nat) (s rem : Nat) (u : SX) (v : SY) : Prop :=
  (rem = 0 ∧ (∀ Q : Int32 → SX → Prop, Q 0 (xs_ended u (nI s)) → wpX_give Q u) ∧ (∀ Q : Int32 → SY → Prop, Q 0 v → wpY_asked Q v (nI s))) ∨
  (∃ rem' z x l3 l5 l6, rem = rem' + 1 ∧ of_Y s v (ya_left v) (ya_last v) l3 (ya_begun v) l5 l6 (ya_holds v) ∧
    (∀ Q : Int32 → SX → Prop, xF_ (fun r w => narrow .boolean (.int r) = .int r ∧ Q r w) (s + 1) (xs_out (xs_at u z) x) → wpX_give Q u) ∧
    (∀ Q : Int32 → SY → Prop, Q 1 (ys_v (yV_s v (ya_left v) (ya_last v) l3 (ya_begun v) l5 l6 (ya_holds v)) x) → wpY_asked Q v (nI s)) ∧
    so_rel K s rem' (xs_at u z) (yV_s v (ya_left v) (ya_last v) l3 (ya_begun v) l5 l6 (ya_holds v)))
section
variable {K : Nat → Nat} {u : SX} {v : SY} {s k rem : Nat}
theorem ya_14 {Q : Int32 → SY → Prop} (hs : s < 8) (hk : ya_kinds v s = nI k) (hk' : k = 14 ∨ k = 15 ∨ k = 16) (hb : ya_begun v s = 1) (h : wpY_release Q v (nI s)) : wpY_asked Q v (nI s) :=
  ya_in hs hk (by omega) (fun z => absurd z (by omega)) (fun z => absurd z (by omega)) (fun z => absurd z (by omega)) (fun z => absurd z (by omega)) (fun z => absurd z (by omega)) (fun _ => br_f (by rw [hb]; decide) h) (fun z => absurd (Or.inr (Or.inr (Or.inr (Or.inr (Or.inr hk'))))) z)
theorem gx_in {Q : Int32 → SX → Prop} (hs : s < 8) (hf : xa_from u = nI s) (hk : xa_kind u s = nI k) (h : gv_20 Q (nI s) (nI k) u) : wpX_give Q u :=
  gv_in hf (nI_clamp (by omega)) (nI_pos' (by omega)) (vp_in_nI hs (by omega)) hk h
theorem gv_k14 (hs : s < 8) (hK : K s = 14) (hx : xa_kind u s = nI 14) (hy : ya_kinds v s = nI 14) (hf : xa_from u = nI s) (h : so_14 rem s u v) : GV_ K s rem u v := by
  obtain ⟨b1, m, pl, C, D, a2, a3, a4, a5, a6, a7, a8, a9, a10, a11, a12, a13⟩ := h
  match C, a7, a8, a9, a11 with
  | [], a7, a8, a9, a11 =>
    have hD : D = [] := List.eq_nil_iff_forall_not_mem.mpr (fun i hi => absurd ((a11 i).mpr hi) (List.not_mem_nil))
    rw [hD] at a6
    have hpm : pl = m := a6
    refine Or.inl ⟨a7, fun Q hq => gx_in hs hf hx (gv_he (Or.inl rfl) (by rw [show xa_at u = -1 from a8]; decide) hq), fun Q hq => ya_14 hs hy (Or.inl rfl) b1 (rl_in1e (k := 14) (m := m) hs hy (by omega) (by omega) (by rw [a5, hpm]) a4 hq)⟩
  | i0 :: C', a7, a8, a9, a11 =>
    have hi0 : i0 ∈ D := (a11 i0).mp (List.mem_cons_self ..)
    have hDl : 0 < D.length := List.length_pos_of_mem hi0
    obtain ⟨A, hA⟩ : ∃ A, A = upd (ya_place v) s (nI (pl + 1)) := ⟨_, rfl⟩
    obtain ⟨b, H', Q', g1, g2, g3, g4, g5, g6, Y⟩ := yw_rel14 hs hy a4 (by omega) a5 (by omega) hA
    obtain ⟨q0, hq0⟩ : ∃ q0, b = pl + q0 := ⟨b - pl, by omega⟩
    subst hq0
    have hql : ∀ q i, D[q]? = some i → q < D.length := fun q i hq => by
      rcases Nat.lt_or_ge q D.length with z | z
      · exact z
      · rw [List.getElem?_eq_none z] at hq; cases hq
    obtain ⟨p1, p2⟩ := so_pick (Ky := fun i => xa_keyOf u (150 * s + i)) (q0 := q0) a9 a10 a11 (by omega) (fun q i j hi hj => by
      show xa_keyOf u (150 * s + j) ≤ xa_keyOf u (150 * s + i)
      rw [← (a13 q0 j hj).2, ← (a13 q i hi).2]
      have := hql q i hi
      exact g3 (pl + q) (by omega) (by omega)) (fun q i j hq hi hj => by
      show xa_keyOf u (150 * s + j) < xa_keyOf u (150 * s + i)
      rw [← (a13 q0 j hj).2, ← (a13 q i hi).2]
      exact g4 (pl + q) (by omega) (by omega))
    have hx0 := a13 q0 i0 p1
    refine Or.inr ⟨C'.length, xa_next u (150 * s + i0), xa_held u (150 * s + i0), A, H', Q', a7, of_Yrl (of_iu hA) (fun j hj => (g6 j (by omega)).1) (fun j hj => (g6 j (by omega)).2), fun Q hq => gx_in hs hf hx (gv_hy hs (Or.inl rfl) a8.1 a3 a2 (a12 i0 hi0) ⟨fun _ => rfl, fun z => absurd z (by omega), fun z => absurd z (by omega)⟩ rfl hq), fun Q hq => ya_14 hs hy (Or.inl rfl) b1 (Y Q ?_), fun e => absurd e (by omega), fun s' e => ?_⟩
    · rw [hx0.1, yV_rl]
      exact hq
    · have e' : s' = s := by omega
      subst e'
      refine ⟨Or.inr (Or.inl hK), fun z => absurd z (by omega), fun _ => ⟨b1, m, pl + 1, C', D.eraseIdx q0, a2, a3, a4, ?_, ?_, rfl, a8.2, (List.pairwise_cons.mp a9).2, a10.sublist (List.eraseIdx_sublist ..), p2, fun i hi => a12 i (List.mem_of_mem_eraseIdx hi), fun q i hq => ?_⟩, fun z => absurd z (by omega), fun z => absurd z (by omega)⟩
      · show A s' = _
        rw [hA, pk_us]
      · rw [List.length_eraseIdx_of_lt (by omega)]
        omega
      · show H' (160 * s' + (pl + 1 + q)) = _ ∧ Q' (160 * s' + (pl + 1 + q)) = _
        rw [List.getElem?_eraseIdx] at hq
        by_cases c : q < q0
        · rw [if_pos c] at hq
          have g := g5 (pl + 1 + q) (by omega) (by omega)
          rw [show pl + 1 + q - 1 = pl + q by omega] at g
          have g' := a13 q i hq
          exact ⟨g.1.trans g'.1, g.2.trans g'.2⟩
        · rw [if_neg c] at hq
          have g := g6 (160 * s' + (pl + 1 + q)) (by omega)
          have g' := a13 (q + 1) i hq
          rw [show pl + (q + 1) = pl + 1 + q by omega] at g'
          exact ⟨g.1.trans g'.1, g.2.trans g'.2⟩
theorem gv_k15 (hs : s < 8) (hK : K s = 15) (hx : xa_kind u s = nI 15) (hy : ya_kinds v s = nI 15) (hf : xa_from u = nI s) (h : so_15 rem s u v) : GV_ K s rem u v := by
  obtain ⟨b1, m, a2, a3, a4, a5, a6, a7⟩ := h
  match rem, a3, a5, a6 with
  | 0, a3, a5, a6 =>
    have e0 : nI 0 - 1 < 0 := by decide
    exact Or.inl ⟨rfl, fun Q hq => gx_in hs hf hx (gv_he (Or.inr (Or.inl rfl)) (by rw [a5]; exact e0) hq), fun Q hq => ya_14 hs hy (Or.inr (Or.inl rfl)) b1 (rl_in0e (z := 0) hs hy (by rw [a6]; exact e0) hq)⟩
  | j + 1, a3, a5, a6 =>
    rw [nI_pred] at a5 a6
    obtain ⟨A, hA⟩ : ∃ A, A = upd (ya_place v) s (nI j - 1) := ⟨_, rfl⟩
    have hh := a7 j (by omega)
    refine Or.inr ⟨j, nI j - 1, xa_held u (150 * s + j), A, ya_held v, ya_keys v, rfl, of_Yrl (of_iu hA) (of_yr _) (of_yr _), fun Q hq => gx_in hs hf hx (gv_hy hs (Or.inr (Or.inl rfl)) a5 a4 a2 (by omega) ⟨fun z => absurd z (by omega), fun _ => rfl, fun z => absurd z (by omega)⟩ rfl hq), fun Q hq => ya_14 hs hy (Or.inr (Or.inl rfl)) b1 (rl_in0 hs (by omega) hy a6 hh hA ?_), fun e => absurd e (by omega), fun s' e => ?_⟩
    · rw [yV_vp]
      exact hq
    · have e' : s' = s := by omega
      subst e'
      refine ⟨Or.inr (Or.inr (Or.inl hK)), fun z => absurd z (by omega), fun z => absurd z (by omega), fun _ => ⟨b1, m, a2, by omega, a4, rfl, ?_, a7⟩, fun z => absurd z (by omega)⟩
      show A s' = _
      rw [hA, pk_us]
theorem gv_k16 (hs : s < 8) (hK : K s = 16) (hx : xa_kind u s = nI 16) (hy : ya_kinds v s = nI 16) (hf : xa_from u = nI s) (h : so_16 rem s u v) : GV_ K s rem u v := by
  obtain ⟨b1, m, a, a2, a3, a4, a5, a6, a7, a8⟩ := h
  match rem, a3 with
  | 0, a3 =>
    have ham : a = m := a3
    exact Or.inl ⟨rfl, fun Q hq => gx_in hs hf hx (gv_hs hs (Or.inr (Or.inr rfl)) a6 a4 (by omega) (by omega) hq), fun Q hq => ya_14 hs hy (Or.inr (Or.inr rfl)) b1 (rl_in1e (k := 16) (m := m) hs hy (by omega) (by omega) (by rw [a7, ham]) a5 hq)⟩
  | j + 1, a3 =>
    obtain ⟨A, hA⟩ : ∃ A, A = upd (ya_place v) s (nI (a + 1)) := ⟨_, rfl⟩
    obtain ⟨H', Q', g, Y⟩ := yw_rel16 hs hy a5 (by omega) a7 (by omega) hA
    have hh := a8 a (by omega)
    refine Or.inr ⟨j, nI (a + 1), xa_held u (150 * s + a), A, H', Q', rfl, of_Yrl (of_iu hA) (fun i _ => (g i).1) (fun i _ => (g i).2), fun Q hq => gx_in hs hf hx (gv_hy hs (Or.inr (Or.inr rfl)) a6 a4 a2 (by omega) ⟨fun z => absurd z (by omega), fun z => absurd z (by omega), fun _ => rfl⟩ rfl hq), fun Q hq => ya_14 hs hy (Or.inr (Or.inr rfl)) b1 (Y Q ?_), fun e => absurd e (by omega), fun s' e => ?_⟩
    · rw [hh, yV_rl]
      exact hq
    · have e' : s' = s := by omega
      subst e'
      refine ⟨Or.inr (Or.inr (Or.inr hK)), fun z => absurd z (by omega), fun z => absurd z (by omega), fun z => absurd z (by omega), fun _ => ⟨b1, m, a + 1, a2, by omega, a4, a5, rfl, ?_, fun i hi => ?_⟩⟩
      · show A s' = _
        rw [hA, pk_us]
      · show H' (160 * s' + i) = _
        rw [(g _).1]
        exact a8 i hi
end
section
variable {L N : Nat} {K : Nat → Nat} {n : Nat} {tk : Nat → Nat} {fr en : Int} {sp rem cnt m : Nat} {P : Nat → Nat} {u : SX} {v : SY} {s : Nat} {W : (Int32 → SY → Prop) → Prop} {t : Int}
theorem be_rem : be_ L fr sp rem + 20 = be_ L fr sp (rem + 1) := by unfold be_; omega
theorem mu_end (hef : en < fr) : mu_ L fr fr sp rem [] + 10 = mu_ L fr en sp rem [] := by
  unfold mu_
  rw [if_pos hef, if_neg (by omega)]
  omega
theorem give_held (h : rn_ L N K n tk fr en sp rem cnt (fun _ => sp) P [] u v) (hfr : fr = s) (hef : en < fr) (hsN : s < N) (hG : GV_ K s rem u v) (hm : mu_ L fr en sp rem [] ≤ m) (hY : ∀ post : Int32 → SY → Prop, yL_ post (nI s) 2 1 v → W post) : ST_ L N K n tk cnt m u W := by
  have hc := h.2.2.2.1
  have hN := h.1.2.2.2.2.2.2.1
  have hSt := h.1.2.2.2.2.2.1
  have hst0 := h.2.2.1.2.2.2.1
  have hop : xa_opens u = 0 := hc.2.2.2.2.2.2.1
  have he : xa_ended u < xa_from u := (zn_lt hc.2.1 hc.1).mpr hef
  rcases hG with ⟨r0, X, Y⟩ | ⟨rem', z, x, l3, l5, l6, er, hof, X, Y, so⟩
  · have R2 : rn_ L N K n tk fr fr sp rem cnt (fun _ => sp) P [] (xs_ended u (nI s)) v := by
      have := R_endS (z := nI s) h hfr hef (by rw [nI_toInt (by omega)]; omega) (of_Yr (s := s))
      rw [yV_self] at this
      exact this
    refine Or.inl ⟨xs_ended u (nI s), mu_ L fr fr sp rem [], by have := mu_end (L := L) (sp := sp) (rem := rem) hef; omega, Or.inr (Or.inl ⟨v, fr, fr, sp, rem, P, [], R2, Int.le_refl _, fun e he => absurd he (List.not_mem_nil), Nat.le_refl _, fun post y hy hp => hY post ?_⟩), fun post hp => xL_give0 hst0 hop he X hp⟩
    refine yL_asked (r := 0) hSt hN hsN Y (Or.inr (Or.inr (Or.inr ⟨rfl, ?_⟩)))
    rw [nI_1, ← zn_ti (x := y) (s := s + 1) (by omega)]
    exact hp
  · subst er
    have hge : ∀ q : Nat, fr < q → q ≤ N → 1 ≤ P q := fun q h1 h2 => by
      have := P_ge h hef (q - (s + 1)) q (by omega) h2
      omega
    have hsp1 : 1 ≤ sp := by
      have h1 := hge N (by omega) (Nat.le_refl _)
      have h2 : cnt + P N ≤ sp := h.2.2.2.2.2.2.2.2.2.1
      omega
    have hso1 := h.2.2.2.2.2.2.2.1
    have hPN : cnt + P N ≤ sp := h.2.2.2.2.2.2.2.2.2.1
    have h150 := h.2.2.2.2.2.2.2.2.1
    have hgN := hge N (by omega) (Nat.le_refl _)
    rw [← hfr] at so
    have hfn : (fr + 1).toNat = s + 1 := by omega
    rw [hfn] at hso1
    have R1 : rn_ L N K n tk fr en sp rem' cnt (bd_ sp (s + 1)) (fun j => P j - 1) [] (xs_at u z) (yV_s v (ya_left v) (ya_last v) l3 (ya_begun v) l5 l6 (ya_holds v)) := by
      refine R_src h hfr hof so ?_ (by omega) ?_ (fun q => bd_le _ _ _) (fun q hl g => ?_)
      · rw [hfn]
        show rem' ≤ P (s + 1) - 1
        omega
      · show cnt + (P N - 1) ≤ bd_ sp (s + 1) N
        rw [show bd_ sp (s + 1) N = sp - 1 from if_neg (by omega)]
        omega
      · have h1 := hge q hl.1 (by have := hl.2.2; omega)
        have h2 := hge (q + 1) (by have := hl.1; omega) hl.2.2
        obtain ⟨p, hp⟩ : ∃ p, P q = p + 1 := ⟨P q - 1, by omega⟩
        obtain ⟨p2, hp2⟩ : ∃ p2, P (q + 1) = p2 + 1 := ⟨P (q + 1) - 1, by omega⟩
        obtain ⟨b0, hb0⟩ : ∃ b0, sp = b0 + 1 := ⟨sp - 1, by omega⟩
        have g' : sr_ (K q) (xa_constant u q) (p + 1) (p2 + 1) (b0 + 1) q u v := by rw [← hp, ← hp2, ← hb0]; exact g
        show sr_ (K q) (xa_constant u q) (P q - 1) (P (q + 1) - 1) (bd_ sp (s + 1) q) q u v
        rw [show bd_ sp (s + 1) q = b0 from (if_neg (by have := hl.1; omega)).trans (by omega), show P q - 1 = p by omega, show P (q + 1) - 1 = p2 by omega]
        exact sr_dn g'
    obtain ⟨v1, hv1⟩ : ∃ v1, v1 = yV_s v (ya_left v) (ya_last v) l3 (ya_begun v) l5 l6 (ya_holds v) := ⟨_, rfl⟩
    rw [← hv1] at R1 Y
    have FLo : FL_ L N K n tk fr en sp rem' cnt (fun j => P j - 1) [] (s + 1) (xs_out (xs_at u z) x) (ys_v v1 x) :=
      ⟨R_x2 (R_y2 R1), fun hle => absurd hle (by omega), fun e he => absurd he (List.not_mem_nil), by omega, by omega, by omega, hsp1, rfl⟩
    refine ST_flow (fw_all (N - (s + 1)) (s + 1) en sp (fun j => P j - 1) [] (xs_out (xs_at u z) x) (ys_v v1 x) (by omega) FLo) ?_ (fun _ _ => trivial) (fun post u' hX hp => ?_) (fun post u' hX hp => ?_) (fun post hp => hY post ?_)
    · have := be_rem (L := L) (fr := fr) (sp := sp) (rem := rem')
      have := mu_ge (L := L) (fr := fr) (en := en) (sp := sp) (rem := rem' + 1) (stk := [])
      omega
    · exact xL_give1 hst0 hop he (fun Q hq => X Q (hX _ ⟨nb_1, hq⟩)) hp
    · exact xL_give0 hst0 hop he (fun Q hq => X Q (hX _ ⟨nb_0, hq⟩)) hp
    · exact yL_asked (r := 1) (w' := ys_v v1 x) hSt hN hsN Y (Or.inr (Or.inr (Or.inl ⟨rfl, by rw [nI_1]; exact hp⟩)))
theorem ro_at {z z' : Int32} (h : ro_ L N K n tk (xs_stopped (xs_at u z) z') v) : ro_ L N K n tk (xs_stopped u z') v := h
theorem at_f {z : Int32} : xa_spent (xs_at u z) = xa_spent u ∧ xa_reads (xs_at u z) = xa_reads u ∧ xa_element (xs_at u z) = xa_element u ∧ xa_length (xs_at u z) = xa_length u := ⟨rfl, rfl, rfl, rfl⟩
theorem give_read {c q a : Nat} {v0 : SY} (h : rn_ L N K n tk fr en sp rem cnt (fun _ => sp) P [] u v) (hef : en < fr) (hc3 : c < 3) (hq : xa_length u c = nI q) (hq24 : q ≤ 24) (ha : xa_at u = nI a) (ha24 : a ≤ 24) (hm : mu_ L fr en sp rem [] ≤ m)
    (R0 : a < q → rn_ L N K n tk fr en sp rem cnt (fun _ => sp) P [] (xs_at u (nI (a + 1))) v0) (RE : q ≤ a → rn_ L N K n tk fr fr sp rem cnt (fun _ => sp) P [] (xs_ended u (xa_from u)) v0) (hsz : ya_sizes v0 c = nI q)
    (hX : ∀ Q : Int32 → SX → Prop, gv_44 Q (xa_from u) (nI c) u → wpX_give Q u)
    (hY : ∀ (post : Int32 → SY → Prop) (r : Int32) (w' : SY), (∀ Q : Int32 → SY → Prop, Q r w' → wpY_fetch Q v0 (nI c) (nI a)) → yL_r post (xa_from u) r w' → W post) : ST_ L N K n tk cnt m u W := by
  have hc := h.2.2.2.1
  have hN := h.1.2.2.2.2.2.2.1
  have hst0 := h.2.2.1.2.2.2.1
  have hop : xa_opens u = 0 := hc.2.2.2.2.2.2.1
  have he : xa_ended u < xa_from u := (zn_lt hc.2.1 hc.1).mpr hef
  obtain ⟨p1, p2⟩ := pay_iff h
  obtain ⟨s1, hs1⟩ : ∃ s1 : Nat, (s1 : Int) = fr + 1 := ⟨(fr + 1).toNat, by have := hc.2.2.1; omega⟩
  have hc4 := hc.2.2.2.1
  have hf1 : xa_from u + 1 = nI s1 := zn_ti (by rw [zn_add1 hc.1 (by omega)]; omega)
  by_cases hqa : q ≤ a
  · refine Or.inl ⟨xs_ended u (xa_from u), mu_ L fr fr sp rem [], by have := mu_end (L := L) (sp := sp) (rem := rem) hef; omega, Or.inr (Or.inl ⟨v0, fr, fr, sp, rem, P, [], RE hqa, Int.le_refl _, fun e he => absurd he (List.not_mem_nil), Nat.le_refl _, fun post y hy hp => hY post 0 v0 (fun Q hq' => ?_) (Or.inr (Or.inr (Or.inr ⟨rfl, ?_⟩)))⟩), fun post hp => xL_give0 hst0 hop he (fun Q hq' => hX Q (gv_44e hc3 ha hq (by omega) hqa hq')) hp⟩
    · exact yw_fetch_end (l := c) (nI_clamp (by omega)) (vp_in_nI hc3 (by omega)) (by rw [hsz]; exact nI_nlt hqa (by omega)) hq'
    · rw [hf1, ← zn_ti (x := y) (s := s1) (by omega)]
      exact hp
  · have haq : a < q := by omega
    have R00 := R0 haq
    obtain ⟨u0, hu0⟩ : ∃ u0, u0 = xs_at u (nI (a + 1)) := ⟨_, rfl⟩
    have e_sp : xa_spent u0 = xa_spent u := by rw [hu0]; exact at_f.1
    have e_rd : xa_reads u0 = xa_reads u := by rw [hu0]; exact at_f.2.1
    have e_el : xa_element u0 = xa_element u := by rw [hu0]; exact at_f.2.2.1
    have e_le : xa_length u0 c = nI q := by rw [hu0, at_f.2.2.2]; exact hq
    have hpr0 : ∀ (x : Int32) (d : Nat → Int32), xs_at (xm_pr u x d) (nI (a + 1)) = xm_pr u0 x d := fun x d => by rw [pr_at, ← hu0]
    have hro : ro_ L N K n tk (xs_stopped u0 1) (ys_outcome v0 9000000000000000001) → ro_ L N K n tk (xs_stopped u 1) (ys_outcome v0 9000000000000000001) := by rw [hu0]; exact ro_at
    rw [← hu0] at R00
    clear hu0
    rcases rd_lock2 R00 hc3 e_le hq24 haq with ⟨hL, X, Y⟩ | ⟨a', d, hlt2, ⟨ha', hd⟩, X, Y, R'⟩
    · refine Or.inl ⟨xs_stopped u 1, 0, ?_, Or.inr (Or.inr ⟨ys_outcome v0 9000000000000000001, hro (ro_stop R00), fun post hp => hY post 3 _ Y (Or.inl ⟨rfl, hp⟩)⟩), fun post hp => ?_⟩
      · have := mu_end (L := L) (sp := sp) (rem := rem) hef
        omega
      · exact xL_give0 hst0 hop he (fun Q hq' => hX Q (gv_44n hc3 ha hq hq24 haq (fun Q hq => xw_pr_no (p1.mpr hL) hq) hq')) hp
    · rw [e_sp] at ha'
      rw [e_rd] at hd
      rw [e_el] at Y R'
      have hx1 : ¬ xa_spent u = xa_limit u := fun e => by have := p1.mp e; omega
      have hpr : ∀ Q : Int32 → SX → Prop, Q 1 (xm_pr u a' d) → wpX_payRead Q u (nI c) := fun Q hq =>
        xw_pr_ok (s := c) (nI_clamp (by omega)) (vp_in_nI hc3 (by omega)) hx1 (by rw [← ha', ← hd]; exact hq)
      obtain ⟨y, hy⟩ : ∃ y, y = xa_element u (24 * c + a) := ⟨_, rfl⟩
      rw [← hy] at Y R'
      have XM : ∀ Q : Int32 → SX → Prop, xF_ (fun r w => narrow .boolean (.int r) = .int r ∧ Q r w) s1 (xs_out (xm_pr u0 a' d) y) → wpX_give Q u := fun Q hq' => by
        rw [← hpr0] at hq'
        exact hX Q (gv_44y hc3 ha hq hq24 haq hpr ha hy.symm hf1 hq')
      have hvy : ya_v (ym_ft v0 a' y d) = y := rfl
      generalize hu2 : xm_pr u0 a' d = u2 at *
      generalize hv2 : ym_ft v0 a' y d = v2 at *
      clear hu2 hv2
      have FLo : FL_ L N K n tk fr en (sp + 1) rem cnt P [] s1 (xs_out u2 y) v2 := by
        refine ⟨R_mono (R_x2 R') (fun q => ?_) (fun q => bd_le _ _ _), fun hle => absurd hle (by omega), fun e he => absurd he (List.not_mem_nil), by omega, by omega, by omega, by omega, hvy.symm⟩
        unfold bd_; split <;> omega
      have bstep := be_step (L := L) (fr := fr) (sp := sp) (rem := rem) hlt2
      have bge := mu_ge (L := L) (fr := fr) (en := en) (sp := sp) (rem := rem) (stk := [])
      refine ST_flow (fw_all (N - s1) s1 en (sp + 1) P [] (xs_out u2 y) v2 (by omega) FLo) (by omega) (fun _ _ => trivial) (fun post u' hX' hp => ?_) (fun post u' hX' hp => ?_) (fun post hp => hY post 1 v2 Y (Or.inr (Or.inr (Or.inl ⟨rfl, by rw [hf1]; exact hp⟩))))
      · exact xL_give1 hst0 hop he (fun Q hq => XM Q (hX' _ ⟨nb_1, hq⟩)) hp
      · exact xL_give0 hst0 hop he (fun Q hq => XM Q (hX' _ ⟨nb_0, hq⟩)) hp
/-- the source, whatever it is -/
theorem give_all (h : rn_ L N K n tk fr en sp rem cnt (fun _ => sp) P [] u v) (hef : en < fr) (hft : fr ≤ t) (htN : t < N) (hm : mu_ L fr en sp rem [] ≤ m) (hW : ∀ (post : Int32 → SY → Prop) (x : Int32), x.toInt = t → yL_ post x 2 1 v → W post) : ST_ L N K n tk cnt m u W := by
  have hc := h.2.2.2.1
  have hN := h.1.2.2.2.2.2.2.1
  have hSt := h.1.2.2.2.2.2.1
  have hso := h.2.2.2.2.2.2.1 hef
  have hsz0 := h.1.2.2.2.2.2.2.2.2.2.1
  have hD := down_g h hc.2.2.1 (Int.le_refl _) (by omega) hft htN hW
  by_cases hf : fr = -1
  · obtain ⟨r0, a, ha24, ha, hay⟩ := hso.1 hf
    obtain ⟨c, c1, c2, c3⟩ := h.1.2.2.2.2.2.2.2.1
    obtain ⟨q, q1, q2⟩ := h.1.2.2.2.2.2.2.2.2.2.2.1 c c1
    have hfx : xa_from u = -1 := Int32.toInt_inj.mp (by rw [hc.1, hf]; decide)
    refine give_read (c := c) (q := q) (a := a) (v0 := ys_at v (nI (a + 1))) h hef c1 q2 q1 ha ha24 hm (fun haq => R_srcl h hf (by omega) hef) (fun _ => R_endl h hef hc.1) (by show ya_sizes v c = _; rw [hsz0]; exact q2) (fun Q hq => ?_) (fun post r w' hfe hr => hD post (-1) (by rw [hf]; decide) ?_)
    · rw [← c2] at hq
      exact gv_in1 rfl (by rw [hfx]; decide) hq
    · rw [hfx] at hr
      refine yL_src (z := nI (a + 1)) hSt hN (by rw [hay, nI_1]) (fun Q hq => ?_) hr
      rw [c3, hay]
      exact hfe Q hq
  · obtain ⟨s, hs⟩ : ∃ s : Nat, fr = s := ⟨fr.toNat, by have := hc.2.2.1; omega⟩
    have hsN : s < N := by have := hc.2.2.2.1; omega
    obtain ⟨hs8, hk16, hkx, hky⟩ := kk_y h hsN
    have hfx : xa_from u = nI s := zn_ti (by rw [hc.1, hs])
    have hD' : ∀ post : Int32 → SY → Prop, yL_ post (nI s) 2 1 v → W post := fun post hp => hD post (nI s) (by rw [nI_toInt (by omega)]; omega) hp
    obtain ⟨hk, k9, k14, k15, k16⟩ := hso.2 s hs
    rcases hk with hk | hk | hk | hk
    · obtain ⟨r0, b1, a, ha24, ha, hpl⟩ := k9 hk
      rw [hk] at hkx hky
      obtain ⟨c, c1, c2⟩ := (h.1.2.2.2.2.2.2.2.2.2.2.2.2.2 s hsN).2.2.2.1 (Or.inl hk)
      obtain ⟨q, q1, q2⟩ := h.1.2.2.2.2.2.2.2.2.2.2.1 c c1
      have hns : ya_numbers v s = nI c := by rw [h.1.2.2.2.2.2.2.2.2.2.2.2.2.1]; exact c2
      obtain ⟨A, hA⟩ : ∃ A, A = upd (ya_place v) s (nI (a + 1)) := ⟨_, rfl⟩
      have ⟨_, _, _, _, _, _, _, g1, g2, g3, g4⟩ := h
      refine give_read (c := c) (q := q) (a := a) (v0 := ys_place v A) h hef c1 q2 q1 ha ha24 hm (fun haq => ?_) (fun _ => ?_) (by show ya_sizes v c = _; rw [hsz0]; exact q2) (fun Q hq => ?_) (fun post r w' hfe hr => hD' post ?_)
      · rw [yV_pl]
        refine R_src h hs (of_Yp (of_iu hA)) ⟨fun e => absurd e hf, fun s' e => ?_⟩ g1 g2 g3 g4 (fun _ _ g => g)
        have e' : s' = s := by omega
        subst e'
        refine ⟨Or.inl hk, fun _ => ⟨r0, b1, a + 1, by omega, rfl, ?_⟩, fun z => absurd z (by omega), fun z => absurd z (by omega), fun z => absurd z (by omega)⟩
        show A s' = _
        rw [hA, pk_us]
      · rw [yV_pl]
        exact R_endS h hs hef hc.1 (of_Yp (of_iu hA))
      · exact gv_9 rfl (s := s) (by rw [hfx]; exact nI_clamp (by omega)) (by rw [hfx]; exact nI_pos' (by omega)) (by rw [hfx]; exact vp_in_nI hs8 (by omega)) hkx c2 hq
      · rw [hfx] at hr
        refine yL_asked hSt hN hsN (fun Q hq => ya_in hs8 hky (by omega) (fun z => absurd z (by omega)) (fun z => absurd z (by omega)) (fun z => absurd z (by omega)) (fun _ => br_f (by rw [b1]; decide) (fun a' ea => ?_)) (fun z => absurd z (by omega)) (fun z => absurd z (by omega)) (fun z => absurd (Or.inr (Or.inr (Or.inr (Or.inl rfl)))) z)) hr
        rw [hpl, nI_1, ← hA] at ea
        rw [ea, hns, hpl]
        exact hfe Q hq
    · rw [hk] at hkx hky
      exact give_held h hs hef hsN (gv_k14 hs8 hk hkx hky hfx (k14 hk)) hm hD'
    · rw [hk] at hkx hky
      exact give_held h hs hef hsN (gv_k15 hs8 hk hkx hky hfx (k15 hk)) hm hD'
    · rw [hk] at hkx hky
      exact give_held h hs hef hsN (gv_k16 hs8 hk hkx hky hfx (k16 hk)) hm hD'
end
end
section
/-! the next source -/
def nx_7 (Q : Int32 → SX → Prop) (s : Nat) (w : SX) : Prop := ∃ f, wX_nextSource_7 Q (xa_limit w) (xa_source w) (xa_stages w) (xa_tokens w) (xa_wrongPlace w) (xa_waits w) (xa_parens w) (xa_opens w) (xa_from w) (xa_at w) (xa_ended w) (xa_spent w) (xa_stopped w) (xa_out w) (xa_lastStages w) (xa_failedStage w) (xa_shownCount w) (xa_element w) (xa_length w) (xa_kind w) (xa_constant w) (xa_step w) (xa_number w) (xa_steps w) (xa_quick w) (xa_token w) (xa_waiting w) (xa_compared w) (xa_operand w) (xa_memory w) (xa_begun w) (xa_place w) (xa_held w) (xa_keyOf w) (xa_next w) (xa_size w) (xa_head w) (xa_openStage w) (xa_openValue w) (xa_openLeft w) (xa_applications w) (xa_reads w) (xa_shown w) f (nI s)
section
variable {Q : Int32 → SX → Prop} {w : SX} {s k N : Nat} {z : Int32}
theorem nx_in (he : xa_ended w + 1 = nI s) (h : nx_7 Q s w) : wpX_nextSource Q w := nm_r he h
theorem nx_N (hS : xa_stages w = nI N) (hN : N ≤ 8) (hp : Q 0 w) : nx_7 Q N w :=
  ⟨1, br_t (show xa_stages w ≤ nI N by rw [hS]; exact nI_le (Nat.le_refl _) (by omega)) (br_t (show nI N = xa_stages w from hS.symm) hp)⟩
theorem nx_pass (hS : xa_stages w = nI N) (hN : N ≤ 8) (hs : s < N) (hk : xa_kind w s = nI k) (hk9 : k ≠ 9) (hk14 : k < 14) (h : nx_7 Q (s + 1) w) : nx_7 Q s w := by
  obtain ⟨f, hf⟩ := h
  have es : (nI s).toNatClampNeg = s := nI_clamp (by omega)
  have h8 : vp_in (nI s) 8 := vp_in_nI (by omega) (by omega)
  refine ⟨f + 1, br_f (show ¬ xa_stages w ≤ nI s by rw [hS]; exact nI_ge hs (by omega)) (And.intro h8 ?_)⟩
  rw [es]
  exact br_f (kn_ne (b := 9) hk hk9 (by omega) (by omega)) (And.intro h8 (br_f (show ¬ 14 ≤ xa_kind w s by rw [hk]; exact nI_ge (b := 14) hk14 (by omega)) (nm_r (nI_1 s) hf)))
theorem nx_84 (hs : s < 8) (hk : xa_kind w s = nI k) (hk' : k ≠ 15) (hk16 : k ≤ 16) (hp : Q 1 w) : wX_nextSource_84 Q (nI s) (xa_limit w) (xa_source w) (xa_stages w) (xa_tokens w) (xa_wrongPlace w) (xa_waits w) (xa_parens w) (xa_opens w) (xa_from w) (xa_at w) (xa_ended w) (xa_spent w) (xa_stopped w) (xa_out w) (xa_lastStages w) (xa_failedStage w) (xa_shownCount w) (xa_element w) (xa_length w) (xa_kind w) (xa_constant w) (xa_step w) (xa_number w) (xa_steps w) (xa_quick w) (xa_token w) (xa_waiting w) (xa_compared w) (xa_operand w) (xa_memory w) (xa_begun w) (xa_place w) (xa_held w) (xa_keyOf w) (xa_next w) (xa_size w) (xa_head w) (xa_openStage w) (xa_openValue w) (xa_openLeft w) (xa_applications w) (xa_reads w) (xa_shown w) := by
  have es : (nI s).toNatClampNeg = s := nI_clamp (by omega)
  refine And.intro (vp_in_nI (by omega) (by omega)) ?_
  rw [es]
  exact br_f (kn_ne (b := 15) hk hk' (by omega) (by omega)) hp
theorem nx_85 (hs : s < 8) (hk : xa_kind w s = nI 15) (hz : xa_size w s - 1 = z) (hp : Q 1 (xs_at w z)) : wX_nextSource_84 Q (nI s) (xa_limit w) (xa_source w) (xa_stages w) (xa_tokens w) (xa_wrongPlace w) (xa_waits w) (xa_parens w) (xa_opens w) (xa_from w) (xa_at w) (xa_ended w) (xa_spent w) (xa_stopped w) (xa_out w) (xa_lastStages w) (xa_failedStage w) (xa_shownCount w) (xa_element w) (xa_length w) (xa_kind w) (xa_constant w) (xa_step w) (xa_number w) (xa_steps w) (xa_quick w) (xa_token w) (xa_waiting w) (xa_compared w) (xa_operand w) (xa_memory w) (xa_begun w) (xa_place w) (xa_held w) (xa_keyOf w) (xa_next w) (xa_size w) (xa_head w) (xa_openStage w) (xa_openValue w) (xa_openLeft w) (xa_applications w) (xa_reads w) (xa_shown w) := by
  have es : (nI s).toNatClampNeg = s := nI_clamp (by omega)
  have h8 : vp_in (nI s) 8 := vp_in_nI (by omega) (by omega)
  refine And.intro h8 ?_
  rw [es]
  exact br_t hk (And.intro h8 (nm_r hz hp))
theorem nx_src (hS : xa_stages w = nI N) (hN : N ≤ 8) (hs : s < N) (hk : xa_kind w s = nI k) (hk' : k = 9 ∨ k = 14 ∨ k = 15 ∨ k = 16) (hz : (k = 14 → xa_head w s = z) ∧ (k = 15 → xa_size w s - 1 = z) ∧ (k = 9 ∨ k = 16 → 0 = z)) (hp : Q 1 (xm_fa w (nI s) z)) : nx_7 Q s w := by
  have es : (nI s).toNatClampNeg = s := nI_clamp (by omega)
  have h8 : vp_in (nI s) 8 := vp_in_nI (by omega) (by omega)
  have hns : ¬ nI s = xa_stages w := by
    rw [hS]
    exact fun e => by have := (nI_eq (by omega) (by omega)).mp e; omega
  have h43 : wX_nextSource_43 Q (nI s) (xa_limit w) (xa_source w) (xa_stages w) (xa_tokens w) (xa_wrongPlace w) (xa_waits w) (xa_parens w) (xa_opens w) (xa_from w) (xa_at w) (xa_ended w) (xa_spent w) (xa_stopped w) (xa_out w) (xa_lastStages w) (xa_failedStage w) (xa_shownCount w) (xa_element w) (xa_length w) (xa_kind w) (xa_constant w) (xa_step w) (xa_number w) (xa_steps w) (xa_quick w) (xa_token w) (xa_waiting w) (xa_compared w) (xa_operand w) (xa_memory w) (xa_begun w) (xa_place w) (xa_held w) (xa_keyOf w) (xa_next w) (xa_size w) (xa_head w) (xa_openStage w) (xa_openValue w) (xa_openLeft w) (xa_applications w) (xa_reads w) (xa_shown w) := by
    refine br_f hns (And.intro h8 ?_)
    rw [es]
    rcases hk' with rfl | rfl | rfl | rfl
    · have e := hz.2.2 (Or.inl rfl)
      subst e
      exact br_f (kn_ne (b := 14) hk (by decide) (by decide) (by decide)) (nx_84 (w := xm_fa w (nI s) 0) (by omega) hk (by decide) (by decide) hp)
    · exact br_t hk (And.intro h8 (nm_r (hz.1 rfl) (nx_84 (w := xm_fa w (nI s) z) (by omega) hk (by decide) (by decide) hp)))
    · exact br_f (kn_ne (b := 14) hk (by decide) (by decide) (by decide)) (nx_85 (w := xm_fa w (nI s) 0) (by omega) hk (hz.2.1 rfl) hp)
    · have e := hz.2.2 (Or.inr rfl)
      subst e
      exact br_f (kn_ne (b := 14) hk (by decide) (by decide) (by decide)) (nx_84 (w := xm_fa w (nI s) 0) (by omega) hk (by decide) (by decide) hp)
  refine ⟨1, br_f (show ¬ xa_stages w ≤ nI s by rw [hS]; exact nI_ge hs (by omega)) (And.intro h8 ?_)⟩
  rw [es]
  by_cases c9 : k = 9
  · exact br_t (by rw [hk, c9]; rfl) h43
  · refine br_f (kn_ne (b := 9) hk c9 (by omega) (by omega)) (And.intro h8 (br_t (show 14 ≤ xa_kind w s by rw [hk]; exact nI_le (a := 14) (by omega) (by omega)) h43))
end
theorem bp_e (v : SY) (A B : Nat → Int32) : ys_place (ys_begun v B) A = ym_pb v A B := rfl
theorem bb_e (v : SY) (B : Nat → Int32) : ym_pb v (ya_place v) B = ys_begun v B := rfl
section
variable {Q : Int32 → SY → Prop} {v : SY} {s k : Nat} {A B : Nat → Int32}
theorem ye_9 (hs : s < 8) (hk : ya_kinds v s = nI 9) (hB : B = upd (ya_begun v) s 1) (hA : A = upd (ya_place v) s (ya_place v s + 1)) (h : wpY_fetch Q (ym_pb v A B) (ya_numbers v s) (ya_place v s)) : wpY_ended Q v (nI s) := by
  have e : (nI s).toNatClampNeg = s := nI_clamp (by omega)
  have h8 : vp_in (nI s) 8 := vp_in_nI hs (by omega)
  refine ye_src hs hk (Or.inl rfl) (And.intro h8 (fun b eb => ?_))
  rw [e, zn_b1, ← hB] at eb
  rw [e, eb]
  refine br_t rfl (And.intro h8 (And.intro h8 (And.intro h8 (fun a ea => ?_))))
  rw [← hA] at ea
  rw [ea]
  exact h
theorem ye_14 (hs : s < 8) (hk : ya_kinds v s = nI k) (hk' : k = 14 ∨ k = 16) (hB : B = upd (ya_begun v) s 1) (h : wpY_release Q (ys_begun v B) (nI s)) : wpY_ended Q v (nI s) := by
  have e : (nI s).toNatClampNeg = s := nI_clamp (by omega)
  have h8 : vp_in (nI s) 8 := vp_in_nI hs (by omega)
  refine ye_src hs hk (by omega) (And.intro h8 (fun b eb => ?_))
  rw [e, zn_b1, ← hB] at eb
  rw [e, eb]
  exact br_f (kn_ne (b := 9) rfl (by omega) (by omega) (by omega)) (br_f (kn_ne (b := 15) rfl (by omega) (by omega) (by omega)) h)
theorem ye_15 (hs : s < 8) (hk : ya_kinds v s = nI 15) (hB : B = upd (ya_begun v) s 1) (hA : A = upd (ya_place v) s (ya_holds v s - 1)) (h : wpY_release Q (ym_pb v A B) (nI s)) : wpY_ended Q v (nI s) := by
  have e : (nI s).toNatClampNeg = s := nI_clamp (by omega)
  have h8 : vp_in (nI s) 8 := vp_in_nI hs (by omega)
  refine ye_src hs hk (by omega) (And.intro h8 (fun b eb => ?_))
  rw [e, zn_b1, ← hB] at eb
  rw [e, eb]
  refine br_f (by decide) (br_t rfl (And.intro h8 (And.intro h8 (fun a ea => ?_))))
  rw [← hA] at ea
  rw [ea]
  exact h
theorem yk_ask9 (hs : s < 8) (hk : ya_kinds v s = nI 9) (hb : ¬ ya_begun v s = 0) (h : wpY_asked Q v (nI s)) (hA : A = upd (ya_place v) s (ya_place v s + 1)) : wpY_fetch Q (ys_place v A) (ya_numbers v s) (ya_place v s) := by
  have e : (nI s).toNatClampNeg = s := nI_clamp (by omega)
  have h' := And.right h (nI 9) (by rw [e]; exact hk.symm)
  have h2 := And.right ((((((((((h'.2 (by decide)).2 (by decide)).2 (by decide)).2 (by decide)).2 (by decide)).2 (by decide)).2 (by decide)).2 (by decide)).2 (by decide)).1 rfl)
  rw [e] at h2
  exact And.right (And.right (And.right (h2.2 hb))) A hA
theorem yk_ask14 (hs : s < 8) (hk : ya_kinds v s = nI k) (hk' : k = 14 ∨ k = 15 ∨ k = 16) (hb : ¬ ya_begun v s = 0) (h : wpY_asked Q v (nI s)) : wpY_release Q v (nI s) := by
  have e : (nI s).toNatClampNeg = s := nI_clamp (by omega)
  have fin : wY_asked_257 Q (nI s) (ya_limit v) (ya_source v) (ya_stages v) (ya_wrongAt v) (ya_paid v) (ya_at v) (ya_seenCount v) (ya_failedAt v) (ya_v v) (ya_valTop v) (ya_opTop v) (ya_ran v) (ya_broken v) (ya_outcome v) (ya_lists v) (ya_sizes v) (ya_tokens v) (ya_counts v) (ya_kinds v) (ya_numbers v) (ya_left v) (ya_last v) (ya_place v) (ya_begun v) (ya_held v) (ya_keys v) (ya_holds v) (ya_applied v) (ya_reads v) (ya_seen v) (ya_vals v) (ya_ops v) → wpY_release Q v (nI s) := fun h2 => by
    have h3 := And.right h2
    rw [e] at h3
    exact h3.2 hb
  have h' := And.right h (nI k) (by rw [e]; exact hk.symm)
  rcases hk' with rfl | rfl | rfl
  · exact fin ((((((((((((((h'.2 (by decide)).2 (by decide)).2 (by decide)).2 (by decide)).2 (by decide)).2 (by decide)).2 (by decide)).2 (by decide)).2 (by decide)).2 (by decide)).2 (by decide)).2 (by decide)).2 (by decide)).2 (by decide) |>.1 rfl)
  · exact fin (((((((((((((((h'.2 (by decide)).2 (by decide)).2 (by decide)).2 (by decide)).2 (by decide)).2 (by decide)).2 (by decide)).2 (by decide)).2 (by decide)).2 (by decide)).2 (by decide)).2 (by decide)).2 (by decide)).2 (by decide)).2 (by decide) |>.1 rfl)
  · exact fin ((((((((((((((((h'.2 (by decide)).2 (by decide)).2 (by decide)).2 (by decide)).2 (by decide)).2 (by decide)).2 (by decide)).2 (by decide)).2 (by decide)).2 (by decide)).2 (by decide)).2 (by decide)).2 (by decide)).2 (by decide)).2 (by decide)).2 (by decide) |>.1 rfl)
theorem ye_lift {post : Int32 → SY → Prop} {v' : SY} {N : Nat} (hSt : ya_stages v = nI N) (hSt' : ya_stages v' = nI N) (hN : N ≤ 8) (hs : s < N) (hE : ∀ Q : Int32 → SY → Prop, wpY_asked Q v' (nI s) → wpY_ended Q v (nI s)) (h : yL_ post (nI s) 2 1 v') : yL_ post (nI s) 0 0 v := by
  obtain ⟨f, hf'⟩ := h
  match f, hf' with
  | f + 1, hf' =>
  have hns : ¬ ya_stages v' ≤ nI s := by rw [hSt']; exact nI_ge hs (by omega)
  have ha := And.right (And.left (And.right hf' hns) (nI_pos' (by omega))) (show ¬ (1 : Int32) = 0 by decide)
  exact ⟨f + 1, br_f (by rw [hSt]; exact nI_ge hs (by omega)) (br_t (nI_pos' (by omega)) (br_t rfl (br_f (by decide) (hE _ ha))))⟩
end
theorem nd_len : ∀ (n : Nat) (C : List Nat), C.Nodup → (∀ i, i ∈ C → i < n) → C.length ≤ n
  | 0, C, _, h => by
    match C, h with
    | [], _ => exact Nat.le_refl _
    | i :: r, h => exact absurd (h i (List.mem_cons_self ..)) (by omega)
  | n + 1, C, hd, h => by
    by_cases c : n ∈ C
    · have h1 := nd_len n (C.erase n) (hd.erase n) (fun i hi => by
        have h2 := (List.Nodup.mem_erase_iff hd).mp hi
        have := h i h2.2
        have := h2.1
        omega)
      rw [List.length_erase_of_mem c] at h1
      omega
    · have := nd_len n C hd (fun i hi => by
        have := h i hi
        have : i ≠ n := fun z => c (z ▸ hi)
        omega)
      omega
section
variable {L N : Nat} {K : Nat → Nat} {n : Nat} {tk : Nat → Nat} {fr en : Int} {sp rem cnt m : Nat} {b P : Nat → Nat} {u : SX} {v : SY} {s : Nat} {l1 l2 l3 l4 l5 l6 l7 : Nat → Int32} {z : Int32} {W : (Int32 → SY → Prop) → Prop}
theorem ve_xf {z' : Int32} : ve_x s u (xm_fa u z z') := ⟨rfl, rfl, rfl, rfl, rfl, fun _ _ => ⟨rfl, rfl, rfl⟩⟩
theorem R_new {rem' : Nat} (h : rn_ L N K n tk fr en sp rem cnt b P [] u v) (hfs : fr < s) (hes : en < s) (hsN : s < N) (hy : of_Y s v l1 l2 l3 l4 l5 l6 l7) (hso : so_rel K s rem' (xm_fa u (nI s) z) (yV_s v l1 l2 l3 l4 l5 l6 l7)) (hr : rem' ≤ P (s + 1)) (hr2 : rem' ≤ 150) :
    rn_ L N K n tk s en sp rem' cnt b P [] (xm_fa u (nI s) z) (yV_s v l1 l2 l3 l4 l5 l6 l7) := by
  obtain ⟨h1, h2, h3, h4, h5, h6, h7, g1, g2, g3, g4⟩ := h
  obtain ⟨c1, c2, c3, c4, c5, c6, c7, c8, c9⟩ := h4
  have hL := h1.2.2.2.1
  have hN := h1.2.2.2.2.2.2.1
  have hsp := h3.1
  have hfn : ((s : Int) + 1).toNat = s + 1 := by omega
  refine ⟨h1, h2, h3, ⟨nI_toInt (by omega), c2, by omega, by omega, c5, c6, c7, c8, trivial⟩, ⟨fun e he => absurd he (List.not_mem_nil), fun q hl hne => id_cg (h5.2 q ⟨by have := hl.1; omega, hl.2.1, hl.2.2⟩ hne) (of_vy hy (by have := hl.1; omega))⟩, fun q hl => ?_, fun _ => hso, by rw [hfn]; exact hr, hr2, g3, g4⟩
  have := g4 q
  exact sr_cg (h6 q ⟨by have := hl.1; omega, hl.2.1, hl.2.2⟩) (by omega) ve_xf (of_vy hy (by have := hl.1; omega))
theorem nx_find (h : rn_ L N K n tk fr en sp rem cnt b P [] u v) : ∀ d s, s + d = N →
    (∃ s', s ≤ s' ∧ s' < N ∧ (K s' = 9 ∨ 14 ≤ K s') ∧ (∀ Q : Int32 → SX → Prop, nx_7 Q s' u → nx_7 Q s u) ∧ (∀ post : Int32 → SY → Prop, yL_ post (nI s') 0 0 v → yL_ post (nI s) 0 0 v)) ∨
    ((∀ Q : Int32 → SX → Prop, Q 0 u → nx_7 Q s u) ∧ (∀ post : Int32 → SY → Prop, post 0 v → yL_ post (nI s) 0 0 v)) := by
  have hN := h.1.2.2.2.2.2.2.1
  have hSx := h.1.2.2.2.2.1
  have hSt := h.1.2.2.2.2.2.1
  intro d
  induction d with
  | zero =>
    intro s e
    have e' : s = N := by omega
    subst e'
    exact Or.inr ⟨fun Q hq => nx_N hSx hN hq, fun post hp => yL_end hSt hN hp⟩
  | succ d ih =>
    intro s e
    obtain ⟨hs8, hk16, hkx, hky⟩ := kk_y h (s := s) (by omega)
    by_cases c : K s = 9 ∨ 14 ≤ K s
    · exact Or.inl ⟨s, Nat.le_refl _, by omega, c, fun _ hq => hq, fun _ hp => hp⟩
    · have hY : ∀ post : Int32 → SY → Prop, yL_ post (nI (s + 1)) 0 0 v → yL_ post (nI s) 0 0 v := fun post hp => yL_ended (r := 0) hSt hN (by omega) (fun Q hq => ye_pass hs8 hky (by omega) (by omega) hq) (Or.inr (Or.inr (Or.inr ⟨rfl, by rw [nI_1]; exact hp⟩)))
      have hX : ∀ Q : Int32 → SX → Prop, nx_7 Q (s + 1) u → nx_7 Q s u := fun Q hq => nx_pass hSx hN (by omega) hkx (by omega) (by omega) hq
      rcases ih (s + 1) (by omega) with ⟨s', a1, a2, a3, a4, a5⟩ | ⟨a1, a2⟩
      · exact Or.inl ⟨s', by omega, a2, a3, fun Q hq => hX Q (a4 Q hq), fun post hp => hY post (a5 post hp)⟩
      · exact Or.inr ⟨fun Q hq => hX Q (a1 Q hq), fun post hp => hY post (a2 post hp)⟩
theorem nx_fin {rem' : Nat} (h : rn_ L N K n tk fr en sp rem cnt (fun _ => sp) P [] u v) (hfe : fr ≤ en) (hm : mu_ L fr en sp rem [] ≤ m) (hes : en < s) (hsN : s < N) (hof : of_Y s v (ya_left v) (ya_last v) l3 l4 (ya_held v) (ya_keys v) (ya_holds v))
    (hso : so_rel K s rem' (xm_fa u (nI s) z) (yV_s v (ya_left v) (ya_last v) l3 l4 (ya_held v) (ya_keys v) (ya_holds v))) (hr : rem' ≤ P (s + 1)) (hr2 : rem' ≤ 150) (hX : ∀ Q : Int32 → SX → Prop, Q 1 (xm_fa u (nI s) z) → wpX_nextSource Q u)
    (hYs : ∀ post : Int32 → SY → Prop, yL_ post (nI s) 2 1 (ym_pb v l3 l4) → W post) : ST_ L N K n tk cnt m u W := by
  have hc := h.2.2.2.1
  have hN := h.1.2.2.2.2.2.2.1
  have R := R_new h (by omega) hes hsN hof hso hr hr2
  rw [← yV_pb] at R
  refine Or.inl ⟨xm_fa u (nI s) z, mu_ L s en sp rem' [], ?_, Or.inl ⟨ym_pb v l3 l4, s, en, sp, rem', P, [], (s : Int), R, fun hle => absurd hle (by omega), ⟨Int.le_refl _, by omega, by omega, fun e he => absurd he (List.not_mem_nil)⟩, Nat.le_refl _, fun post y hy hp => hYs post (by rw [← zn_ti hy]; exact hp)⟩, fun post hp => xL_next1 h.2.2.1.2.2.2.1 hc.2.2.2.2.2.2.1 (fun e => by have := (zn_lt hc.2.1 hc.1).mp e; omega) hX hp⟩
  have hc3 := hc.2.2.1
  unfold mu_ at hm ⊢
  rw [if_pos (by omega)]
  rw [if_neg (by omega)] at hm
  have e1 : (7 - (s : Int)).toNat + 1 ≤ (7 - fr).toNat := by omega
  generalize (7 - (s : Int)).toNat = A at *
  generalize (7 - fr).toNat = B at *
  generalize (L - sp) * 9 = C at *
  simp only [List.length_nil] at hm ⊢
  omega
/-- the end goes up to the next source -/
theorem next_E (h : rn_ L N K n tk fr en sp rem cnt (fun _ => sp) P [] u v) (hfe : fr ≤ en) (hm : mu_ L fr en sp rem [] ≤ m) (hW : ∀ (post : Int32 → SY → Prop) (x : Int32), x.toInt = en + 1 → yL_ post x 0 0 v → W post) : ST_ L N K n tk cnt m u W := by
  have hc := h.2.2.2.1
  have hN := h.1.2.2.2.2.2.2.1
  have hSx := h.1.2.2.2.2.1
  have hSt := h.1.2.2.2.2.2.1
  have hL := h.1.2.2.2.1
  have hsp := h.2.2.1.1
  have hc3 := hc.2.2.1
  have hc6 := hc.2.2.2.2.2.1
  obtain ⟨s0, hs0⟩ : ∃ s0 : Nat, (s0 : Int) = en + 1 := ⟨(en + 1).toNat, by omega⟩
  have hx0 : xa_ended u + 1 = nI s0 := zn_ti (by rw [zn_add1 hc.2.1 (by omega)]; omega)
  have hW0 : ∀ post : Int32 → SY → Prop, yL_ post (nI s0) 0 0 v → W post := fun post hp => hW post (nI s0) (by rw [nI_toInt (by omega)]; exact hs0) hp
  rcases nx_find h (N - s0) s0 (by omega) with ⟨s, a1, a2, a3, a4, a5⟩ | ⟨a1, a2⟩
  · obtain ⟨hs8, hk16, hkx, hky⟩ := kk_y h a2
    have hsr := h.2.2.2.2.2.1 s ⟨by omega, by omega, a2⟩
    have hX : ∀ (z : Int32), ((K s = 14 → xa_head u s = z) ∧ (K s = 15 → xa_size u s - 1 = z) ∧ (K s = 9 ∨ K s = 16 → 0 = z)) → ∀ Q : Int32 → SX → Prop, Q 1 (xm_fa u (nI s) z) → wpX_nextSource Q u := fun z hz Q hq =>
      nx_in hx0 (a4 Q (nx_src hSx hN a2 hkx (by omega) hz hq))
    obtain ⟨B, hB⟩ : ∃ B, B = upd (ya_begun v) s 1 := ⟨_, rfl⟩
    have hBs : B s = 1 := by rw [hB, pk_us]
    have hBn : ¬ B s = 0 := by rw [hBs]; decide
    have hk : K s = 9 ∨ K s = 14 ∨ K s = 15 ∨ K s = 16 := by omega
    have hof : of_Y s v (ya_left v) (ya_last v) (ya_place v) B (ya_held v) (ya_keys v) (ya_holds v) := of_Ypb (of_ir _) (of_iu hB)
    rcases hk with hk | hk | hk | hk
    · rw [hk] at hky
      obtain ⟨b1, b2⟩ := hsr.2.2.2.2.2.2.1 hk
      refine nx_fin (z := 0) (rem' := 0) h hfe hm (by omega) a2 hof ⟨fun e => absurd e (by omega), fun s' e => ?_⟩ (by omega) (by omega) (hX 0 ⟨fun z => absurd z (by omega), fun z => absurd z (by omega), fun _ => rfl⟩) (fun post hp => hW0 post (a5 post ?_))
      · have e' : s' = s := by omega
        subst e'
        exact ⟨Or.inl hk, fun _ => ⟨rfl, hBs, 0, by omega, rfl, b2⟩, fun z => absurd z (by omega), fun z => absurd z (by omega), fun z => absurd z (by omega)⟩
      · rw [bb_e] at hp
        refine ye_lift hSt (v' := ys_begun v B) hSt hN a2 (fun Q hq => ye_9 hs8 hky hB rfl ?_) hp
        have := yk_ask9 (v := ys_begun v B) hs8 hky hBn hq rfl
        rw [bp_e] at this
        exact this
    · rw [hk] at hky
      obtain ⟨b1, b2, q, q1, q2, q3, q4, C, q5, q6, q7⟩ := hsr.2.2.2.2.2.2.2.2.2.1 hk
      have hq2 : P (s + 1) ≤ sp := hsr.2.1
      have hnd : C.Nodup := q6.imp (fun {i j} hij => by
        intro z
        subst z
        rcases hij with w | ⟨_, w⟩
        · exact absurd w Int32.lt_irrefl
        · omega)
      have hlen := nd_len q C hnd (fun i hi => (q7 i).mp hi)
      refine nx_fin (z := xa_head u s) (rem' := C.length) h hfe hm (by omega) a2 hof ⟨fun e => absurd e (by omega), fun s' e => ?_⟩ (by omega) (by omega) (hX _ ⟨fun _ => rfl, fun z => absurd z (by omega), fun z => absurd z (by omega)⟩) (fun post hp => hW0 post (a5 post ?_))
      · have e' : s' = s := by omega
        subst e'
        refine ⟨Or.inr (Or.inl hk), fun z => absurd z (by omega), fun _ => ⟨hBs, q, 0, C, List.range q, by omega, q2, q3, b2, by rw [List.length_range]; omega, rfl, q5, q6, List.pairwise_lt_range, fun i => by rw [List.mem_range]; exact q7 i, fun i hi => List.mem_range.mp hi, fun j i hj => ?_⟩, fun z => absurd z (by omega), fun z => absurd z (by omega)⟩
        have hjq : j < q := by
          rcases Nat.lt_or_ge j q with z | z
          · exact z
          · rw [List.getElem?_eq_none (by rw [List.length_range]; exact z)] at hj; cases hj
        rw [List.getElem?_range hjq] at hj
        have e2 : j = i := Option.some.inj hj
        subst e2
        rw [Nat.zero_add]
        exact q4 j hjq
      · rw [bb_e] at hp
        exact ye_lift hSt (v' := ys_begun v B) hSt hN a2 (fun Q hq => ye_14 hs8 hky (Or.inl rfl) hB (yk_ask14 (v := ys_begun v B) hs8 hky (Or.inl rfl) hBn hq)) hp
    · rw [hk] at hky
      obtain ⟨b1, q, q1, q2, q3, q4⟩ := hsr.2.2.2.2.2.2.2.2.2.2.1 hk
      have hq2 : P (s + 1) ≤ sp := hsr.2.1
      obtain ⟨A, hA⟩ : ∃ A, A = upd (ya_place v) s (ya_holds v s - 1) := ⟨_, rfl⟩
      refine nx_fin (z := nI q - 1) (rem' := q) (l3 := A) (l4 := B) h hfe hm (by omega) a2 (of_Ypb (of_iu hA) (of_iu hB)) ⟨fun e => absurd e (by omega), fun s' e => ?_⟩ (by omega) (by omega) (hX _ ⟨fun z => absurd z (by omega), fun _ => by rw [q2], fun z => absurd z (by omega)⟩) (fun post hp => hW0 post (a5 post ?_))
      · have e' : s' = s := by omega
        subst e'
        refine ⟨Or.inr (Or.inr (Or.inl hk)), fun z => absurd z (by omega), fun z => absurd z (by omega), fun _ => ⟨hBs, q, by omega, Nat.le_refl _, q2, rfl, ?_, q4⟩, fun z => absurd z (by omega)⟩
        show A s' = _
        rw [hA, pk_us, q3]
      · exact ye_lift hSt (v' := ym_pb v A B) hSt hN a2 (fun Q hq => ye_15 hs8 hky hB hA (yk_ask14 (v := ym_pb v A B) hs8 hky (Or.inr (Or.inl rfl)) hBn hq)) hp
    · rw [hk] at hky
      obtain ⟨b1, b2, q, q1, q2, q3, q4⟩ := hsr.2.2.2.2.2.2.2.2.2.2.2 hk
      have hq2 : P (s + 1) ≤ sp := hsr.2.1
      refine nx_fin (z := 0) (rem' := q) h hfe hm (by omega) a2 hof ⟨fun e => absurd e (by omega), fun s' e => ?_⟩ (by omega) (by omega) (hX 0 ⟨fun z => absurd z (by omega), fun z => absurd z (by omega), fun _ => rfl⟩) (fun post hp => hW0 post (a5 post ?_))
      · have e' : s' = s := by omega
        subst e'
        exact ⟨Or.inr (Or.inr (Or.inr hk)), fun z => absurd z (by omega), fun z => absurd z (by omega), fun z => absurd z (by omega), fun _ => ⟨hBs, q, 0, by omega, by omega, q2, q3, rfl, b2, fun i hi => (q4 i hi).1⟩⟩
      · rw [bb_e] at hp
        exact ye_lift hSt (v' := ys_begun v B) hSt hN a2 (fun Q hq => ye_14 hs8 hky (Or.inr rfl) hB (yk_ask14 (v := ys_begun v B) hs8 hky (Or.inr (Or.inr rfl)) hBn hq)) hp
  · exact Or.inr (Or.inr ⟨fr, en, sp, rem, fun _ => sp, P, [], u, v, h, fun post hp => xL_next0 h.2.2.1.2.2.2.1 hc.2.2.2.2.2.2.1 (fun e => by have := (zn_lt hc.2.1 hc.1).mp e; omega) (fun Q hq => nx_in hx0 (a1 Q hq)) hp, fun post hp => hW0 post (a2 post hp)⟩)
end
end
section
/-! a whole pull -/
/-- an element comes, or the end, or the run is over -/
def PU_ (L N : Nat) (K : Nat → Nat) (n : Nat) (tk : Nat → Nat) (cnt : Nat) (u : SX) (W : (Int32 → SY → Prop) → Prop) : Prop :=
  (∃ fr en sp rem P stk u' v', FL_ L N K n tk fr en sp rem cnt P stk N u' v' ∧ (∀ post : Int32 → SX → Prop, post 1 u' → xL_ post u) ∧ (∀ post : Int32 → SY → Prop, post 1 v' → W post)) ∨
  (∃ fr en sp rem b P stk u' v', rn_ L N K n tk fr en sp rem cnt b P stk u' v' ∧ (∀ post : Int32 → SX → Prop, post 0 u' → xL_ post u) ∧ (∀ post : Int32 → SY → Prop, post 0 v' → W post)) ∨
  (∃ u' v', ro_ L N K n tk u' v' ∧ (∀ post : Int32 → SX → Prop, post 0 u' → xL_ post u) ∧ (∀ post : Int32 → SY → Prop, post 3 v' → W post))
section
variable {L N : Nat} {K : Nat → Nat} {n : Nat} {tk : Nat → Nat} {cnt : Nat}
theorem st_lh {m : Nat} {u : SX} {W : (Int32 → SY → Prop) → Prop} (h : LD_ L N K n tk cnt m u W ∨ LE_ L N K n tk cnt m u W) : ST_ L N K n tk cnt m u W := by
  rcases h with ⟨v, fr, en, sp, rem, P, stk, t, a, b, ⟨c1, c2, c3, c4⟩, d, e⟩ | ⟨v, fr, en, sp, rem, P, stk, a, b, c, d, e⟩
  · match stk, a, c4, d with
    | [], a, c4, d =>
      by_cases hef : en < fr
      · exact give_all a hef c1 c3 d e
      · have hfe : fr ≤ en := by omega
        obtain ⟨s, s1, s2, s3⟩ := b hfe
        have hN := a.1.2.2.2.2.2.2.1
        have hSt := a.1.2.2.2.2.2.1
        have hsN : s < N := by omega
        obtain ⟨hs8, hk16, hkx, hky⟩ := kk_y a hsN
        rw [s2] at hky
        refine next_E a hfe d (fun post x hx hp => ?_)
        refine down_g a (g := en) (by omega) hfe (Int.le_refl _) c2 c3 e post (nI s) (by rw [nI_toInt (by omega)]; exact s1.symm) ?_
        refine yL_asked (r := 0) (w' := v) hSt hN hsN (fun Q hq => ya_in hs8 hky (by omega) (fun _ => br_f s3 hq) (fun z => absurd z (by omega)) (fun z => absurd z (by omega)) (fun z => absurd z (by omega)) (fun z => absurd z (by omega)) (fun z => absurd z (by omega)) (fun z => absurd (Or.inl rfl) z)) (Or.inr (Or.inr (Or.inr ⟨rfl, ?_⟩)))
        rw [nI_1, ← zn_ti (x := x) (s := s + 1) (by omega)]
        exact hp
    | (o, x, l) :: r, a, c4, d =>
      have hto : (o : Int) ≤ t := c4 (o, x, l) (List.mem_cons_self ..)
      by_cases heo : en < o
      · have hY := down_o a heo hto c3 e
        have hin := sk_in (e := (o, x, l)) ((o, x, l) :: r) a.2.2.2.1.2.2.2.2.2.2.2.2 (List.mem_cons_self ..)
        rcases hin.2.2.1 with hk | hk | hk
        · exact more_6 a b heo hk d hY
        · exact more_7 a b heo hk d hY
        · exact more_11 a b heo hk d hY
      · obtain ⟨R, X⟩ := ST_pop (W := W) (cnt := cnt) a (by show (o : Int) ≤ en; omega) (fun m' h => Or.inl h)
        refine Or.inl ⟨_, mu_ L fr en sp rem r, by have := mu_pop (L := L) (fr := fr) (en := en) (sp := sp) (rem := rem) (e0 := (o, x, l)) (r := r); omega, Or.inl ⟨v, fr, en, sp, rem, P, r, t, R, b, ⟨c1, c2, c3, fun e' he' => c4 e' (List.mem_cons_of_mem _ he')⟩, Nat.le_refl _, e⟩, X⟩
  · match stk, a, c, d with
    | [], a, c, d => exact next_E a b d e
    | (o, x, l) :: r, a, c, d =>
      obtain ⟨R, X⟩ := ST_pop (W := W) (cnt := cnt) a (c (o, x, l) (List.mem_cons_self ..)) (fun m' h => Or.inl h)
      exact Or.inl ⟨_, mu_ L fr en sp rem r, by have := mu_pop (L := L) (fr := fr) (en := en) (sp := sp) (rem := rem) (e0 := (o, x, l)) (r := r); omega, Or.inr (Or.inl ⟨v, fr, en, sp, rem, P, r, R, b, fun e' he' => c e' (List.mem_cons_of_mem _ he'), Nat.le_refl _, e⟩), X⟩
theorem pull_lh : ∀ (m : Nat) (u : SX) (W : (Int32 → SY → Prop) → Prop), LH_ L N K n tk cnt m u W → PU_ L N K n tk cnt u W := by
  intro m
  induction m using Nat.strongRecOn with
  | ind m ih =>
    intro u W h
    have step : ST_ L N K n tk cnt m u W → PU_ L N K n tk cnt u W := by
      intro hs
      rcases hs with ⟨u', m', hm, hl, hX⟩ | z | ⟨fr, en, sp, rem, b, P, stk, u', v', hr, hx, hy⟩
      · rcases ih m' hm u' W hl with ⟨fr, en, sp, rem, P, stk, u2, v2, g1, g2, g3⟩ | ⟨fr, en, sp, rem, b, P, stk, u2, v2, g1, g2, g3⟩ | ⟨u2, v2, g1, g2, g3⟩
        · exact Or.inl ⟨fr, en, sp, rem, P, stk, u2, v2, g1, fun post hp => hX post (g2 post hp), g3⟩
        · exact Or.inr (Or.inl ⟨fr, en, sp, rem, b, P, stk, u2, v2, g1, fun post hp => hX post (g2 post hp), g3⟩)
        · exact Or.inr (Or.inr ⟨u2, v2, g1, fun post hp => hX post (g2 post hp), g3⟩)
      · exact Or.inl z
      · exact Or.inr (Or.inl ⟨fr, en, sp, rem, b, P, stk, u', v', hr, hx, hy⟩)
    rcases h with h | h | ⟨v, h, hw⟩
    · exact step (st_lh (Or.inl h))
    · exact step (st_lh (Or.inr h))
    · exact Or.inr (Or.inr ⟨u, v, h, fun post hp => xL_stop (by rw [h.2.2.2.1]; decide) hp, hw⟩)
/-- between two pulls -/
def BT_ (L N : Nat) (K : Nat → Nat) (n : Nat) (tk : Nat → Nat) (cnt : Nat) (u : SX) (v : SY) : Prop :=
  ∃ fr en sp rem P stk, rn_ L N K n tk fr en sp rem cnt (fun _ => sp) P stk u v ∧ rn_t fr en K v
theorem BT_cnt {u : SX} {v : SY} (h : BT_ L N K n tk cnt u v) : cnt ≤ 150 := by
  obtain ⟨fr, en, sp, rem, P, stk, h, _⟩ := h
  have h1 : cnt + P N ≤ sp := h.2.2.2.2.2.2.2.2.2.1
  have h2 := h.2.2.1.1
  have h3 := h.1.2.2.2.1
  omega
theorem FL_BT {fr en : Int} {sp rem : Nat} {P : Nat → Nat} {stk : List (Nat × Int32 × Nat)} {u : SX} {v : SY} (h : FL_ L N K n tk fr en sp rem cnt P stk N u v) : BT_ L N K n tk (cnt + 1) u v := by
  obtain ⟨hR, ht, hst, hf, he, hsN, h1, ho⟩ := h
  obtain ⟨a1, a2, a3, a4, a5, a6, a7, g1, g2, g3, g4⟩ := hR
  have e : bd_ sp N N = sp - 1 := if_neg (by omega)
  rw [e] at g3
  exact ⟨fr, en, sp, rem, P, stk, ⟨a1, a2, a3, a4, a5, fun s hl => sr_mono (a6 s hl) (bd_le _ _ _), a7, g1, g2, by show cnt + 1 + P N ≤ sp; omega, fun _ => Nat.le_refl _⟩, ht⟩
/-- one pull of each -/
theorem pull_bt {u : SX} {v : SY} (h : BT_ L N K n tk cnt u v) :
    (∃ u' v', BT_ L N K n tk (cnt + 1) u' v' ∧ xa_out u' = ya_v v' ∧ (∀ post : Int32 → SX → Prop, post 1 u' → wpX_pull post u) ∧ (∀ post : Int32 → SY → Prop, post 1 v' → wpY_pull post v)) ∨
    (∃ fr en sp rem b P stk u' v', rn_ L N K n tk fr en sp rem cnt b P stk u' v' ∧ (∀ post : Int32 → SX → Prop, post 0 u' → wpX_pull post u) ∧ (∀ post : Int32 → SY → Prop, post 0 v' → wpY_pull post v)) ∨
    (∃ u' v', ro_ L N K n tk u' v' ∧ (∀ post : Int32 → SX → Prop, post 0 u' → wpX_pull post u) ∧ (∀ post : Int32 → SY → Prop, post 3 v' → wpY_pull post v)) := by
  obtain ⟨fr, en, sp, rem, P, stk, h, ht⟩ := h
  have hc := h.2.2.2.1
  have hN := h.1.2.2.2.2.2.2.1
  have hSt := h.1.2.2.2.2.2.1
  have hx : (ya_stages v - 1).toInt = (N : Int) - 1 := by rw [hSt]; exact zn_sub1 (nI_toInt (by omega)) (by omega)
  have hl : LH_ L N K n tk cnt (mu_ L fr en sp rem stk) u (fun post => wpY_pull post v) := by
    refine Or.inl ⟨v, fr, en, sp, rem, P, stk, (N : Int) - 1, h, ht, ⟨by have := hc.2.2.2.1; omega, by have := hc.2.2.2.2.2.1; omega, by omega, fun e he => ?_⟩, Nat.le_refl _, fun post x hxe hp => ?_⟩
    · have := (sk_in stk hc.2.2.2.2.2.2.2.2 he).2.1
      omega
    · have : x = ya_stages v - 1 := Int32.toInt_inj.mp (by rw [hxe, hx])
      rw [this] at hp
      exact nm_e hp
  rcases pull_lh _ u _ hl with ⟨fr', en', sp', rem', P', stk', u', v', g1, g2, g3⟩ | ⟨fr', en', sp', rem', b', P', stk', u', v', g1, g2, g3⟩ | ⟨u', v', g1, g2, g3⟩
  · exact Or.inl ⟨u', v', FL_BT g1, g1.2.2.2.2.2.2.2, fun post hp => g2 post hp, g3⟩
  · exact Or.inr (Or.inl ⟨fr', en', sp', rem', b', P', stk', u', v', g1, fun post hp => g2 post hp, g3⟩)
  · exact Or.inr (Or.inr ⟨u', v', g1, fun post hp => g2 post hp, g3⟩)
end
end
section
/-! the start of a run -/
def xm_st (u : SX) (z_memory : Nat → Int32) (z_begun : Nat → Int32) (z_place : Nat → Int32) (z_size : Nat → Int32) (z_head : Nat → Int32) (z_applications : Nat → Int32) : SX := (u.1, u.2.1, u.2.2.1, u.2.2.2.1, u.2.2.2.2.1, u.2.2.2.2.2.1, u.2.2.2.2.2.2.1, u.2.2.2.2.2.2.2.1, u.2.2.2.2.2.2.2.2.1, u.2.2.2.2.2.2.2.2.2.1, u.2.2.2.2.2.2.2.2.2.2.1, u.2.2.2.2.2.2.2.2.2.2.2.1, u.2.2.2.2.2.2.2.2.2.2.2.2.1, u.2.2.2.2.2.2.2.2.2.2.2.2.2.1, u.2.2.2.2.2.2.2.2.2.2.2.2.2.2.1, u.2.2.2.2.2.2.2.2.2.2.2.2.2.2.2.1, u.2.2.2.2.2.2.2.2.2.2.2.2.2.2.2.2.1, u.2.2.2.2.2.2.2.2.2.2.2.2.2.2.2.2.2.1, u.2.2.2.2.2.2.2.2.2.2.2.2.2.2.2.2.2.2.1, u.2.2.2.2.2.2.2.2.2.2.2.2.2.2.2.2.2.2.2.1, u.2.2.2.2.2.2.2.2.2.2.2.2.2.2.2.2.2.2.2.2.1, u.2.2.2.2.2.2.2.2.2.2.2.2.2.2.2.2.2.2.2.2.2.1, u.2.2.2.2.2.2.2.2.2.2.2.2.2.2.2.2.2.2.2.2.2.2.1, u.2.2.2.2.2.2.2.2.2.2.2.2.2.2.2.2.2.2.2.2.2.2.2.1, u.2.2.2.2.2.2.2.2.2.2.2.2.2.2.2.2.2.2.2.2.2.2.2.2.1, u.2.2.2.2.2.2.2.2.2.2.2.2.2.2.2.2.2.2.2.2.2.2.2.2.2.1, u.2.2.2.2.2.2.2.2.2.2.2.2.2.2.2.2.2.2.2.2.2.2.2.2.2.2.1, u.2.2.2.2.2.2.2.2.2.2.2.2.2.2.2.2.2.2.2.2.2.2.2.2.2.2.2.1, u.2.2.2.2.2.2.2.2.2.2.2.2.2.2.2.2.2.2.2.2.2.2.2.2.2.2.2.2.1, z_memory, z_begun, z_place, u.2.2.2.2.2.2.2.2.2.2.2.2.2.2.2.2.2.2.2.2.2.2.2.2.2.2.2.2.2.2.2.2.1, u.2.2.2.2.2.2.2.2.2.2.2.2.2.2.2.2.2.2.2.2.2.2.2.2.2.2.2.2.2.2.2.2.2.1, u.2.2.2.2.2.2.2.2.2.2.2.2.2.2.2.2.2.2.2.2.2.2.2.2.2.2.2.2.2.2.2.2.2.2.1, z_size, z_head, u.2.2.2.2.2.2.2.2.2.2.2.2.2.2.2.2.2.2.2.2.2.2.2.2.2.2.2.2.2.2.2.2.2.2.2.2.2.1, u.2.2.2.2.2.2.2.2.2.2.2.2.2.2.2.2.2.2.2.2.2.2.2.2.2.2.2.2.2.2.2.2.2.2.2.2.2.2.1, u.2.2.2.2.2.2.2.2.2.2.2.2.2.2.2.2.2.2.2.2.2.2.2.2.2.2.2.2.2.2.2.2.2.2.2.2.2.2.2.1, z_applications, u.2.2.2.2.2.2.2.2.2.2.2.2.2.2.2.2.2.2.2.2.2.2.2.2.2.2.2.2.2.2.2.2.2.2.2.2.2.2.2.2.2)
def xm_s3 (u : SX) (z_opens : Int32) (z_from : Int32) (z_at : Int32) (z_lastStages : Int32) (z_shownCount : Int32) : SX := (u.1, u.2.1, u.2.2.1, u.2.2.2.1, u.2.2.2.2.1, u.2.2.2.2.2.1, u.2.2.2.2.2.2.1, z_opens, z_from, z_at, u.2.2.2.2.2.2.2.2.2.2.1, u.2.2.2.2.2.2.2.2.2.2.2.1, u.2.2.2.2.2.2.2.2.2.2.2.2.1, u.2.2.2.2.2.2.2.2.2.2.2.2.2.1, z_lastStages, u.2.2.2.2.2.2.2.2.2.2.2.2.2.2.2.1, z_shownCount, u.2.2.2.2.2.2.2.2.2.2.2.2.2.2.2.2.2)
def xm_s4 (u : SX) (z_ended : Int32) (z_spent : Int32) (z_stopped : Int32) (z_failedStage : Int32) : SX := (u.1, u.2.1, u.2.2.1, u.2.2.2.1, u.2.2.2.2.1, u.2.2.2.2.2.1, u.2.2.2.2.2.2.1, u.2.2.2.2.2.2.2.1, u.2.2.2.2.2.2.2.2.1, u.2.2.2.2.2.2.2.2.2.1, z_ended, z_spent, z_stopped, u.2.2.2.2.2.2.2.2.2.2.2.2.2.1, u.2.2.2.2.2.2.2.2.2.2.2.2.2.2.1, z_failedStage, u.2.2.2.2.2.2.2.2.2.2.2.2.2.2.2.2)
def ym_b0 (u : SY) (z_paid : Int32) (z_at : Int32) (z_seenCount : Int32) (z_failedAt : Int32) (z_ran : Int32) : SY := (u.1, u.2.1, u.2.2.1, u.2.2.2.1, z_paid, z_at, z_seenCount, z_failedAt, u.2.2.2.2.2.2.2.2.1, u.2.2.2.2.2.2.2.2.2.1, u.2.2.2.2.2.2.2.2.2.2.1, z_ran, u.2.2.2.2.2.2.2.2.2.2.2.2)
def ym_b1 (u : SY) (z_left : Nat → Int32) (z_last : Nat → Int32) (z_place : Nat → Int32) (z_begun : Nat → Int32) (z_holds : Nat → Int32) (z_applied : Nat → Int32) : SY := (u.1, u.2.1, u.2.2.1, u.2.2.2.1, u.2.2.2.2.1, u.2.2.2.2.2.1, u.2.2.2.2.2.2.1, u.2.2.2.2.2.2.2.1, u.2.2.2.2.2.2.2.2.1, u.2.2.2.2.2.2.2.2.2.1, u.2.2.2.2.2.2.2.2.2.2.1, u.2.2.2.2.2.2.2.2.2.2.2.1, u.2.2.2.2.2.2.2.2.2.2.2.2.1, u.2.2.2.2.2.2.2.2.2.2.2.2.2.1, u.2.2.2.2.2.2.2.2.2.2.2.2.2.2.1, u.2.2.2.2.2.2.2.2.2.2.2.2.2.2.2.1, u.2.2.2.2.2.2.2.2.2.2.2.2.2.2.2.2.1, u.2.2.2.2.2.2.2.2.2.2.2.2.2.2.2.2.2.1, u.2.2.2.2.2.2.2.2.2.2.2.2.2.2.2.2.2.2.1, u.2.2.2.2.2.2.2.2.2.2.2.2.2.2.2.2.2.2.2.1, z_left, z_last, z_place, z_begun, u.2.2.2.2.2.2.2.2.2.2.2.2.2.2.2.2.2.2.2.2.2.2.2.2.1, u.2.2.2.2.2.2.2.2.2.2.2.2.2.2.2.2.2.2.2.2.2.2.2.2.2.1, z_holds, z_applied, u.2.2.2.2.2.2.2.2.2.2.2.2.2.2.2.2.2.2.2.2.2.2.2.2.2.2.2.2)
def zr (k : Nat) (a : Nat → Int32) (c : Int32) : Nat → Int32 := fun i => if i < k then c else a i
theorem zr_0 (a : Nat → Int32) (c : Int32) : zr 0 a c = a := by
  funext i
  exact if_neg (by omega)
theorem zr_s (k : Nat) (a : Nat → Int32) (c : Int32) : upd (zr k a c) k c = zr (k + 1) a c := by
  funext i
  by_cases h : i = k
  · subst h
    rw [pk_us]
    exact (if_pos (by omega)).symm
  · rw [pk_un h]
    unfold zr
    by_cases h2 : i < k
    · rw [if_pos h2, if_pos (by omega)]
    · rw [if_neg h2, if_neg (by omega)]
theorem zr_in {k i : Nat} {a : Nat → Int32} {c : Int32} (h : i < k) : zr k a c i = c := if_pos h
theorem zn_sh0 : vp_nar .short 0 = 0 := by rw [vp_nar_short]; decide
theorem st_st (u : SX) (a b c d e f a' b' c' d' e' f' : Nat → Int32) : xm_st (xm_st u a b c d e f) a' b' c' d' e' f' = xm_st u a' b' c' d' e' f' := rfl
theorem st_se (u : SX) : xm_st u (xa_memory u) (xa_begun u) (xa_place u) (xa_size u) (xa_head u) (xa_applications u) = u := rfl
theorem b1_b1 (u : SY) (a b c d e f a' b' c' d' e' f' : Nat → Int32) : ym_b1 (ym_b1 u a b c d e f) a' b' c' d' e' f' = ym_b1 u a' b' c' d' e' f' := rfl
theorem b1_se (u : SY) : ym_b1 u (ya_left u) (ya_last u) (ya_place u) (ya_begun u) (ya_holds u) (ya_applied u) = u := rfl
theorem rd_rd (u : SX) (a b : Nat → Int32) : xs_reads (xs_reads u a) b = xs_reads u b := rfl
theorem rd_se (u : SX) : xs_reads u (xa_reads u) = u := rfl
theorem ry_ry (u : SY) (a b : Nat → Int32) : ys_reads (ys_reads u a) b = ys_reads u b := rfl
theorem ry_se (u : SY) : ys_reads u (ya_reads u) = u := rfl
def xt_2 (post : SX → Prop) (f s : Nat) (w : SX) : Prop := wX_start_2 post (xa_limit w) (xa_source w) (xa_stages w) (xa_tokens w) (xa_wrongPlace w) (xa_waits w) (xa_parens w) (xa_opens w) (xa_from w) (xa_at w) (xa_ended w) (xa_spent w) (xa_stopped w) (xa_out w) (xa_lastStages w) (xa_failedStage w) (xa_shownCount w) f (nI s) (xa_element w) (xa_length w) (xa_kind w) (xa_constant w) (xa_step w) (xa_number w) (xa_steps w) (xa_quick w) (xa_token w) (xa_waiting w) (xa_compared w) (xa_operand w) (xa_memory w) (xa_begun w) (xa_place w) (xa_held w) (xa_keyOf w) (xa_next w) (xa_size w) (xa_head w) (xa_openStage w) (xa_openValue w) (xa_openLeft w) (xa_applications w) (xa_reads w) (xa_shown w)
def xt_58 (post : SX → Prop) (f s : Nat) (w : SX) : Prop := wX_start_58 post (xa_limit w) (xa_source w) (xa_stages w) (xa_tokens w) (xa_wrongPlace w) (xa_waits w) (xa_parens w) (xa_opens w) (xa_from w) (xa_at w) (xa_ended w) (xa_spent w) (xa_stopped w) (xa_out w) (xa_lastStages w) (xa_failedStage w) (xa_shownCount w) f (nI s) (xa_element w) (xa_length w) (xa_kind w) (xa_constant w) (xa_step w) (xa_number w) (xa_steps w) (xa_quick w) (xa_token w) (xa_waiting w) (xa_compared w) (xa_operand w) (xa_memory w) (xa_begun w) (xa_place w) (xa_held w) (xa_keyOf w) (xa_next w) (xa_size w) (xa_head w) (xa_openStage w) (xa_openValue w) (xa_openLeft w) (xa_applications w) (xa_reads w) (xa_shown w)
def xt_112 (post : SX → Prop) (f s : Nat) (e : Int32) (w : SX) : Prop := wX_start_112 post (xa_limit w) (xa_source w) (xa_stages w) (xa_tokens w) (xa_wrongPlace w) (xa_waits w) (xa_parens w) (xa_opens w) (xa_from w) (xa_at w) (xa_spent w) (xa_stopped w) (xa_out w) (xa_lastStages w) (xa_failedStage w) (xa_shownCount w) (xa_element w) (xa_length w) (xa_kind w) (xa_constant w) (xa_step w) (xa_number w) (xa_steps w) (xa_quick w) (xa_token w) (xa_waiting w) (xa_compared w) (xa_operand w) (xa_memory w) (xa_begun w) (xa_place w) (xa_held w) (xa_keyOf w) (xa_next w) (xa_size w) (xa_head w) (xa_openStage w) (xa_openValue w) (xa_openLeft w) (xa_applications w) (xa_reads w) (xa_shown w) f (nI s) e
def xt_W (u : SX) (s : Nat) : SX := xm_st u (zr s (xa_memory u) 0) (zr s (xa_begun u) 0) (zr s (xa_place u) 0) (zr s (xa_size u) 0) (zr s (xa_head u) (-1)) (zr s (xa_applications u) 0)
section
variable {post : SX → Prop} {w : SX} {s f N : Nat} {e : Int32}
theorem xt_2s (hs : s < 8) (h : xt_2 post f (s + 1) (xm_st w (upd (xa_memory w) s 0) (upd (xa_begun w) s 0) (upd (xa_place w) s 0) (upd (xa_size w) s 0) (upd (xa_head w) s (-1)) (upd (xa_applications w) s 0))) : xt_2 post (f + 1) s w := by
  have es : (nI s).toNatClampNeg = s := nI_clamp (by omega)
  have h8 : vp_in (nI s) 8 := vp_in_nI hs (by omega)
  refine br_f (nI_ge (b := 8) hs (by omega)) (And.intro h8 (fun a1 e1 => And.intro h8 (fun a2 e2 => And.intro h8 (fun a3 e3 => And.intro h8 (fun a4 e4 => And.intro h8 (fun a5 e5 => And.intro h8 (fun a6 e6 => ?_)))))))
  rw [es] at e1 e2 e3 e4 e5 e6
  rw [zn_b0] at e2
  rw [zn_by0] at e3
  rw [zn_sh0] at e4
  rw [zn_sm2] at e5
  rw [e1, e2, e3, e4, e5, e6]
  exact nm_r (nI_1 s) h
theorem xt_2l (h : ∃ f, xt_58 post f 0 (xt_W w 8)) : ∀ d s, s + d = 8 → ∃ f, xt_2 post f s (xt_W w s) := by
  intro d
  induction d with
  | zero =>
    intro s e
    have e' : s = 8 := by omega
    subst e'
    exact ⟨1, br_t (nI_le (a := 8) (by omega) (by omega)) h⟩
  | succ d ih =>
    intro s e
    obtain ⟨f, hf⟩ := ih (s + 1) (by omega)
    refine ⟨f + 1, xt_2s (by omega) ?_⟩
    unfold xt_W at hf ⊢
    rw [st_st]
    rw [← zr_s, ← zr_s, ← zr_s, ← zr_s, ← zr_s, ← zr_s] at hf
    exact hf
theorem xt_58s (hs : s < 3) (h : xt_58 post f (s + 1) (xs_reads w (upd (xa_reads w) s 0))) : xt_58 post (f + 1) s w := by
  have es : (nI s).toNatClampNeg = s := nI_clamp (by omega)
  refine br_f (nI_ge (b := 3) hs (by omega)) (And.intro (vp_in_nI hs (by omega)) (fun a1 e1 => ?_))
  rw [es] at e1
  rw [e1]
  exact nm_r (nI_1 s) h
theorem xt_58l (h : ∃ f, xt_112 post f 0 (-2) (xm_s3 (xs_reads w (zr 3 (xa_reads w) 0)) 0 (-1) 0 (xa_stages w) 0)) : ∀ d s, s + d = 3 → ∃ f, xt_58 post f s (xs_reads w (zr s (xa_reads w) 0)) := by
  intro d
  induction d with
  | zero =>
    intro s e
    have e' : s = 3 := by omega
    subst e'
    exact ⟨1, br_t (nI_le (a := 3) (by omega) (by omega)) h⟩
  | succ d ih =>
    intro s e
    obtain ⟨f, hf⟩ := ih (s + 1) (by omega)
    refine ⟨f + 1, xt_58s (by omega) ?_⟩
    rw [rd_rd]
    rw [← zr_s] at hf
    exact hf
theorem xt_112k {k : Nat} (hS : xa_stages w = nI N) (hN : N ≤ 8) (hs : s < N) (hk : xa_kind w s = nI k) (hk16 : k ≤ 16) (hc : k = 2 → ¬ xa_constant w s < 1) (h : xt_112 post f (s + 1) e w) : xt_112 post (f + 1) s e w := by
  have es : (nI s).toNatClampNeg = s := nI_clamp (by omega)
  have h8 : vp_in (nI s) 8 := vp_in_nI (by omega) (by omega)
  refine br_f (show ¬ xa_stages w ≤ nI s by rw [hS]; exact nI_ge hs (by omega)) (And.intro h8 ?_)
  rw [es]
  by_cases c : k = 2
  · exact br_t (by rw [hk, c]; rfl) (And.intro h8 (br_t (Int32.not_lt.mp (hc c)) (nm_r (nI_1 s) h)))
  · exact br_f (kn_ne (b := 2) hk c (by omega) (by omega)) (nm_r (nI_1 s) h)
theorem xt_112z (hS : xa_stages w = nI N) (hN : N ≤ 8) (hs : s < N) (hk : xa_kind w s = nI 2) (hc : xa_constant w s < 1) (h : xt_112 post f (s + 1) (nI s) w) : xt_112 post (f + 1) s e w := by
  have es : (nI s).toNatClampNeg = s := nI_clamp (by omega)
  have h8 : vp_in (nI s) 8 := vp_in_nI (by omega) (by omega)
  refine br_f (show ¬ xa_stages w ≤ nI s by rw [hS]; exact nI_ge hs (by omega)) (And.intro h8 ?_)
  rw [es]
  exact br_t hk (And.intro h8 (br_f (Int32.not_le.mpr hc) (nm_r (nI_1 s) h)))
theorem xt_112e (hS : xa_stages w = nI N) (hN : N ≤ 8) (hp : post (xm_s4 w e 0 0 (-1))) : xt_112 post 1 N e w :=
  br_t (show xa_stages w ≤ nI N by rw [hS]; exact nI_le (Nat.le_refl _) (by omega)) hp
/-- the last take of nothing -/
def ZT_ (K : Nat → Nat) (c : Nat → Int32) (s : Nat) (e : Int32) : Prop :=
  ∃ en : Int, e.toInt = en ∧ -2 ≤ en ∧ en < s ∧ (en = -2 ∨ ∃ e0 : Nat, en = e0 ∧ K e0 = 2 ∧ c e0 < 1) ∧ ∀ q : Nat, en < q → q < s → K q = 2 → ¬ c q < 1
theorem xt_112l {K : Nat → Nat} (hS : xa_stages w = nI N) (hN : N ≤ 8) (hk : ∀ q, q < N → K q ≤ 16 ∧ xa_kind w q = nI (K q)) : ∀ d s e, s + d = N → ZT_ K (xa_constant w) s e → ∃ e', ZT_ K (xa_constant w) N e' ∧ ∀ post : SX → Prop, post (xm_s4 w e' 0 0 (-1)) → ∃ f, xt_112 post f s e w := by
  intro d
  induction d with
  | zero =>
    intro s e es hz
    have e' : s = N := by omega
    subst e'
    exact ⟨e, hz, fun post hp => ⟨1, xt_112e hS hN hp⟩⟩
  | succ d ih =>
    intro s e es hz
    obtain ⟨en, z1, z2, z3, z4, z5⟩ := hz
    obtain ⟨k16, kx⟩ := hk s (by omega)
    by_cases c : K s = 2 ∧ xa_constant w s < 1
    · obtain ⟨e', g1, g2⟩ := ih (s + 1) (nI s) (by omega) ⟨s, nI_toInt (by omega), by omega, by omega, Or.inr ⟨s, rfl, c.1, c.2⟩, fun q h1 h2 => absurd h2 (by omega)⟩
      refine ⟨e', g1, fun post hp => ?_⟩
      obtain ⟨f, hf⟩ := g2 post hp
      exact ⟨f + 1, xt_112z hS hN (by omega) (by rw [kx, c.1]) c.2 hf⟩
    · obtain ⟨e', g1, g2⟩ := ih (s + 1) e (by omega) ⟨en, z1, z2, by omega, z4, fun q h1 h2 h3 h4 => by
        by_cases c' : q = s
        · subst c'; exact c ⟨h3, h4⟩
        · exact z5 q h1 (by omega) h3 h4⟩
      refine ⟨e', g1, fun post hp => ?_⟩
      obtain ⟨f, hf⟩ := g2 post hp
      exact ⟨f + 1, xt_112k hS hN (by omega) kx k16 (fun k2 h => c ⟨k2, h⟩) hf⟩
end
def yt_27 (post : SY → Prop) (f s : Nat) (w : SY) : Prop := wY_begin_27 post (ya_limit w) (ya_source w) (ya_stages w) (ya_wrongAt w) (ya_paid w) (ya_at w) (ya_seenCount w) (ya_failedAt w) (ya_v w) (ya_valTop w) (ya_opTop w) (ya_ran w) (ya_broken w) (ya_outcome w) f (nI s) (ya_lists w) (ya_sizes w) (ya_tokens w) (ya_counts w) (ya_kinds w) (ya_numbers w) (ya_left w) (ya_last w) (ya_place w) (ya_begun w) (ya_held w) (ya_keys w) (ya_holds w) (ya_applied w) (ya_reads w) (ya_seen w) (ya_vals w) (ya_ops w)
def yt_83 (post : SY → Prop) (f s : Nat) (w : SY) : Prop := wY_begin_83 post (ya_limit w) (ya_source w) (ya_stages w) (ya_wrongAt w) (ya_paid w) (ya_at w) (ya_seenCount w) (ya_failedAt w) (ya_v w) (ya_valTop w) (ya_opTop w) (ya_ran w) (ya_broken w) (ya_outcome w) f (nI s) (ya_lists w) (ya_sizes w) (ya_tokens w) (ya_counts w) (ya_kinds w) (ya_numbers w) (ya_left w) (ya_last w) (ya_place w) (ya_begun w) (ya_held w) (ya_keys w) (ya_holds w) (ya_applied w) (ya_reads w) (ya_seen w) (ya_vals w) (ya_ops w)
def yt_W (u : SY) (s : Nat) : SY := ym_b1 u (zr s (ya_left u) 0) (zr s (ya_last u) 0) (zr s (ya_place u) 0) (zr s (ya_begun u) 0) (zr s (ya_holds u) 0) (zr s (ya_applied u) 0)
section
variable {post : SY → Prop} {w : SY} {s f : Nat}
theorem yt_27s (hs : s < 8) (h : yt_27 post f (s + 1) (ym_b1 w (upd (ya_left w) s 0) (upd (ya_last w) s 0) (upd (ya_place w) s 0) (upd (ya_begun w) s 0) (upd (ya_holds w) s 0) (upd (ya_applied w) s 0))) : yt_27 post (f + 1) s w := by
  have es : (nI s).toNatClampNeg = s := nI_clamp (by omega)
  have h8 : vp_in (nI s) 8 := vp_in_nI hs (by omega)
  refine br_f (nI_ge (b := 8) hs (by omega)) (And.intro h8 (fun a1 e1 => And.intro h8 (fun a2 e2 => And.intro h8 (fun a3 e3 => And.intro h8 (fun a4 e4 => And.intro h8 (fun a5 e5 => And.intro h8 (fun a6 e6 => ?_)))))))
  rw [es] at e1 e2 e3 e4 e5 e6
  rw [zn_b0] at e4
  rw [e1, e2, e3, e4, e5, e6]
  exact nm_r (nI_1 s) h
theorem yt_27l (h : ∃ f, yt_83 post f 0 (yt_W w 8)) : ∀ d s, s + d = 8 → ∃ f, yt_27 post f s (yt_W w s) := by
  intro d
  induction d with
  | zero =>
    intro s e
    have e' : s = 8 := by omega
    subst e'
    exact ⟨1, br_t (nI_le (a := 8) (by omega) (by omega)) h⟩
  | succ d ih =>
    intro s e
    obtain ⟨f, hf⟩ := ih (s + 1) (by omega)
    refine ⟨f + 1, yt_27s (by omega) ?_⟩
    unfold yt_W at hf ⊢
    rw [b1_b1]
    rw [← zr_s, ← zr_s, ← zr_s, ← zr_s, ← zr_s, ← zr_s] at hf
    exact hf
theorem yt_83s (hs : s < 3) (h : yt_83 post f (s + 1) (ys_reads w (upd (ya_reads w) s 0))) : yt_83 post (f + 1) s w := by
  have es : (nI s).toNatClampNeg = s := nI_clamp (by omega)
  refine br_f (nI_ge (b := 3) hs (by omega)) (And.intro (vp_in_nI hs (by omega)) (fun a1 e1 => ?_))
  rw [es] at e1
  rw [e1]
  exact nm_r (nI_1 s) h
theorem yt_83l (h : post (ys_reads w (zr 3 (ya_reads w) 0))) : ∀ d s, s + d = 3 → ∃ f, yt_83 post f s (ys_reads w (zr s (ya_reads w) 0)) := by
  intro d
  induction d with
  | zero =>
    intro s e
    have e' : s = 3 := by omega
    subst e'
    exact ⟨1, br_t (nI_le (a := 3) (by omega) (by omega)) h⟩
  | succ d ih =>
    intro s e
    obtain ⟨f, hf⟩ := ih (s + 1) (by omega)
    refine ⟨f + 1, yt_83s (by omega) ?_⟩
    rw [ry_ry]
    rw [← zr_s] at hf
    exact hf
theorem yw_begin (h : post (ys_reads (yt_W (ym_b0 w 0 0 0 (-1) 1) 8) (zr 3 (ya_reads w) 0))) : wpY_begin post w := by
  have h2 := yt_83l (w := yt_W (ym_b0 w 0 0 0 (-1) 1) 8) (post := post) h 3 0 rfl
  rw [zr_0, ry_se] at h2
  have h3 := yt_27l h2 8 0 rfl
  unfold yt_W at h3
  rw [zr_0, zr_0, zr_0, zr_0, zr_0, zr_0, b1_se] at h3
  exact h3
end
theorem xw_start {post : SX → Prop} {w : SX} (h : ∃ f, xt_112 post f 0 (-2) (xm_s3 (xs_reads (xt_W w 8) (zr 3 (xa_reads w) 0)) 0 (-1) 0 (xa_stages w) 0)) : wpX_start post w := by
  have h2 := xt_58l (w := xt_W w 8) (post := post) h 3 0 rfl
  rw [zr_0, rd_se] at h2
  have h3 := xt_2l h2 8 0 rfl
  unfold xt_W at h3
  rw [zr_0, zr_0, zr_0, zr_0, zr_0, zr_0, st_se] at h3
  exact h3
end
section
/-! the relation at the start of a run -/
section
variable {L N : Nat} {K : Nat → Nat} {n : Nat} {tk : Nat → Nat} {u : SX} {v : SY}
theorem sb_1 {a b c d e f : Nat → Int32} (h : rl_st u v L N K ∧ rl_tk u v n tk) : rl_st (xm_st u a b c d e f) v L N K ∧ rl_tk (xm_st u a b c d e f) v n tk := h
theorem sb_2 {a : Nat → Int32} (h : rl_st u v L N K ∧ rl_tk u v n tk) : rl_st (xs_reads u a) v L N K ∧ rl_tk (xs_reads u a) v n tk := h
theorem sb_3 {a b c d e : Int32} (h : rl_st u v L N K ∧ rl_tk u v n tk) : rl_st (xm_s3 u a b c d e) v L N K ∧ rl_tk (xm_s3 u a b c d e) v n tk := h
theorem sb_4 {a b c d : Int32} (h : rl_st u v L N K ∧ rl_tk u v n tk) : rl_st (xm_s4 u a b c d) v L N K ∧ rl_tk (xm_s4 u a b c d) v n tk := h
theorem sb_5 {a b c d e : Int32} (h : rl_st u v L N K ∧ rl_tk u v n tk) : rl_st u (ym_b0 v a b c d e) L N K ∧ rl_tk u (ym_b0 v a b c d e) n tk := h
theorem sb_6 {a b c d e f : Nat → Int32} (h : rl_st u v L N K ∧ rl_tk u v n tk) : rl_st u (ym_b1 v a b c d e f) L N K ∧ rl_tk u (ym_b1 v a b c d e f) n tk := h
theorem sb_7 {a : Nat → Int32} (h : rl_st u v L N K ∧ rl_tk u v n tk) : rl_st u (ys_reads v a) L N K ∧ rl_tk u (ys_reads v a) n tk := h
/-- what start and begin leave -/
def IX_ (u : SX) : Prop := (∀ s, s < 8 → xa_memory u s = 0 ∧ xa_begun u s = 0 ∧ xa_place u s = 0 ∧ xa_size u s = 0 ∧ xa_head u s = -1) ∧ xa_opens u = 0 ∧ xa_from u = -1 ∧ xa_at u = 0 ∧ xa_spent u = 0 ∧ xa_stopped u = 0 ∧ xa_failedStage u = -1 ∧ xa_lastStages u = xa_stages u
def IY_ (v : SY) : Prop := (∀ s, s < 8 → ya_left v s = 0 ∧ ya_last v s = 0 ∧ ya_place v s = 0 ∧ ya_begun v s = 0 ∧ ya_holds v s = 0) ∧ ya_paid v = 0 ∧ ya_at v = 0 ∧ ya_ran v = 1
theorem tk_0 {m : Nat} (h : rl_tk u v n tk) : rl_tk u v n (fun i => if i = 100 then m else tk i) := by
  obtain ⟨h1, h2, h3, h4⟩ := h
  refine ⟨h1, h2, h3, fun i hi => ?_⟩
  have e : (if i = 100 then m else tk i) = tk i := if_neg (by omega)
  show xa_token u i = nI (if i = 100 then m else tk i) ∧ ya_tokens v i = nI (if i = 100 then m else tk i) ∧ rl_tok (if i = 100 then m else tk i)
  rw [e]
  exact h4 i hi
theorem sr_init {k : Nat} {c : Int32} {s : Nat} (hs : s < 8) (hx : IX_ u) (hy : IY_ v) (hc : k = 2 → ¬ c < 1) : sr_ k c 0 0 0 s u v := by
  obtain ⟨x1, x2, x3, x4, x5⟩ := hx.1 s hs
  obtain ⟨y1, y2, y3, y4, y5⟩ := hy.1 s hs
  have hci : ¬ c < 1 → ∃ m, c = nI m ∧ 1 ≤ m ∧ m < 2 ^ 31 := fun h => by
    have h1 : (1 : Int32) ≤ c := Int32.not_lt.mp h
    rw [Int32.le_iff_toInt_le, show (1 : Int32).toInt = 1 by decide] at h1
    have h2 := c.toInt_lt
    refine ⟨c.toInt.toNat, zn_ti (by omega), by omega, by omega⟩
  refine ⟨Nat.le_refl _, Nat.le_refl _, fun e => ?_, fun e => ⟨0, y1, Nat.le_refl _, ?_⟩, fun _ => x2.trans y4.symm, fun _ => ⟨0, Nat.le_refl _, x4, y5, fun i hi => absurd hi (by omega), tr_empty⟩, fun _ => ⟨y4, y3⟩, fun _ => ⟨0, by omega, x3, y3⟩, fun _ => ⟨x1.trans y2.symm, x2.trans y4.symm⟩, fun _ => ⟨y4, y3, 0, Nat.le_refl _, x4, y5, fun i hi => absurd hi (by omega), [], x5, List.Pairwise.nil, fun i => ⟨fun h => absurd h (List.not_mem_nil), fun h => absurd h (by omega)⟩⟩, fun _ => ⟨y4, 0, Nat.le_refl _, x4, y5, fun i hi => absurd hi (by omega)⟩, fun _ => ⟨y4, y3, 0, Nat.le_refl _, x4, y5, fun i hi => absurd hi (by omega)⟩⟩
  · obtain ⟨m, m1, m2, m3⟩ := hci (hc e)
    exact ⟨0, m, y1, x1, m1, by omega, m3⟩
  · by_cases h : c < 1
    · exact Or.inl ⟨h, x1⟩
    · obtain ⟨m, m1, m2, m3⟩ := hci h
      exact Or.inr ⟨m, m1, m3, m2, by rw [show min 0 m = 0 by omega]; exact x1⟩
theorem bt_init (hst : rl_st u v L N K) (htk : rt_ u v n tk) (hrs : rl_rs u v) (hx : IX_ u) (hy : IY_ v) (hz : ZT_ K (xa_constant u) N (xa_ended u)) : BT_ L N K n tk 0 u v := by
  obtain ⟨en, z1, z2, z3, z4, z5⟩ := hz
  have hN := hst.2.2.2.2.2.2.1
  have hSx := hst.2.2.2.2.1
  have hnum : ya_numbers v = xa_constant u := hst.2.2.2.2.2.2.2.2.2.2.2.2.1
  obtain ⟨x1, x2, x3, x4, x5, x6, x7, x8⟩ := hx
  obtain ⟨y1, y2, y3, y4⟩ := hy
  refine ⟨-1, en, 0, 0, fun _ => 0, [], ⟨hst, htk, ⟨by omega, x5, y2, x6, x7, hrs, y4, x8.trans hSx⟩, ⟨by rw [x3]; decide, z1, by omega, by omega, z2, z3, x2, trivial, trivial⟩, ⟨fun e he => absurd he (List.not_mem_nil), fun s hl _ => ?_⟩, fun s hl => sr_init (by have := hl.2.2; omega) ⟨x1, x2, x3, x4, x5, x6, x7, x8⟩ ⟨y1, y2, y3, y4⟩ (fun e => z5 s hl.2.1 hl.2.2 e), fun _ => ⟨fun _ => ⟨rfl, 0, by omega, x4, y3⟩, fun s e => absurd e (by omega)⟩, Nat.le_refl _, by omega, Nat.le_refl _, fun _ => Nat.le_refl _⟩, fun hle => ?_⟩
  · have g := y1 s (by have := hl.2.2; omega)
    exact ⟨fun _ => g.1, fun _ => g.2.2.2.1⟩
  · rcases z4 with z4 | ⟨e0, a1, a2, a3⟩
    · omega
    · refine ⟨e0, a1, a2, ?_⟩
      rw [(y1 e0 (by omega)).1, hnum]
      rw [Int32.lt_iff_toInt_lt, show (1 : Int32).toInt = 1 by decide] at a3
      rw [Int32.lt_iff_toInt_lt, show (0 : Int32).toInt = 0 by decide]
      omega
theorem begin_bt (hst : rl_st u v L N K) (htk : rl_tk u v n tk) (hrs : rl_rs u v) :
    ∃ u' v', BT_ L N K n (fun i => if i = 100 then 0 else tk i) 0 u' v' ∧ (∀ post : SX → Prop, post u' → wpX_start post u) ∧ (∀ post : SY → Prop, post v' → wpY_begin post v) := by
  obtain ⟨r1, r2, r3, r4, ⟨m5, r5, r5a, r5b⟩, r6, ⟨m, m1, m2, m3⟩, r8⟩ := hrs
  have hN := hst.2.2.2.2.2.2.1
  have hSx := hst.2.2.2.2.1
  have hK : ∀ q, q < N → K q ≤ 16 ∧ xa_kind u q = nI (K q) := fun q hq => ⟨(hst.2.2.2.2.2.2.2.2.2.2.2.2.2 q hq).1, (hst.2.2.2.2.2.2.2.2.2.2.2.2.2 q hq).2.1⟩
  obtain ⟨w1, hw1⟩ : ∃ w1, w1 = xt_W u 8 := ⟨_, rfl⟩
  obtain ⟨w2, hw2⟩ : ∃ w2, w2 = xs_reads w1 (zr 3 (xa_reads u) 0) := ⟨_, rfl⟩
  obtain ⟨w3, hw3⟩ : ∃ w3, w3 = xm_s3 w2 0 (-1) 0 (xa_stages u) 0 := ⟨_, rfl⟩
  obtain ⟨t1, ht1⟩ : ∃ t1, t1 = ym_b0 v 0 0 0 (-1) 1 := ⟨_, rfl⟩
  obtain ⟨t2, ht2⟩ : ∃ t2, t2 = yt_W t1 8 := ⟨_, rfl⟩
  obtain ⟨t3, ht3⟩ : ∃ t3, t3 = ys_reads t2 (zr 3 (ya_reads v) 0) := ⟨_, rfl⟩
  have S1 : rl_st w1 v L N K ∧ rl_tk w1 v n tk := by rw [hw1]; unfold xt_W; exact sb_1 ⟨hst, htk⟩
  have S2 : rl_st w2 v L N K ∧ rl_tk w2 v n tk := by rw [hw2]; exact sb_2 S1
  have S3 : rl_st w3 v L N K ∧ rl_tk w3 v n tk := by rw [hw3]; exact sb_3 S2
  have S4 : rl_st w3 t1 L N K ∧ rl_tk w3 t1 n tk := by rw [ht1]; exact sb_5 S3
  have S5 : rl_st w3 t2 L N K ∧ rl_tk w3 t2 n tk := by rw [ht2]; unfold yt_W; exact sb_6 S4
  have S6 : rl_st w3 t3 L N K ∧ rl_tk w3 t3 n tk := by rw [ht3]; exact sb_7 S5
  have f1 : xa_stages w3 = nI N := S3.1.2.2.2.2.1
  have fk : xa_kind w3 = xa_kind u := by rw [hw3, hw2, hw1]; rfl
  have fc : xa_constant w3 = xa_constant u := by rw [hw3, hw2, hw1]; rfl
  have fm : xa_memory w3 = zr 8 (xa_memory u) 0 := by rw [hw3, hw2, hw1]; rfl
  have fb : xa_begun w3 = zr 8 (xa_begun u) 0 := by rw [hw3, hw2, hw1]; rfl
  have fp : xa_place w3 = zr 8 (xa_place u) 0 := by rw [hw3, hw2, hw1]; rfl
  have fs : xa_size w3 = zr 8 (xa_size u) 0 := by rw [hw3, hw2, hw1]; rfl
  have fh : xa_head w3 = zr 8 (xa_head u) (-1) := by rw [hw3, hw2, hw1]; rfl
  have fa : xa_applications w3 = zr 8 (xa_applications u) 0 := by rw [hw3, hw2, hw1]; rfl
  have fr : xa_reads w3 = zr 3 (xa_reads u) 0 := by rw [hw3, hw2, hw1]; rfl
  have fw : xa_wrongPlace w3 = xa_wrongPlace u := by rw [hw3, hw2, hw1]; rfl
  have fsh : xa_shown w3 = xa_shown u := by rw [hw3, hw2, hw1]; rfl
  have fo : xa_opens w3 = 0 ∧ xa_from w3 = -1 ∧ xa_at w3 = 0 ∧ xa_lastStages w3 = xa_stages u ∧ xa_shownCount w3 = 0 := by rw [hw3]; exact ⟨rfl, rfl, rfl, rfl, rfl⟩
  have g1 : ya_left t3 = zr 8 (ya_left v) 0 := by rw [ht3, ht2, ht1]; rfl
  have g2 : ya_last t3 = zr 8 (ya_last v) 0 := by rw [ht3, ht2, ht1]; rfl
  have g3 : ya_place t3 = zr 8 (ya_place v) 0 := by rw [ht3, ht2, ht1]; rfl
  have g4 : ya_begun t3 = zr 8 (ya_begun v) 0 := by rw [ht3, ht2, ht1]; rfl
  have g5 : ya_holds t3 = zr 8 (ya_holds v) 0 := by rw [ht3, ht2, ht1]; rfl
  have g6 : ya_applied t3 = zr 8 (ya_applied v) 0 := by rw [ht3, ht2, ht1]; rfl
  have g7 : ya_reads t3 = zr 3 (ya_reads v) 0 := by rw [ht3]; rfl
  have g8 : ya_wrongAt t3 = ya_wrongAt v := by rw [ht3, ht2, ht1]; rfl
  have g9 : ya_seen t3 = ya_seen v := by rw [ht3, ht2, ht1]; rfl
  have g10 : ya_paid t3 = 0 ∧ ya_at t3 = 0 ∧ ya_seenCount t3 = 0 ∧ ya_failedAt t3 = -1 ∧ ya_ran t3 = 1 := by rw [ht3, ht2, ht1]; exact ⟨rfl, rfl, rfl, rfl, rfl⟩
  obtain ⟨e, hz, hX⟩ := xt_112l (w := w3) (K := K) f1 hN (fun q hq => by rw [fk]; exact hK q hq) N 0 (-2) (by omega) ⟨-2, by decide, by omega, by omega, Or.inl rfl, fun q _ h => absurd h (by omega)⟩
  have IY : IY_ t3 := ⟨fun s hs => by rw [g1, g2, g3, g4, g5]; exact ⟨zr_in hs, zr_in hs, zr_in hs, zr_in hs, zr_in hs⟩, g10.1, g10.2.1, g10.2.2.2.2⟩
  have IX : IX_ (xm_s4 w3 e 0 0 (-1)) := by
    refine ⟨fun s hs => ?_, fo.1, fo.2.1, fo.2.2.1, rfl, rfl, rfl, ?_⟩
    · show xa_memory w3 s = 0 ∧ xa_begun w3 s = 0 ∧ xa_place w3 s = 0 ∧ xa_size w3 s = 0 ∧ xa_head w3 s = -1
      rw [fm, fb, fp, fs, fh]
      exact ⟨zr_in hs, zr_in hs, zr_in hs, zr_in hs, zr_in hs⟩
    · show xa_lastStages w3 = xa_stages w3
      rw [fo.2.2.2.1, f1]
      exact hSx
  have S7 := sb_4 (a := e) (b := 0) (c := 0) (d := -1) S6
  have rs : rl_rs (xm_s4 w3 e 0 0 (-1)) t3 := by
    refine ⟨?_, ?_, ?_, ?_, ⟨0, by omega, ?_, g10.2.2.1⟩, ?_, ⟨N, hN, ?_, fun s h1 h2 => ?_⟩, fun h => ?_⟩
    · show ya_wrongAt t3 = xa_wrongPlace w3; rw [g8, fw]; exact r1
    · show ya_applied t3 = xa_applications w3; rw [g6, fa, r2]
    · show ya_reads t3 = xa_reads w3; rw [g7, fr, r3]
    · show ya_seen t3 = xa_shown w3; rw [g9, fsh]; exact r4
    · show xa_shownCount w3 = 0; exact fo.2.2.2.2
    · show ya_failedAt t3 = -1; exact g10.2.2.2.1
    · show xa_lastStages w3 = nI N; rw [fo.2.2.2.1]; exact hSx
    · show xa_applications w3 s = 0; rw [fa]; exact zr_in h2
    · rw [g10.2.2.2.2] at h; exact absurd h (by decide)
  refine ⟨xm_s4 w3 e 0 0 (-1), t3, bt_init S7.1 ⟨tk_0 S7.2, fo.2.2.2.2, g10.2.2.1⟩ rs IX IY ?_, fun post hp => xw_start ?_, fun post hp => yw_begin ?_⟩
  · exact hz
  · rw [← hw1, ← hw2, ← hw3]
    exact hX post hp
  · rw [← ht1, ← ht2, ← ht3]
    exact hp
end
end
section
/-! Y: the loop of a run; X: the loops of the terminals -/
def ym_sn (u : SY) (z_seenCount : Int32) (z_seen : Nat → Int32) : SY := (u.1, u.2.1, u.2.2.1, u.2.2.2.1, u.2.2.2.2.1, u.2.2.2.2.2.1, z_seenCount, u.2.2.2.2.2.2.2.1, u.2.2.2.2.2.2.2.2.1, u.2.2.2.2.2.2.2.2.2.1, u.2.2.2.2.2.2.2.2.2.2.1, u.2.2.2.2.2.2.2.2.2.2.2.1, u.2.2.2.2.2.2.2.2.2.2.2.2.1, u.2.2.2.2.2.2.2.2.2.2.2.2.2.1, u.2.2.2.2.2.2.2.2.2.2.2.2.2.2.1, u.2.2.2.2.2.2.2.2.2.2.2.2.2.2.2.1, u.2.2.2.2.2.2.2.2.2.2.2.2.2.2.2.2.1, u.2.2.2.2.2.2.2.2.2.2.2.2.2.2.2.2.2.1, u.2.2.2.2.2.2.2.2.2.2.2.2.2.2.2.2.2.2.1, u.2.2.2.2.2.2.2.2.2.2.2.2.2.2.2.2.2.2.2.1, u.2.2.2.2.2.2.2.2.2.2.2.2.2.2.2.2.2.2.2.2.1, u.2.2.2.2.2.2.2.2.2.2.2.2.2.2.2.2.2.2.2.2.2.1, u.2.2.2.2.2.2.2.2.2.2.2.2.2.2.2.2.2.2.2.2.2.2.1, u.2.2.2.2.2.2.2.2.2.2.2.2.2.2.2.2.2.2.2.2.2.2.2.1, u.2.2.2.2.2.2.2.2.2.2.2.2.2.2.2.2.2.2.2.2.2.2.2.2.1, u.2.2.2.2.2.2.2.2.2.2.2.2.2.2.2.2.2.2.2.2.2.2.2.2.2.1, u.2.2.2.2.2.2.2.2.2.2.2.2.2.2.2.2.2.2.2.2.2.2.2.2.2.2.1, u.2.2.2.2.2.2.2.2.2.2.2.2.2.2.2.2.2.2.2.2.2.2.2.2.2.2.2.1, u.2.2.2.2.2.2.2.2.2.2.2.2.2.2.2.2.2.2.2.2.2.2.2.2.2.2.2.2.1, z_seen, u.2.2.2.2.2.2.2.2.2.2.2.2.2.2.2.2.2.2.2.2.2.2.2.2.2.2.2.2.2.2)
def xm_sh (u : SX) (z_shownCount : Int32) (z_shown : Nat → Int32) : SX := (u.1, u.2.1, u.2.2.1, u.2.2.2.1, u.2.2.2.2.1, u.2.2.2.2.2.1, u.2.2.2.2.2.2.1, u.2.2.2.2.2.2.2.1, u.2.2.2.2.2.2.2.2.1, u.2.2.2.2.2.2.2.2.2.1, u.2.2.2.2.2.2.2.2.2.2.1, u.2.2.2.2.2.2.2.2.2.2.2.1, u.2.2.2.2.2.2.2.2.2.2.2.2.1, u.2.2.2.2.2.2.2.2.2.2.2.2.2.1, u.2.2.2.2.2.2.2.2.2.2.2.2.2.2.1, u.2.2.2.2.2.2.2.2.2.2.2.2.2.2.2.1, z_shownCount, u.2.2.2.2.2.2.2.2.2.2.2.2.2.2.2.2.2.1, u.2.2.2.2.2.2.2.2.2.2.2.2.2.2.2.2.2.2.1, u.2.2.2.2.2.2.2.2.2.2.2.2.2.2.2.2.2.2.2.1, u.2.2.2.2.2.2.2.2.2.2.2.2.2.2.2.2.2.2.2.2.1, u.2.2.2.2.2.2.2.2.2.2.2.2.2.2.2.2.2.2.2.2.2.1, u.2.2.2.2.2.2.2.2.2.2.2.2.2.2.2.2.2.2.2.2.2.2.1, u.2.2.2.2.2.2.2.2.2.2.2.2.2.2.2.2.2.2.2.2.2.2.2.1, u.2.2.2.2.2.2.2.2.2.2.2.2.2.2.2.2.2.2.2.2.2.2.2.2.1, u.2.2.2.2.2.2.2.2.2.2.2.2.2.2.2.2.2.2.2.2.2.2.2.2.2.1, u.2.2.2.2.2.2.2.2.2.2.2.2.2.2.2.2.2.2.2.2.2.2.2.2.2.2.1, u.2.2.2.2.2.2.2.2.2.2.2.2.2.2.2.2.2.2.2.2.2.2.2.2.2.2.2.1, u.2.2.2.2.2.2.2.2.2.2.2.2.2.2.2.2.2.2.2.2.2.2.2.2.2.2.2.2.1, u.2.2.2.2.2.2.2.2.2.2.2.2.2.2.2.2.2.2.2.2.2.2.2.2.2.2.2.2.2.1, u.2.2.2.2.2.2.2.2.2.2.2.2.2.2.2.2.2.2.2.2.2.2.2.2.2.2.2.2.2.2.1, u.2.2.2.2.2.2.2.2.2.2.2.2.2.2.2.2.2.2.2.2.2.2.2.2.2.2.2.2.2.2.2.1, u.2.2.2.2.2.2.2.2.2.2.2.2.2.2.2.2.2.2.2.2.2.2.2.2.2.2.2.2.2.2.2.2.1, u.2.2.2.2.2.2.2.2.2.2.2.2.2.2.2.2.2.2.2.2.2.2.2.2.2.2.2.2.2.2.2.2.2.1, u.2.2.2.2.2.2.2.2.2.2.2.2.2.2.2.2.2.2.2.2.2.2.2.2.2.2.2.2.2.2.2.2.2.2.1, u.2.2.2.2.2.2.2.2.2.2.2.2.2.2.2.2.2.2.2.2.2.2.2.2.2.2.2.2.2.2.2.2.2.2.2.1, u.2.2.2.2.2.2.2.2.2.2.2.2.2.2.2.2.2.2.2.2.2.2.2.2.2.2.2.2.2.2.2.2.2.2.2.2.1, u.2.2.2.2.2.2.2.2.2.2.2.2.2.2.2.2.2.2.2.2.2.2.2.2.2.2.2.2.2.2.2.2.2.2.2.2.2.1, u.2.2.2.2.2.2.2.2.2.2.2.2.2.2.2.2.2.2.2.2.2.2.2.2.2.2.2.2.2.2.2.2.2.2.2.2.2.2.1, u.2.2.2.2.2.2.2.2.2.2.2.2.2.2.2.2.2.2.2.2.2.2.2.2.2.2.2.2.2.2.2.2.2.2.2.2.2.2.2.1, u.2.2.2.2.2.2.2.2.2.2.2.2.2.2.2.2.2.2.2.2.2.2.2.2.2.2.2.2.2.2.2.2.2.2.2.2.2.2.2.2.1, u.2.2.2.2.2.2.2.2.2.2.2.2.2.2.2.2.2.2.2.2.2.2.2.2.2.2.2.2.2.2.2.2.2.2.2.2.2.2.2.2.2.1, z_shown)
theorem i6_nI {k : Nat} (h : k < 2 ^ 31) : (nI k).toInt64 = lN k := Int64.toInt_inj.mp (by rw [Int32.toInt_toInt64, nI_toInt h, lN_toInt h])
theorem i6_le (x y : Int32) : x.toInt64 ≤ y.toInt64 ↔ x ≤ y := by rw [Int64.le_iff_toInt_le, Int32.le_iff_toInt_le, Int32.toInt_toInt64, Int32.toInt_toInt64]
theorem i6_none (x : Int32) : ¬ x.toInt64 = 9000000000000000000 := fun e => by
  have h := congrArg Int64.toInt e
  rw [Int32.toInt_toInt64, show (9000000000000000000 : Int64).toInt = 9000000000000000000 by decide] at h
  have := x.toInt_lt
  omega
theorem i6_1c (c : Int32) {k : Nat} (hk : k < 1000) : 1 + c.toInt64 ≤ lN k ↔ c < nI k := by
  have h1 := c.le_toInt
  have h2 := c.toInt_lt
  have e : (1 + c.toInt64).toInt = 1 + c.toInt := by
    rw [Int64.toInt_add, Int32.toInt_toInt64, show (1 : Int64).toInt = 1 from by decide]
    exact Int.bmod_eq_of_le (by omega) (by omega)
  rw [Int64.le_iff_toInt_le, e, Int32.lt_iff_toInt_lt, nI_toInt (by omega), lN_toInt (by omega)]
  omega
def yR_n (post : Int64 → SY → Prop) (x1 x2 : Int32) (x3 : Int64) (f : Nat) (x5 x7 : Int64) (x9 x10 x11 : Int32) (w : SY) : Prop := wY_run_81 post x1 x2 x3 f x5 x7 x9 x10 x11 (ya_limit w) (ya_source w) (ya_stages w) (ya_wrongAt w) (ya_paid w) (ya_at w) (ya_seenCount w) (ya_failedAt w) (ya_v w) (ya_valTop w) (ya_opTop w) (ya_ran w) (ya_broken w) (ya_outcome w) (ya_lists w) (ya_sizes w) (ya_tokens w) (ya_counts w) (ya_kinds w) (ya_numbers w) (ya_left w) (ya_last w) (ya_place w) (ya_begun w) (ya_held w) (ya_keys w) (ya_holds w) (ya_applied w) (ya_reads w) (ya_seen w) (ya_vals w) (ya_ops w)
def yR_ (post : Int64 → SY → Prop) (x1 x2 : Int32) (x3 x5 x7 : Int64) (x9 x10 x11 : Int32) (w : SY) : Prop := ∃ f, yR_n post x1 x2 x3 f x5 x7 x9 x10 x11 w
def yF_ (post : Int64 → SY → Prop) (x1 : Int32) (x5 x7 : Int64) (x9 x10 x11 : Int32) (w : SY) : Prop := wY_run_282 post x1 x5 x7 x9 x10 x11 (ya_limit w) (ya_source w) (ya_stages w) (ya_wrongAt w) (ya_paid w) (ya_at w) (ya_seenCount w) (ya_failedAt w) (ya_v w) (ya_valTop w) (ya_opTop w) (ya_ran w) (ya_broken w) (ya_outcome w) (ya_lists w) (ya_sizes w) (ya_tokens w) (ya_counts w) (ya_kinds w) (ya_numbers w) (ya_left w) (ya_last w) (ya_place w) (ya_begun w) (ya_held w) (ya_keys w) (ya_holds w) (ya_applied w) (ya_reads w) (ya_seen w) (ya_vals w) (ya_ops w)
section
variable {post : Int64 → SY → Prop} {x1 x2 x9 x10 x11 z10 z11 y : Int32} {x3 x5 x7 z5 : Int64} {w w1 w2 : SY} {f : Nat}
theorem yR_stop (h : x3 ≤ x7) (hp : yF_ post x1 x5 x7 x9 x10 x11 w) : yR_ post x1 x2 x3 x5 x7 x9 x10 x11 w := ⟨1, br_t h hp⟩
theorem yR_ov (h9 : ¬ x9 = 0) (hp : yF_ post x1 x5 x7 x9 x10 x11 w) : yR_ post x1 x2 x3 x5 x7 x9 x10 x11 w := ⟨1, And.intro (fun _ => hp) (fun _ => br_f h9 hp)⟩
theorem yR_hit (h10 : ¬ x10 = 0) (hp : yF_ post x1 x5 x7 0 x10 x11 w) : yR_ post x1 x2 x3 x5 x7 0 x10 x11 w := ⟨1, And.intro (fun _ => hp) (fun _ => br_t rfl (br_f h10 hp))⟩
theorem yR_out (h : ¬ x3 ≤ x7) (hq : ∀ Q : Int32 → SY → Prop, Q 3 w1 → wpY_pull Q w) (hp : post (ya_outcome w1) w1) : yR_ post x1 x2 x3 x5 x7 0 0 x11 w :=
  ⟨1, br_f h (br_t rfl (br_t rfl (hq _ (br_t rfl hp))))⟩
theorem yR_end (h : ¬ x3 ≤ x7) (hq : ∀ Q : Int32 → SY → Prop, Q 0 w1 → wpY_pull Q w) (hp : yF_ post x1 x5 x7 1 0 x11 w1) : yR_ post x1 x2 x3 x5 x7 0 0 x11 w := by
  obtain ⟨f, hf⟩ := yR_ov (x2 := x2) (x3 := x3) (x9 := 1) (by decide) hp
  exact ⟨f + 1, br_f h (br_t rfl (br_t rfl (hq _ (br_f (by decide) (br_t rfl (br_f (by decide) hf))))))⟩
theorem y_255 (hp : yR_n post x1 x2 x3 f x5 (x7 + 1) x9 x10 (ya_v w) w) : wY_run_255 post (wY_run_81 post x1 x2 x3 f) x1 x2 x3 x5 x7 x9 x10 x11 (ya_limit w) (ya_source w) (ya_stages w) (ya_wrongAt w) (ya_paid w) (ya_at w) (ya_seenCount w) (ya_failedAt w) (ya_v w) (ya_valTop w) (ya_opTop w) (ya_ran w) (ya_broken w) (ya_outcome w) (ya_lists w) (ya_sizes w) (ya_tokens w) (ya_counts w) (ya_kinds w) (ya_numbers w) (ya_left w) (ya_last w) (ya_place w) (ya_begun w) (ya_held w) (ya_keys w) (ya_holds w) (ya_applied w) (ya_reads w) (ya_seen w) (ya_vals w) (ya_ops w) := br_f (by decide) (nm_e hp)
theorem y_260 (hp : yR_n post x1 x2 x3 f x5 (x7 + 1) x9 x10 x11 w) : wY_run_260 post (wY_run_81 post x1 x2 x3 f) x1 x2 x3 x5 x7 x9 x10 x11 0 (ya_limit w) (ya_source w) (ya_stages w) (ya_wrongAt w) (ya_paid w) (ya_at w) (ya_seenCount w) (ya_failedAt w) (ya_v w) (ya_valTop w) (ya_opTop w) (ya_ran w) (ya_broken w) (ya_outcome w) (ya_lists w) (ya_sizes w) (ya_tokens w) (ya_counts w) (ya_kinds w) (ya_numbers w) (ya_left w) (ya_last w) (ya_place w) (ya_begun w) (ya_held w) (ya_keys w) (ya_holds w) (ya_applied w) (ya_reads w) (ya_seen w) (ya_vals w) (ya_ops w) := br_t rfl (nm_e hp)
theorem y_245 (hy : x1 = 2 ∨ x1 = 4 → yR_n post x1 x2 x3 f x5 (x7 + 1) x9 x10 (ya_v w) w) (hn : ¬ (x1 = 2 ∨ x1 = 4) → yR_n post x1 x2 x3 f x5 (x7 + 1) x9 x10 x11 w) :
    wY_run_245 post (wY_run_81 post x1 x2 x3 f) x1 x2 x3 x5 x7 x9 x10 x11 (ya_limit w) (ya_source w) (ya_stages w) (ya_wrongAt w) (ya_paid w) (ya_at w) (ya_seenCount w) (ya_failedAt w) (ya_v w) (ya_valTop w) (ya_opTop w) (ya_ran w) (ya_broken w) (ya_outcome w) (ya_lists w) (ya_sizes w) (ya_tokens w) (ya_counts w) (ya_kinds w) (ya_numbers w) (ya_left w) (ya_last w) (ya_place w) (ya_begun w) (ya_held w) (ya_keys w) (ya_holds w) (ya_applied w) (ya_reads w) (ya_seen w) (ya_vals w) (ya_ops w) :=
  And.intro (fun c => y_255 (hy (Or.inl c))) (fun c => And.intro (fun c' => y_255 (hy (Or.inr c'))) (fun c' => y_260 (hn (fun z => z.elim c c'))))
theorem y_230 (hy : (x1 = 6 ∧ x11 < ya_v w) ∨ x1 = 2 ∨ x1 = 4 → yR_n post x1 x2 x3 f x5 (x7 + 1) x9 x10 (ya_v w) w) (hn : ¬ ((x1 = 6 ∧ x11 < ya_v w) ∨ x1 = 2 ∨ x1 = 4) → yR_n post x1 x2 x3 f x5 (x7 + 1) x9 x10 x11 w) :
    wY_run_230 post (wY_run_81 post x1 x2 x3 f) x1 x2 x3 x5 x7 x9 x10 x11 (ya_limit w) (ya_source w) (ya_stages w) (ya_wrongAt w) (ya_paid w) (ya_at w) (ya_seenCount w) (ya_failedAt w) (ya_v w) (ya_valTop w) (ya_opTop w) (ya_ran w) (ya_broken w) (ya_outcome w) (ya_lists w) (ya_sizes w) (ya_tokens w) (ya_counts w) (ya_kinds w) (ya_numbers w) (ya_left w) (ya_last w) (ya_place w) (ya_begun w) (ya_held w) (ya_keys w) (ya_holds w) (ya_applied w) (ya_reads w) (ya_seen w) (ya_vals w) (ya_ops w) :=
  And.intro (fun c => And.intro (fun d => y_255 (hy (Or.inl ⟨c, d⟩))) (fun d => y_245 (fun z => hy (Or.inr z)) (fun z => hn (fun q => q.elim (fun q => d q.2) z)))) (fun c => y_245 (fun z => hy (Or.inr z)) (fun z => hn (fun q => q.elim (fun q => c q.1) z)))
theorem y_207 (hy : x7 = 0 ∨ (x1 = 5 ∧ ya_v w < x11) ∨ (x1 = 6 ∧ x11 < ya_v w) ∨ x1 = 2 ∨ x1 = 4 → yR_n post x1 x2 x3 f x5 (x7 + 1) x9 x10 (ya_v w) w) (hn : ¬ (x7 = 0 ∨ (x1 = 5 ∧ ya_v w < x11) ∨ (x1 = 6 ∧ x11 < ya_v w) ∨ x1 = 2 ∨ x1 = 4) → yR_n post x1 x2 x3 f x5 (x7 + 1) x9 x10 x11 w) :
    wY_run_207 post (wY_run_81 post x1 x2 x3 f) x1 x2 x3 x7 x9 x10 x11 x5 (ya_limit w) (ya_source w) (ya_stages w) (ya_wrongAt w) (ya_paid w) (ya_at w) (ya_seenCount w) (ya_failedAt w) (ya_v w) (ya_valTop w) (ya_opTop w) (ya_ran w) (ya_broken w) (ya_outcome w) (ya_lists w) (ya_sizes w) (ya_tokens w) (ya_counts w) (ya_kinds w) (ya_numbers w) (ya_left w) (ya_last w) (ya_place w) (ya_begun w) (ya_held w) (ya_keys w) (ya_holds w) (ya_applied w) (ya_reads w) (ya_seen w) (ya_vals w) (ya_ops w) :=
  And.intro (fun c => y_255 (hy (Or.inl c))) (fun c => And.intro (fun d => And.intro (fun e => y_255 (hy (Or.inr (Or.inl ⟨d, e⟩)))) (fun e => y_230 (fun z => hy (Or.inr (Or.inr z))) (fun z => hn (fun q => q.elim c (fun q => q.elim (fun q => e q.2) z)))))
    (fun d => y_230 (fun z => hy (Or.inr (Or.inr z))) (fun z => hn (fun q => q.elim c (fun q => q.elim (fun q => d q.1) z)))))
theorem y_158 (h10 : (x1 = 3 ∧ ¬ ya_v w ≤ x2 ∧ z10 = 1) ∨ (¬ (x1 = 3 ∧ ¬ ya_v w ≤ x2) ∧ z10 = 0)) (h5 : (x1 = 7 ∧ z5 = x5 * 31 + (ya_v w).toInt64) ∨ (¬ x1 = 7 ∧ z5 = x5 + (ya_v w).toInt64))
    (hb : ((x7 = 0 ∨ (x1 = 5 ∧ ya_v w < x11) ∨ (x1 = 6 ∧ x11 < ya_v w) ∨ x1 = 2 ∨ x1 = 4) ∧ z11 = ya_v w) ∨ (¬ (x7 = 0 ∨ (x1 = 5 ∧ ya_v w < x11) ∨ (x1 = 6 ∧ x11 < ya_v w) ∨ x1 = 2 ∨ x1 = 4) ∧ z11 = x11))
    (hp : yR_n post x1 x2 x3 f z5 (x7 + 1) x9 z10 z11 w) : wY_run_158 post (wY_run_81 post x1 x2 x3 f) x1 x2 x3 x5 x7 x9 x11 (ya_limit w) (ya_source w) (ya_stages w) (ya_wrongAt w) (ya_paid w) (ya_at w) (ya_seenCount w) (ya_failedAt w) (ya_v w) (ya_valTop w) (ya_opTop w) (ya_ran w) (ya_broken w) (ya_outcome w) (ya_lists w) (ya_sizes w) (ya_tokens w) (ya_counts w) (ya_kinds w) (ya_numbers w) (ya_left w) (ya_last w) (ya_place w) (ya_begun w) (ya_held w) (ya_keys w) (ya_holds w) (ya_applied w) (ya_reads w) (ya_seen w) (ya_vals w) (ya_ops w) := by
  have g7 : wY_run_207 post (wY_run_81 post x1 x2 x3 f) x1 x2 x3 x7 x9 z10 x11 z5 (ya_limit w) (ya_source w) (ya_stages w) (ya_wrongAt w) (ya_paid w) (ya_at w) (ya_seenCount w) (ya_failedAt w) (ya_v w) (ya_valTop w) (ya_opTop w) (ya_ran w) (ya_broken w) (ya_outcome w) (ya_lists w) (ya_sizes w) (ya_tokens w) (ya_counts w) (ya_kinds w) (ya_numbers w) (ya_left w) (ya_last w) (ya_place w) (ya_begun w) (ya_held w) (ya_keys w) (ya_holds w) (ya_applied w) (ya_reads w) (ya_seen w) (ya_vals w) (ya_ops w) := by
    refine y_207 (fun b => ?_) (fun b => ?_)
    · rcases hb with ⟨_, e⟩ | ⟨nb, _⟩
      · rw [← e]; exact hp
      · exact absurd b nb
    · rcases hb with ⟨nb, _⟩ | ⟨_, e⟩
      · exact absurd nb b
      · rw [← e]; exact hp
  have g6 : wY_run_176 post (wY_run_81 post x1 x2 x3 f) x1 x2 x3 x5 x7 x9 x11 z10 (ya_limit w) (ya_source w) (ya_stages w) (ya_wrongAt w) (ya_paid w) (ya_at w) (ya_seenCount w) (ya_failedAt w) (ya_v w) (ya_valTop w) (ya_opTop w) (ya_ran w) (ya_broken w) (ya_outcome w) (ya_lists w) (ya_sizes w) (ya_tokens w) (ya_counts w) (ya_kinds w) (ya_numbers w) (ya_left w) (ya_last w) (ya_place w) (ya_begun w) (ya_held w) (ya_keys w) (ya_holds w) (ya_applied w) (ya_reads w) (ya_seen w) (ya_vals w) (ya_ops w) := by
    rcases h5 with ⟨a, b⟩ | ⟨a, b⟩
    · rw [b] at g7; exact br_t a g7
    · rw [b] at g7; exact br_f a g7
  rcases h10 with ⟨a, b, c⟩ | ⟨a, c⟩
  · rw [c] at g6; exact br_t a (br_f b g6)
  · rw [c] at g6
    exact And.intro (fun d => And.intro (fun _ => g6) (fun e => absurd ⟨d, e⟩ a)) (fun _ => g6)
theorem yR_g (h : ¬ x3 ≤ x7) (hq : ∀ Q : Int32 → SY → Prop, Q 1 w → wpY_pull Q w1) (h8 : ¬ x1 = 8) (h10 : (x1 = 3 ∧ ¬ ya_v w ≤ x2 ∧ z10 = 1) ∨ (¬ (x1 = 3 ∧ ¬ ya_v w ≤ x2) ∧ z10 = 0)) (h5 : (x1 = 7 ∧ z5 = x5 * 31 + (ya_v w).toInt64) ∨ (¬ x1 = 7 ∧ z5 = x5 + (ya_v w).toInt64))
    (hb : ((x7 = 0 ∨ (x1 = 5 ∧ ya_v w < x11) ∨ (x1 = 6 ∧ x11 < ya_v w) ∨ x1 = 2 ∨ x1 = 4) ∧ z11 = ya_v w) ∨ (¬ (x7 = 0 ∨ (x1 = 5 ∧ ya_v w < x11) ∨ (x1 = 6 ∧ x11 < ya_v w) ∨ x1 = 2 ∨ x1 = 4) ∧ z11 = x11))
    (hp : yR_ post x1 x2 x3 z5 (x7 + 1) 0 z10 z11 w) : yR_ post x1 x2 x3 x5 x7 0 0 x11 w1 := by
  obtain ⟨f, hf⟩ := hp
  exact ⟨f + 1, br_f h (br_t rfl (br_t rfl (hq _ (br_f (by decide) (br_f (by decide) (br_t rfl (br_f h8 (y_158 h10 h5 hb hf))))))))⟩
theorem yR_g8 {m : Nat} {A : Nat → Int32} (h : ¬ x3 ≤ x7) (hq : ∀ Q : Int32 → SY → Prop, Q 1 w → wpY_pull Q w1) (h8 : x1 = 8) (hm : m < 16) (hs : ya_seenCount w = nI m) (hA : A = upd (ya_seen w) m (ya_v w))
    (hb : (x7 = 0 ∧ z11 = ya_v w) ∨ (¬ x7 = 0 ∧ z11 = x11))
    (hp : yR_ post x1 x2 x3 (x5 + (ya_v w).toInt64) (x7 + 1) 0 0 z11 (ym_sn w (nI (m + 1)) A)) : yR_ post x1 x2 x3 x5 x7 0 0 x11 w1 := by
  obtain ⟨f, hf⟩ := hp
  have e1 : ya_seenCount w + 1 = nI (m + 1) := by rw [hs, nI_1]
  have hi : vp_in (ya_seenCount w) 16 := by rw [hs]; exact vp_in_nI hm (by omega)
  have e2 : (ya_seenCount w).toNatClampNeg = m := by rw [hs]; exact nI_clamp (by omega)
  have n2 : ¬ (8 : Int32) = 2 := by decide
  have n3 : ¬ (8 : Int32) = 3 := by decide
  have n4 : ¬ (8 : Int32) = 4 := by decide
  have n5 : ¬ (8 : Int32) = 5 := by decide
  have n6 : ¬ (8 : Int32) = 6 := by decide
  have n7 : ¬ (8 : Int32) = 7 := by decide
  have g : wY_run_158 post (wY_run_81 post x1 x2 x3 f) x1 x2 x3 x5 x7 0 x11 (ya_limit (ym_sn w (nI (m + 1)) A)) (ya_source (ym_sn w (nI (m + 1)) A)) (ya_stages (ym_sn w (nI (m + 1)) A)) (ya_wrongAt (ym_sn w (nI (m + 1)) A)) (ya_paid (ym_sn w (nI (m + 1)) A)) (ya_at (ym_sn w (nI (m + 1)) A)) (ya_seenCount (ym_sn w (nI (m + 1)) A)) (ya_failedAt (ym_sn w (nI (m + 1)) A)) (ya_v (ym_sn w (nI (m + 1)) A)) (ya_valTop (ym_sn w (nI (m + 1)) A)) (ya_opTop (ym_sn w (nI (m + 1)) A)) (ya_ran (ym_sn w (nI (m + 1)) A)) (ya_broken (ym_sn w (nI (m + 1)) A)) (ya_outcome (ym_sn w (nI (m + 1)) A)) (ya_lists (ym_sn w (nI (m + 1)) A)) (ya_sizes (ym_sn w (nI (m + 1)) A)) (ya_tokens (ym_sn w (nI (m + 1)) A)) (ya_counts (ym_sn w (nI (m + 1)) A)) (ya_kinds (ym_sn w (nI (m + 1)) A)) (ya_numbers (ym_sn w (nI (m + 1)) A)) (ya_left (ym_sn w (nI (m + 1)) A)) (ya_last (ym_sn w (nI (m + 1)) A)) (ya_place (ym_sn w (nI (m + 1)) A)) (ya_begun (ym_sn w (nI (m + 1)) A)) (ya_held (ym_sn w (nI (m + 1)) A)) (ya_keys (ym_sn w (nI (m + 1)) A)) (ya_holds (ym_sn w (nI (m + 1)) A)) (ya_applied (ym_sn w (nI (m + 1)) A)) (ya_reads (ym_sn w (nI (m + 1)) A)) (ya_seen (ym_sn w (nI (m + 1)) A)) (ya_vals (ym_sn w (nI (m + 1)) A)) (ya_ops (ym_sn w (nI (m + 1)) A)) := by
    subst h8
    refine y_158 (z10 := 0) (z5 := x5 + (ya_v w).toInt64) (z11 := z11) (Or.inr ⟨fun c => n3 c.1, rfl⟩) (Or.inr ⟨n7, rfl⟩) ?_ hf
    rcases hb with ⟨a, b⟩ | ⟨a, b⟩
    · exact Or.inl ⟨Or.inl a, b⟩
    · exact Or.inr ⟨fun c => c.elim a (fun c => c.elim (fun c => n5 c.1) (fun c => c.elim (fun c => n6 c.1) (fun c => c.elim n2 n4))), b⟩
  refine ⟨f + 1, br_f h (br_t rfl (br_t rfl (hq _ (br_f (by decide) (br_f (by decide) (br_t rfl (br_t h8 (nm_r e1 (And.intro hi (fun a ea => ?_)))))))))) ⟩
  rw [e2, ← hA] at ea
  rw [ea]
  exact g
end
def xR_ (post : Int64 → SX → Prop) (r : Int64) (w : SX) : Prop := wX_run_86 post r (xa_limit w) (xa_source w) (xa_stages w) (xa_tokens w) (xa_wrongPlace w) (xa_waits w) (xa_parens w) (xa_opens w) (xa_from w) (xa_at w) (xa_ended w) (xa_spent w) (xa_stopped w) (xa_out w) (xa_lastStages w) (xa_failedStage w) (xa_shownCount w) (xa_element w) (xa_length w) (xa_kind w) (xa_constant w) (xa_step w) (xa_number w) (xa_steps w) (xa_quick w) (xa_token w) (xa_waiting w) (xa_compared w) (xa_operand w) (xa_memory w) (xa_begun w) (xa_place w) (xa_held w) (xa_keyOf w) (xa_next w) (xa_size w) (xa_head w) (xa_openStage w) (xa_openValue w) (xa_openLeft w) (xa_applications w) (xa_reads w) (xa_shown w)
def xT_ (post : Int64 → SX → Prop) (x1 : Int32) (x2 : Int64) (w : SX) : Prop := ∃ f, wX_total_12 post x1 f x2 (xa_limit w) (xa_source w) (xa_stages w) (xa_tokens w) (xa_wrongPlace w) (xa_waits w) (xa_parens w) (xa_opens w) (xa_from w) (xa_at w) (xa_ended w) (xa_spent w) (xa_stopped w) (xa_out w) (xa_lastStages w) (xa_failedStage w) (xa_shownCount w) (xa_element w) (xa_length w) (xa_kind w) (xa_constant w) (xa_step w) (xa_number w) (xa_steps w) (xa_quick w) (xa_token w) (xa_waiting w) (xa_compared w) (xa_operand w) (xa_memory w) (xa_begun w) (xa_place w) (xa_held w) (xa_keyOf w) (xa_next w) (xa_size w) (xa_head w) (xa_openStage w) (xa_openValue w) (xa_openLeft w) (xa_applications w) (xa_reads w) (xa_shown w)
def xC_ (post : Int64 → SX → Prop) (x1 : Int32) (x2 : Int64) (w : SX) : Prop := ∃ f, wX_choose_4 post x1 f x2 (xa_limit w) (xa_source w) (xa_stages w) (xa_tokens w) (xa_wrongPlace w) (xa_waits w) (xa_parens w) (xa_opens w) (xa_from w) (xa_at w) (xa_ended w) (xa_spent w) (xa_stopped w) (xa_out w) (xa_lastStages w) (xa_failedStage w) (xa_shownCount w) (xa_element w) (xa_length w) (xa_kind w) (xa_constant w) (xa_step w) (xa_number w) (xa_steps w) (xa_quick w) (xa_token w) (xa_waiting w) (xa_compared w) (xa_operand w) (xa_memory w) (xa_begun w) (xa_place w) (xa_held w) (xa_keyOf w) (xa_next w) (xa_size w) (xa_head w) (xa_openStage w) (xa_openValue w) (xa_openLeft w) (xa_applications w) (xa_reads w) (xa_shown w)
def xA_ (post : Int64 → SX → Prop) (x1 : Int32) (w : SX) : Prop := ∃ f, wX_any_0 post x1 f (xa_limit w) (xa_source w) (xa_stages w) (xa_tokens w) (xa_wrongPlace w) (xa_waits w) (xa_parens w) (xa_opens w) (xa_from w) (xa_at w) (xa_ended w) (xa_spent w) (xa_stopped w) (xa_out w) (xa_lastStages w) (xa_failedStage w) (xa_shownCount w) (xa_element w) (xa_length w) (xa_kind w) (xa_constant w) (xa_step w) (xa_number w) (xa_steps w) (xa_quick w) (xa_token w) (xa_waiting w) (xa_compared w) (xa_operand w) (xa_memory w) (xa_begun w) (xa_place w) (xa_held w) (xa_keyOf w) (xa_next w) (xa_size w) (xa_head w) (xa_openStage w) (xa_openValue w) (xa_openLeft w) (xa_applications w) (xa_reads w) (xa_shown w)
def xE_ (post : Int64 → SX → Prop) (x1 : Int32) (x2 : Int64) (x4 : Int32) (w : SX) : Prop := ∃ f, wX_elementAt_7 post x1 f x2 x4 (xa_limit w) (xa_source w) (xa_stages w) (xa_tokens w) (xa_wrongPlace w) (xa_waits w) (xa_parens w) (xa_opens w) (xa_from w) (xa_at w) (xa_ended w) (xa_spent w) (xa_stopped w) (xa_out w) (xa_lastStages w) (xa_failedStage w) (xa_shownCount w) (xa_element w) (xa_length w) (xa_kind w) (xa_constant w) (xa_step w) (xa_number w) (xa_steps w) (xa_quick w) (xa_token w) (xa_waiting w) (xa_compared w) (xa_operand w) (xa_memory w) (xa_begun w) (xa_place w) (xa_held w) (xa_keyOf w) (xa_next w) (xa_size w) (xa_head w) (xa_openStage w) (xa_openValue w) (xa_openLeft w) (xa_applications w) (xa_reads w) (xa_shown w)
def xI_ (post : Int64 → SX → Prop) (x2 : Int32) (w : SX) : Prop := ∃ f, wX_list_13 post x2 f (xa_limit w) (xa_source w) (xa_stages w) (xa_tokens w) (xa_wrongPlace w) (xa_waits w) (xa_parens w) (xa_opens w) (xa_from w) (xa_at w) (xa_ended w) (xa_spent w) (xa_stopped w) (xa_out w) (xa_lastStages w) (xa_failedStage w) (xa_shownCount w) (xa_element w) (xa_length w) (xa_kind w) (xa_constant w) (xa_step w) (xa_number w) (xa_steps w) (xa_quick w) (xa_token w) (xa_waiting w) (xa_compared w) (xa_operand w) (xa_memory w) (xa_begun w) (xa_place w) (xa_held w) (xa_keyOf w) (xa_next w) (xa_size w) (xa_head w) (xa_openStage w) (xa_openValue w) (xa_openLeft w) (xa_applications w) (xa_reads w) (xa_shown w)
section
variable {post : Int64 → SX → Prop} {x1 x4 : Int32} {x2 z : Int64} {w w1 : SX} {m : Nat}
theorem xT_end (hq : ∀ Q : Int32 → SX → Prop, Q 0 w1 → wpX_pull Q w) (hp : post x2 w1) : xT_ post x1 x2 w := ⟨1, hq _ (br_t rfl hp)⟩
theorem xT_give (hq : ∀ Q : Int32 → SX → Prop, Q 1 w1 → wpX_pull Q w) (hz : (x1 = 0 ∧ z = x2 + 1) ∨ (¬ x1 = 0 ∧ x1 = 1 ∧ z = x2 + (xa_out w1).toInt64) ∨ (¬ x1 = 0 ∧ ¬ x1 = 1 ∧ z = x2 * 31 + (xa_out w1).toInt64)) (hp : xT_ post x1 z w1) : xT_ post x1 x2 w := by
  obtain ⟨f, hf⟩ := hp
  refine ⟨f + 1, hq _ (br_f (by decide) ?_)⟩
  rcases hz with ⟨a, e⟩ | ⟨a, b, e⟩ | ⟨a, b, e⟩
  · exact br_t a (nm_r e.symm hf)
  · exact br_f a (br_t b (nm_r e.symm hf))
  · exact br_f a (br_f b (nm_r e.symm hf))
theorem xC_end (hq : ∀ Q : Int32 → SX → Prop, Q 0 w1 → wpX_pull Q w) (hp : post x2 w1) : xC_ post x1 x2 w := ⟨1, hq _ (br_t rfl hp)⟩
theorem xC_give (hq : ∀ Q : Int32 → SX → Prop, Q 1 w1 → wpX_pull Q w)
    (hz : ((x1 = 4 ∨ x2 = 9000000000000000000 ∨ (x1 = 5 ∧ ¬ x2 ≤ (xa_out w1).toInt64) ∨ (¬ x1 = 5 ∧ ¬ (xa_out w1).toInt64 ≤ x2)) ∧ z = (xa_out w1).toInt64) ∨ (¬ (x1 = 4 ∨ x2 = 9000000000000000000 ∨ (x1 = 5 ∧ ¬ x2 ≤ (xa_out w1).toInt64) ∨ (¬ x1 = 5 ∧ ¬ (xa_out w1).toInt64 ≤ x2)) ∧ z = x2))
    (hp : xC_ post x1 z w1) : xC_ post x1 x2 w := by
  obtain ⟨f, hf⟩ := hp
  have gy : (x1 = 4 ∨ x2 = 9000000000000000000 ∨ (x1 = 5 ∧ ¬ x2 ≤ (xa_out w1).toInt64) ∨ (¬ x1 = 5 ∧ ¬ (xa_out w1).toInt64 ≤ x2)) → wX_choose_52 post (wX_choose_4 post x1 f) x1 x2 (xa_limit w1) (xa_source w1) (xa_stages w1) (xa_tokens w1) (xa_wrongPlace w1) (xa_waits w1) (xa_parens w1) (xa_opens w1) (xa_from w1) (xa_at w1) (xa_ended w1) (xa_spent w1) (xa_stopped w1) (xa_out w1) (xa_lastStages w1) (xa_failedStage w1) (xa_shownCount w1) (xa_element w1) (xa_length w1) (xa_kind w1) (xa_constant w1) (xa_step w1) (xa_number w1) (xa_steps w1) (xa_quick w1) (xa_token w1) (xa_waiting w1) (xa_compared w1) (xa_operand w1) (xa_memory w1) (xa_begun w1) (xa_place w1) (xa_held w1) (xa_keyOf w1) (xa_next w1) (xa_size w1) (xa_head w1) (xa_openStage w1) (xa_openValue w1) (xa_openLeft w1) (xa_applications w1) (xa_reads w1) (xa_shown w1) := fun b => by
    rcases hz with ⟨_, e⟩ | ⟨nb, _⟩
    · rw [e] at hf; exact br_f (by decide) hf
    · exact absurd b nb
  have gn : ¬ (x1 = 4 ∨ x2 = 9000000000000000000 ∨ (x1 = 5 ∧ ¬ x2 ≤ (xa_out w1).toInt64) ∨ (¬ x1 = 5 ∧ ¬ (xa_out w1).toInt64 ≤ x2)) → wX_choose_56 post (wX_choose_4 post x1 f) x1 x2 (xa_limit w1) (xa_source w1) (xa_stages w1) (xa_tokens w1) (xa_wrongPlace w1) (xa_waits w1) (xa_parens w1) (xa_opens w1) (xa_from w1) (xa_at w1) (xa_ended w1) (xa_spent w1) (xa_stopped w1) (xa_out w1) (xa_lastStages w1) (xa_failedStage w1) (xa_shownCount w1) (xa_element w1) (xa_length w1) (xa_kind w1) (xa_constant w1) (xa_step w1) (xa_number w1) (xa_steps w1) (xa_quick w1) (xa_token w1) (xa_waiting w1) (xa_compared w1) (xa_operand w1) (xa_memory w1) (xa_begun w1) (xa_place w1) (xa_held w1) (xa_keyOf w1) (xa_next w1) (xa_size w1) (xa_head w1) (xa_openStage w1) (xa_openValue w1) (xa_openLeft w1) (xa_applications w1) (xa_reads w1) (xa_shown w1) := fun b => by
    rcases hz with ⟨nb, _⟩ | ⟨_, e⟩
    · exact absurd nb b
    · rw [e] at hf; exact br_t rfl hf
  exact ⟨f + 1, hq _ (br_f (by decide) (And.intro (fun a => gy (Or.inl a)) (fun a => And.intro (fun b => gy (Or.inr (Or.inl b))) (fun b =>
    And.intro (fun c => And.intro (fun d => gn (fun q => q.elim a (fun q => q.elim b (fun q => q.elim (fun q => q.2 d) (fun q => q.1 c))))) (fun d => gy (Or.inr (Or.inr (Or.inl ⟨c, d⟩)))))
      (fun c => And.intro (fun d => gn (fun q => q.elim a (fun q => q.elim b (fun q => q.elim (fun q => c q.1) (fun q => q.2 d))))) (fun d => gy (Or.inr (Or.inr (Or.inr ⟨c, d⟩)))))))))⟩
theorem xA_end (hq : ∀ Q : Int32 → SX → Prop, Q 0 w1 → wpX_pull Q w) (hp : post 0 w1) : xA_ post x1 w := ⟨1, hq _ (br_t rfl hp)⟩
theorem xA_hit (hq : ∀ Q : Int32 → SX → Prop, Q 1 w1 → wpX_pull Q w) (h : ¬ xa_out w1 ≤ x1) (hp : post 1 w1) : xA_ post x1 w := ⟨1, hq _ (br_f (by decide) (br_f h hp))⟩
theorem xA_give (hq : ∀ Q : Int32 → SX → Prop, Q 1 w1 → wpX_pull Q w) (h : xa_out w1 ≤ x1) (hp : xA_ post x1 w1) : xA_ post x1 w := by
  obtain ⟨f, hf⟩ := hp
  exact ⟨f + 1, hq _ (br_f (by decide) (br_t h hf))⟩
theorem xE_stop (h : x1 < x4) (hp : post x2 w) : xE_ post x1 x2 x4 w := ⟨1, br_t h hp⟩
theorem xE_end (h : ¬ x1 < x4) (hq : ∀ Q : Int32 → SX → Prop, Q 0 w1 → wpX_pull Q w) (hp : post 9000000000000000000 w1) : xE_ post x1 x2 x4 w := ⟨1, br_f h (hq _ (br_t rfl hp))⟩
theorem xE_give {z4 : Int32} (h : ¬ x1 < x4) (hq : ∀ Q : Int32 → SX → Prop, Q 1 w1 → wpX_pull Q w) (h4 : x4 + 1 = z4) (hp : xE_ post x1 (xa_out w1).toInt64 z4 w1) : xE_ post x1 x2 x4 w := by
  obtain ⟨f, hf⟩ := hp
  exact ⟨f + 1, br_f h (hq _ (br_f (by decide) (nm_r h4 hf)))⟩
theorem xI_stop (h : x1 ≤ xa_shownCount w) (hp : post (xa_shownCount w).toInt64 w) : xI_ post x1 w := ⟨1, br_t h hp⟩
theorem xI_end (h : ¬ x1 ≤ xa_shownCount w) (hq : ∀ Q : Int32 → SX → Prop, Q 0 w1 → wpX_pull Q w) (hp : post (xa_shownCount w1).toInt64 w1) : xI_ post x1 w := ⟨1, br_f h (hq _ (br_t rfl hp))⟩
theorem xI_give {A : Nat → Int32} (h : ¬ x1 ≤ xa_shownCount w) (hq : ∀ Q : Int32 → SX → Prop, Q 1 w1 → wpX_pull Q w) (hm : m < 16) (hs : xa_shownCount w1 = nI m) (hA : A = upd (xa_shown w1) m (xa_out w1)) (hp : xI_ post x1 (xm_sh w1 (nI (m + 1)) A)) : xI_ post x1 w := by
  obtain ⟨f, hf⟩ := hp
  have e1 : xa_shownCount w1 + 1 = nI (m + 1) := by rw [hs, nI_1]
  have hi : vp_in (xa_shownCount w1) 16 := by rw [hs]; exact vp_in_nI hm (by omega)
  have e2 : (xa_shownCount w1).toNatClampNeg = m := by rw [hs]; exact nI_clamp (by omega)
  refine ⟨f + 1, br_f h (hq _ (br_f (by decide) (nm_r e1 (And.intro hi (fun a ea => ?_)))))⟩
  rw [e2, ← hA] at ea
  rw [ea]
  exact hf
end
end
section
/-! the terminals in lockstep; a run -/
def AN_ (X : (Int64 → SX → Prop) → Prop) (Y : (Int64 → SY → Prop) → Prop) : Prop :=
  ∃ r u' v', i_Rel 0 u' v' ∧ (∀ post : Int64 → SX → Prop, post r u' → X post) ∧ (∀ post : Int64 → SY → Prop, post r v' → Y post)
theorem ex_b {α : Type} (B : Prop) (a b : α) : ∃ z, (B ∧ z = a) ∨ (¬ B ∧ z = b) := by
  by_cases h : B
  · exact ⟨a, Or.inl ⟨h, rfl⟩⟩
  · exact ⟨b, Or.inr ⟨h, rfl⟩⟩
section
variable {L N : Nat} {K : Nat → Nat} {n : Nat} {tk : Nat → Nat}
section
variable {fr en : Int} {sp rem cnt : Nat} {b P : Nat → Nat} {stk : List (Nat × Int32 × Nat)} {u : SX} {v : SY} {post : Int64 → SX → Prop} {r : Int64}
theorem xR_ok (h : rn_ L N K n tk fr en sp rem cnt b P stk u v) (hp : post r u) : xR_ post r u :=
  br_t (show xa_failedStage u < 0 by rw [h.2.2.1.2.2.2.2.1]; decide) (br_t h.2.2.1.2.2.2.1 hp)
theorem xR_bt (h : BT_ L N K n tk cnt u v) (hp : post r u) : xR_ post r u := by
  obtain ⟨fr, en, sp, rem, P, stk, h, _⟩ := h
  exact xR_ok h hp
theorem xR_ro (h : ro_ L N K n tk u v) (hp : post (ya_outcome v) u) : xR_ post r u := by
  rcases h.2.2.2.2 with ⟨a, b⟩ | ⟨a, b⟩
  · rw [b] at hp
    exact br_t (show xa_failedStage u < 0 by rw [a]; decide) (br_f (show ¬ xa_stopped u = 0 by rw [h.2.2.2.1]; decide) hp)
  · rw [b] at hp
    exact br_f a hp
theorem i_ok (h : rn_ L N K n tk fr en sp rem cnt b P stk u v) : i_Rel 0 u v := ⟨L, N, K, n, tk, h.1, h.2.1.1, h.2.2.1.2.2.2.2.2.1⟩
theorem i_bt (h : BT_ L N K n tk cnt u v) : i_Rel 0 u v := by
  obtain ⟨fr, en, sp, rem, P, stk, h, _⟩ := h
  exact i_ok h
theorem i_ro (h : ro_ L N K n tk u v) : i_Rel 0 u v := ⟨L, N, K, n, tk, h.1, h.2.1.1, h.2.2.1⟩
end
theorem mil {c : Nat} (h : c ≤ 150) : ¬ (1000000 : Int64) ≤ lN c := fun z => by
  have := (lN_le (a := 1000000) (b := c) (by omega) (by omega)).mp z
  omega
theorem lz {c : Nat} (h : c ≤ 150) : lN c = 0 ↔ c = 0 := lN_eq (b := 0) (by omega) (by omega)
/-- count, sum, hash -/
theorem tot_l {t : Nat} (ht : t = 0 ∨ t = 1 ∨ t = 7) (c : Int32) : ∀ (d cnt : Nat) (u : SX) (v : SY) (sum x5 : Int64) (x11 : Int32), cnt + d = 200 → BT_ L N K n tk cnt u v → ((t = 0 ∧ sum = lN cnt) ∨ (t ≠ 0 ∧ sum = x5)) →
    AN_ (fun post => xT_ (xR_ post) (nI t) sum u) (fun post => yR_ post (nI t) c 1000000 x5 (lN cnt) 0 0 x11 v) := by
  intro d
  induction d with
  | zero =>
    intro cnt u v sum x5 x11 e h _
    have := BT_cnt h
    omega
  | succ d ih =>
    intro cnt u v sum x5 x11 e h hs
    have hc := BT_cnt h
    rcases pull_bt h with ⟨u', v', h', ho, X, Y⟩ | ⟨fr, en, sp, rem, b, P, stk, u', v', h', X, Y⟩ | ⟨u', v', h', X, Y⟩
    · obtain ⟨z11, hz11⟩ := ex_b (lN cnt = 0 ∨ (nI t = 5 ∧ ya_v v' < x11) ∨ (nI t = 6 ∧ x11 < ya_v v') ∨ nI t = 2 ∨ nI t = 4) (ya_v v') x11
      have key : ∀ sum' z5 : Int64, ((nI t = 0 ∧ sum' = sum + 1) ∨ (¬ nI t = 0 ∧ nI t = 1 ∧ sum' = sum + (xa_out u').toInt64) ∨ (¬ nI t = 0 ∧ ¬ nI t = 1 ∧ sum' = sum * 31 + (xa_out u').toInt64)) →
          ((nI t = 7 ∧ z5 = x5 * 31 + (ya_v v').toInt64) ∨ (¬ nI t = 7 ∧ z5 = x5 + (ya_v v').toInt64)) → ¬ nI t = 8 → ¬ nI t = 3 → ((t = 0 ∧ sum' = lN (cnt + 1)) ∨ (t ≠ 0 ∧ sum' = z5)) →
          AN_ (fun post => xT_ (xR_ post) (nI t) sum u) (fun post => yR_ post (nI t) c 1000000 x5 (lN cnt) 0 0 x11 v) := by
        intro sum' z5 h1 h2 h8 h3 hs'
        obtain ⟨r, u2, v2, g1, g2, g3⟩ := ih (cnt + 1) u' v' sum' z5 z11 (by omega) h' hs'
        exact ⟨r, u2, v2, g1, fun post hp => xT_give X h1 (g2 post hp), fun post hp => yR_g (mil hc) Y h8 (Or.inr ⟨fun q => h3 q.1, rfl⟩) h2 hz11 (by rw [lN_1]; exact g3 post hp)⟩
      rcases ht with rfl | rfl | rfl
      · have e1 : sum = lN cnt := by rcases hs with ⟨_, q⟩ | ⟨q, _⟩; exact q; exact absurd rfl q
        exact key (lN (cnt + 1)) (x5 + (ya_v v').toInt64) (Or.inl ⟨rfl, by rw [e1, lN_1]⟩) (Or.inr ⟨by decide, rfl⟩) (by decide) (by decide) (Or.inl ⟨rfl, rfl⟩)
      · have e1 : sum = x5 := by rcases hs with ⟨q, _⟩ | ⟨_, q⟩; omega; exact q
        exact key (x5 + (ya_v v').toInt64) (x5 + (ya_v v').toInt64) (Or.inr (Or.inl ⟨by decide, rfl, by rw [e1, ho]⟩)) (Or.inr ⟨by decide, rfl⟩) (by decide) (by decide) (Or.inr ⟨by omega, rfl⟩)
      · have e1 : sum = x5 := by rcases hs with ⟨q, _⟩ | ⟨_, q⟩; omega; exact q
        exact key (x5 * 31 + (ya_v v').toInt64) (x5 * 31 + (ya_v v').toInt64) (Or.inr (Or.inr ⟨by decide, by decide, by rw [e1, ho]⟩)) (Or.inl ⟨rfl, rfl⟩) (by decide) (by decide) (Or.inr ⟨by omega, rfl⟩)
    · refine ⟨sum, u', v', i_ok h', fun post hp => xT_end X (xR_ok h' hp), fun post hp => yR_end (mil hc) Y ?_⟩
      rcases ht with rfl | rfl | rfl
      · have e1 : sum = lN cnt := by rcases hs with ⟨_, q⟩ | ⟨q, _⟩; exact q; exact absurd rfl q
        rw [e1] at hp
        exact br_f (by decide) (br_f (by decide) (br_t rfl hp))
      · have e1 : sum = x5 := by rcases hs with ⟨q, _⟩ | ⟨_, q⟩; omega; exact q
        rw [e1] at hp
        exact br_f (by decide) (br_f (by decide) (br_f (by decide) (br_t rfl hp)))
      · have e1 : sum = x5 := by rcases hs with ⟨q, _⟩ | ⟨_, q⟩; omega; exact q
        rw [e1] at hp
        exact br_f (by decide) (br_f (by decide) (br_f (by decide) (br_f (by decide) (br_f (by decide) (br_f (by decide) (br_f (by decide) (br_f (by decide) (br_f (by decide) (br_t rfl hp)))))))))
    · exact ⟨ya_outcome v', u', v', i_ro h', fun post hp => xT_end X (xR_ro h' hp), fun post hp => yR_out (mil hc) Y hp⟩
/-- last, least, greatest -/
theorem cho_l {t : Nat} (ht : t = 4 ∨ t = 5 ∨ t = 6) (c : Int32) : ∀ (d cnt : Nat) (u : SX) (v : SY) (res x5 : Int64) (x11 : Int32), cnt + d = 200 → BT_ L N K n tk cnt u v → ((cnt = 0 ∧ res = 9000000000000000000) ∨ (cnt ≠ 0 ∧ res = x11.toInt64)) →
    AN_ (fun post => xC_ (xR_ post) (nI t) res u) (fun post => yR_ post (nI t) c 1000000 x5 (lN cnt) 0 0 x11 v) := by
  intro d
  induction d with
  | zero =>
    intro cnt u v res x5 x11 e h _
    have := BT_cnt h
    omega
  | succ d ih =>
    intro cnt u v res x5 x11 e h hs
    have hc := BT_cnt h
    have n3 : ¬ nI t = 3 := kn_ne (b := 3) rfl (by omega) (by omega) (by omega)
    have n7 : ¬ nI t = 7 := kn_ne (b := 7) rfl (by omega) (by omega) (by omega)
    have n8 : ¬ nI t = 8 := kn_ne (b := 8) rfl (by omega) (by omega) (by omega)
    have n2 : ¬ nI t = 2 := kn_ne (b := 2) rfl (by omega) (by omega) (by omega)
    rcases pull_bt h with ⟨u', v', h', ho, X, Y⟩ | ⟨fr, en, sp, rem, b, P, stk, u', v', h', X, Y⟩ | ⟨u', v', h', X, Y⟩
    · have hiff : (nI t = 4 ∨ res = 9000000000000000000 ∨ (nI t = 5 ∧ ¬ res ≤ (xa_out u').toInt64) ∨ (¬ nI t = 5 ∧ ¬ (xa_out u').toInt64 ≤ res)) ↔ (lN cnt = 0 ∨ (nI t = 5 ∧ ya_v v' < x11) ∨ (nI t = 6 ∧ x11 < ya_v v') ∨ nI t = 2 ∨ nI t = 4) := by
        rw [ho, lz hc]
        rcases hs with ⟨a, q⟩ | ⟨a, q⟩
        · exact ⟨fun _ => Or.inl a, fun _ => Or.inr (Or.inl q)⟩
        · rw [q, i6_le, i6_le, Int32.not_le, Int32.not_le]
          have hn := i6_none x11
          rcases ht with rfl | rfl | rfl
          · exact ⟨fun _ => Or.inr (Or.inr (Or.inr (Or.inr rfl))), fun _ => Or.inl rfl⟩
          · refine ⟨fun z => ?_, fun z => ?_⟩
            · rcases z with z | z | z | z
              · exact absurd z (by decide)
              · exact absurd z hn
              · exact Or.inr (Or.inl z)
              · exact absurd rfl z.1
            · rcases z with z | z | z | z | z
              · exact absurd z a
              · exact Or.inr (Or.inr (Or.inl z))
              · exact absurd z.1 (by decide)
              · exact absurd z (by decide)
              · exact absurd z (by decide)
          · refine ⟨fun z => ?_, fun z => ?_⟩
            · rcases z with z | z | z | z
              · exact absurd z (by decide)
              · exact absurd z hn
              · exact absurd z.1 (by decide)
              · exact Or.inr (Or.inr (Or.inl ⟨rfl, z.2⟩))
            · rcases z with z | z | z | z | z
              · exact absurd z a
              · exact absurd z.1 (by decide)
              · exact Or.inr (Or.inr (Or.inr ⟨by decide, z.2⟩))
              · exact absurd z (by decide)
              · exact absurd z (by decide)
      by_cases hB : (lN cnt = 0 ∨ (nI t = 5 ∧ ya_v v' < x11) ∨ (nI t = 6 ∧ x11 < ya_v v') ∨ nI t = 2 ∨ nI t = 4)
      · obtain ⟨r, u2, v2, g1, g2, g3⟩ := ih (cnt + 1) u' v' (xa_out u').toInt64 (x5 + (ya_v v').toInt64) (ya_v v') (by omega) h' (Or.inr ⟨by omega, by rw [ho]⟩)
        exact ⟨r, u2, v2, g1, fun post hp => xC_give X (Or.inl ⟨hiff.mpr hB, rfl⟩) (g2 post hp), fun post hp => yR_g (mil hc) Y n8 (Or.inr ⟨fun q => n3 q.1, rfl⟩) (Or.inr ⟨n7, rfl⟩) (Or.inl ⟨hB, rfl⟩) (by rw [lN_1]; exact g3 post hp)⟩
      · have hq : res = x11.toInt64 := by
          rcases hs with ⟨a, q⟩ | ⟨a, q⟩
          · exact absurd (Or.inl ((lz hc).mpr a)) hB
          · exact q
        obtain ⟨r, u2, v2, g1, g2, g3⟩ := ih (cnt + 1) u' v' res (x5 + (ya_v v').toInt64) x11 (by omega) h' (Or.inr ⟨by omega, hq⟩)
        exact ⟨r, u2, v2, g1, fun post hp => xC_give X (Or.inr ⟨fun z => hB (hiff.mp z), rfl⟩) (g2 post hp), fun post hp => yR_g (mil hc) Y n8 (Or.inr ⟨fun q => n3 q.1, rfl⟩) (Or.inr ⟨n7, rfl⟩) (Or.inr ⟨hB, rfl⟩) (by rw [lN_1]; exact g3 post hp)⟩
    · refine ⟨res, u', v', i_ok h', fun post hp => xC_end X (xR_ok h' hp), fun post hp => yR_end (mil hc) Y ?_⟩
      have g : wY_run_371 post (lN cnt) x11 (ya_limit v') (ya_source v') (ya_stages v') (ya_wrongAt v') (ya_paid v') (ya_at v') (ya_seenCount v') (ya_failedAt v') (ya_v v') (ya_valTop v') (ya_opTop v') (ya_ran v') (ya_broken v') (ya_outcome v') (ya_lists v') (ya_sizes v') (ya_tokens v') (ya_counts v') (ya_kinds v') (ya_numbers v') (ya_left v') (ya_last v') (ya_place v') (ya_begun v') (ya_held v') (ya_keys v') (ya_holds v') (ya_applied v') (ya_reads v') (ya_seen v') (ya_vals v') (ya_ops v') := by
        rcases hs with ⟨a, q⟩ | ⟨a, q⟩
        · rw [q] at hp
          exact br_t ((lz hc).mpr a) hp
        · rw [q] at hp
          exact br_f (fun z => a ((lz hc).mp z)) hp
      rcases ht with rfl | rfl | rfl
      · exact br_f (by decide) (br_f (by decide) (br_f (by decide) (br_f (by decide) (br_f (by decide) (br_f (by decide) (br_t rfl g))))))
      · exact br_f (by decide) (br_f (by decide) (br_f (by decide) (br_f (by decide) (br_f (by decide) (br_f (by decide) (br_f (by decide) (br_t rfl g)))))))
      · exact br_f (by decide) (br_f (by decide) (br_f (by decide) (br_f (by decide) (br_f (by decide) (br_f (by decide) (br_f (by decide) (br_f (by decide) (br_t rfl g))))))))
    · exact ⟨ya_outcome v', u', v', i_ro h', fun post hp => xC_end X (xR_ro h' hp), fun post hp => yR_out (mil hc) Y hp⟩
/-- any above c -/
theorem any_l (c : Int32) : ∀ (d cnt : Nat) (u : SX) (v : SY) (x5 : Int64) (x11 : Int32), cnt + d = 200 → BT_ L N K n tk cnt u v →
    AN_ (fun post => xA_ (xR_ post) c u) (fun post => yR_ post (nI 3) c 1000000 x5 (lN cnt) 0 0 x11 v) := by
  intro d
  induction d with
  | zero =>
    intro cnt u v x5 x11 e h
    have := BT_cnt h
    omega
  | succ d ih =>
    intro cnt u v x5 x11 e h
    have hc := BT_cnt h
    rcases pull_bt h with ⟨u', v', h', ho, X, Y⟩ | ⟨fr, en, sp, rem, b, P, stk, u', v', h', X, Y⟩ | ⟨u', v', h', X, Y⟩
    · obtain ⟨z11, hz11⟩ := ex_b (lN cnt = 0 ∨ (nI 3 = 5 ∧ ya_v v' < x11) ∨ (nI 3 = 6 ∧ x11 < ya_v v') ∨ nI 3 = 2 ∨ nI 3 = 4) (ya_v v') x11
      by_cases hv : ya_v v' ≤ c
      · obtain ⟨r, u2, v2, g1, g2, g3⟩ := ih (cnt + 1) u' v' (x5 + (ya_v v').toInt64) z11 (by omega) h'
        exact ⟨r, u2, v2, g1, fun post hp => xA_give X (by rw [ho]; exact hv) (g2 post hp), fun post hp => yR_g (mil hc) Y (by decide) (Or.inr ⟨fun q => q.2 hv, rfl⟩) (Or.inr ⟨by decide, rfl⟩) hz11 (by rw [lN_1]; exact g3 post hp)⟩
      · exact ⟨1, u', v', i_bt h', fun post hp => xA_hit X (by rw [ho]; exact hv) (xR_bt h' hp), fun post hp => yR_g (mil hc) Y (by decide) (Or.inl ⟨rfl, hv, rfl⟩) (Or.inr ⟨by decide, rfl⟩) hz11 (yR_hit (by decide) (br_f (by decide) (br_f (by decide) (br_f (by decide) (br_f (by decide) (br_f (by decide) (br_t rfl (br_f (by decide) hp))))))))⟩
    · exact ⟨0, u', v', i_ok h', fun post hp => xA_end X (xR_ok h' hp), fun post hp => yR_end (mil hc) Y (br_f (by decide) (br_f (by decide) (br_f (by decide) (br_f (by decide) (br_f (by decide) (br_t rfl (br_t rfl hp)))))))⟩
    · exact ⟨ya_outcome v', u', v', i_ro h', fun post hp => xA_end X (xR_ro h' hp), fun post hp => yR_out (mil hc) Y hp⟩
/-- the element at c -/
theorem elt_l (c : Int32) : ∀ (d cnt : Nat) (u : SX) (v : SY) (x2 x5 : Int64) (x11 : Int32), cnt + d = 200 → BT_ L N K n tk cnt u v → ((cnt = 0 ∧ x2 = 9000000000000000000) ∨ (cnt ≠ 0 ∧ x2 = x11.toInt64)) →
    AN_ (fun post => xE_ (xR_ post) c x2 (nI cnt) u) (fun post => yR_ post (nI 2) c (1 + c.toInt64) x5 (lN cnt) 0 0 x11 v) := by
  intro d
  induction d with
  | zero =>
    intro cnt u v x2 x5 x11 e h
    have := BT_cnt h
    omega
  | succ d ih =>
    intro cnt u v x2 x5 x11 e h hs
    have hc := BT_cnt h
    by_cases hlt : c < nI cnt
    · refine ⟨x2, u, v, i_bt h, fun post hp => xE_stop hlt (xR_bt h hp), fun post hp => yR_stop ((i6_1c c (by omega)).mpr hlt) ?_⟩
      refine br_f (by decide) (br_f (by decide) (br_f (by decide) (br_f (by decide) (br_t rfl ?_))))
      rcases hs with ⟨a, q⟩ | ⟨a, q⟩
      · rw [q] at hp
        exact br_t ((lz hc).mpr a) hp
      · rw [q] at hp
        exact br_f (fun z => a ((lz hc).mp z)) (br_t rfl hp)
    · have hlt' : ¬ 1 + c.toInt64 ≤ lN cnt := fun z => hlt ((i6_1c c (by omega)).mp z)
      rcases pull_bt h with ⟨u', v', h', ho, X, Y⟩ | ⟨fr, en, sp, rem, b, P, stk, u', v', h', X, Y⟩ | ⟨u', v', h', X, Y⟩
      · obtain ⟨r, u2, v2, g1, g2, g3⟩ := ih (cnt + 1) u' v' (xa_out u').toInt64 (x5 + (ya_v v').toInt64) (ya_v v') (by omega) h' (Or.inr ⟨by omega, by rw [ho]⟩)
        exact ⟨r, u2, v2, g1, fun post hp => xE_give hlt X (nI_1 cnt) (g2 post hp), fun post hp => yR_g hlt' Y (by decide) (Or.inr ⟨fun q => absurd q.1 (by decide), rfl⟩) (Or.inr ⟨by decide, rfl⟩) (Or.inl ⟨Or.inr (Or.inr (Or.inr (Or.inl rfl))), rfl⟩) (by rw [lN_1]; exact g3 post hp)⟩
      · exact ⟨9000000000000000000, u', v', i_ok h', fun post hp => xE_end hlt X (xR_ok h' hp), fun post hp => yR_end hlt' Y (br_f (by decide) (br_f (by decide) (br_f (by decide) (br_f (by decide) (br_t rfl (And.intro (fun _ => hp) (fun _ => br_f (by decide) hp)))))))⟩
      · exact ⟨ya_outcome v', u', v', i_ro h', fun post hp => xE_end hlt X (xR_ro h' hp), fun post hp => yR_out hlt' Y hp⟩
end
end
section
/-! the list terminal; a whole run -/
section
variable {L N : Nat} {K : Nat → Nat} {n : Nat}
theorem R_sh {tk : Nat → Nat} {cnt m : Nat} {u : SX} {v : SY} {A B : Nat → Int32} (h : BT_ L N K n tk cnt u v) (hm : m ≤ 16) (hAB : B = A) : BT_ L N K n (fun i => if i = 100 then m else tk i) cnt (xm_sh u (nI m) A) (ym_sn v (nI m) B) := by
  obtain ⟨fr, en, sp, rem, P, stk, ⟨h1, h2, h3, h4, h5, h6, h7, h8⟩, ht⟩ := h
  obtain ⟨k1, k2, k3, k4, k5, ⟨r1, r2, r3, r4, r5, r6, r7, r8⟩, k7, k8⟩ := h3
  exact ⟨fr, en, sp, rem, P, stk, ⟨h1, ⟨tk_0 h2.1, rfl, rfl⟩, ⟨k1, k2, k3, k4, k5, ⟨r1, r2, r3, hAB, ⟨m, hm, rfl, rfl⟩, r6, r7, r8⟩, k7, k8⟩, h4, h5, h6, h7, h8⟩, t_cg ht (fun e _ => ⟨rfl, rfl⟩)⟩
theorem lst_l (c m : Int32) (hm : m ≤ 16) : ∀ (d cnt : Nat) (tk : Nat → Nat) (u : SX) (v : SY) (x5 : Int64) (x11 : Int32), cnt + d = 200 → tk 100 = cnt → BT_ L N K n tk cnt u v →
    AN_ (fun post => xI_ (xR_ post) m u) (fun post => yR_ post (nI 8) c m.toInt64 x5 (lN cnt) 0 0 x11 v) := by
  intro d
  induction d with
  | zero =>
    intro cnt tk u v x5 x11 e _ h
    have := BT_cnt h
    omega
  | succ d ih =>
    intro cnt tk u v x5 x11 e htk h
    have hc := BT_cnt h
    have hsc : xa_shownCount u = nI cnt := by
      obtain ⟨fr, en, sp, rem, P, stk, hR, _⟩ := h
      rw [← htk]
      exact hR.2.1.2.1
    have e6 : (nI cnt).toInt64 = lN cnt := i6_nI (by omega)
    by_cases hle : m ≤ nI cnt
    · refine ⟨lN cnt, u, v, i_bt h, fun post hp => xI_stop (by rw [hsc]; exact hle) (xR_bt h (by rw [hsc, e6]; exact hp)), fun post hp => yR_stop (by rw [← e6]; exact (i6_le _ _).mpr hle) ?_⟩
      exact br_f (by decide) (br_f (by decide) (br_f (by decide) (br_f (by decide) (br_f (by decide) (br_f (by decide) (br_f (by decide) (br_f (by decide) (br_f (by decide) (br_f (by decide) (br_t rfl hp))))))))))
    · have hleX : ¬ m ≤ xa_shownCount u := by rw [hsc]; exact hle
      have hleY : ¬ m.toInt64 ≤ lN cnt := by rw [← e6]; exact fun z => hle ((i6_le _ _).mp z)
      have hc16 : cnt < 16 := by
        have h1 : nI cnt < m := Int32.not_le.mp hle
        rw [Int32.lt_iff_toInt_lt, nI_toInt (by omega)] at h1
        rw [Int32.le_iff_toInt_le, show (16 : Int32).toInt = 16 by decide] at hm
        omega
      rcases pull_bt h with ⟨u', v', h', ho, X, Y⟩ | ⟨fr, en, sp, rem, b, P, stk, u', v', h', X, Y⟩ | ⟨u', v', h', X, Y⟩
      · obtain ⟨fr', en', sp', rem', P', stk', hR, _⟩ := id h'
        have hs1 : xa_shownCount u' = nI cnt := by rw [← htk]; exact hR.2.1.2.1
        have hs2 : ya_seenCount v' = nI cnt := by rw [← htk]; exact hR.2.1.2.2
        have hsn : ya_seen v' = xa_shown u' := hR.2.2.1.2.2.2.2.2.1.2.2.2.1
        obtain ⟨A, hA⟩ : ∃ A, A = upd (xa_shown u') cnt (xa_out u') := ⟨_, rfl⟩
        have hB : A = upd (ya_seen v') cnt (ya_v v') := by rw [hsn, ← ho]; exact hA
        obtain ⟨z11, hz11⟩ := ex_b (lN cnt = 0) (ya_v v') x11
        obtain ⟨r, u2, v2, g1, g2, g3⟩ := ih (cnt + 1) (fun i => if i = 100 then cnt + 1 else tk i) (xm_sh u' (nI (cnt + 1)) A) (ym_sn v' (nI (cnt + 1)) A) (x5 + (ya_v v').toInt64) z11 (by omega) rfl (R_sh h' (by omega) rfl)
        exact ⟨r, u2, v2, g1, fun post hp => xI_give hleX X hc16 hs1 hA (g2 post hp), fun post hp => yR_g8 hleY Y rfl hc16 hs2 hB hz11 (by rw [lN_1]; exact g3 post hp)⟩
      · have hs1 : xa_shownCount u' = nI cnt := by rw [← htk]; exact h'.2.1.2.1
        refine ⟨lN cnt, u', v', i_ok h', fun post hp => xI_end hleX X (xR_ok h' (by rw [hs1, e6]; exact hp)), fun post hp => yR_end hleY Y ?_⟩
        exact br_f (by decide) (br_f (by decide) (br_f (by decide) (br_f (by decide) (br_f (by decide) (br_f (by decide) (br_f (by decide) (br_f (by decide) (br_f (by decide) (br_f (by decide) (br_t rfl hp))))))))))
      · exact ⟨ya_outcome v', u', v', i_ro h', fun post hp => xI_end hleX X (xR_ro h' hp), fun post hp => yR_out hleY Y hp⟩
end
def xD_ (post : Int64 → SX → Prop) (p0 p1 : Int32) (w : SX) : Prop :=
  (p0 = 2 → wpX_elementAt (xR_ post) w p1) ∧ (¬ p0 = 2 → ((p0 = 3 → wpX_any (xR_ post) w p1) ∧ (¬ p0 = 3 → ((p0 = 8 → wpX_list (xR_ post) w p1) ∧ (¬ p0 = 8 → ((p0 < 2 → wpX_total (xR_ post) w p0) ∧ (¬ p0 < 2 → ((p0 = 7 → wpX_total (xR_ post) w p0) ∧ (¬ p0 = 7 → wpX_choose (xR_ post) w p0)))))))))
def yD_ (post : Int64 → SY → Prop) (p0 p1 : Int32) (w : SY) : Prop :=
  (p0 = 2 → wY_run_55 post p0 p1 (1 + p1.toInt64) (ya_limit w) (ya_source w) (ya_stages w) (ya_wrongAt w) (ya_paid w) (ya_at w) (ya_seenCount w) (ya_failedAt w) (ya_v w) (ya_valTop w) (ya_opTop w) (ya_ran w) (ya_broken w) (ya_outcome w) (ya_lists w) (ya_sizes w) (ya_tokens w) (ya_counts w) (ya_kinds w) (ya_numbers w) (ya_left w) (ya_last w) (ya_place w) (ya_begun w) (ya_held w) (ya_keys w) (ya_holds w) (ya_applied w) (ya_reads w) (ya_seen w) (ya_vals w) (ya_ops w)) ∧ (¬ p0 = 2 → ((p0 = 8 → ((p1 ≤ 16 → wY_run_48 post p0 p1 p1 (ya_limit w) (ya_source w) (ya_stages w) (ya_wrongAt w) (ya_paid w) (ya_at w) (ya_seenCount w) (ya_failedAt w) (ya_v w) (ya_valTop w) (ya_opTop w) (ya_ran w) (ya_broken w) (ya_outcome w) (ya_lists w) (ya_sizes w) (ya_tokens w) (ya_counts w) (ya_kinds w) (ya_numbers w) (ya_left w) (ya_last w) (ya_place w) (ya_begun w) (ya_held w) (ya_keys w) (ya_holds w) (ya_applied w) (ya_reads w) (ya_seen w) (ya_vals w) (ya_ops w)) ∧ (¬ p1 ≤ 16 → wY_run_48 post p0 p1 16 (ya_limit w) (ya_source w) (ya_stages w) (ya_wrongAt w) (ya_paid w) (ya_at w) (ya_seenCount w) (ya_failedAt w) (ya_v w) (ya_valTop w) (ya_opTop w) (ya_ran w) (ya_broken w) (ya_outcome w) (ya_lists w) (ya_sizes w) (ya_tokens w) (ya_counts w) (ya_kinds w) (ya_numbers w) (ya_left w) (ya_last w) (ya_place w) (ya_begun w) (ya_held w) (ya_keys w) (ya_holds w) (ya_applied w) (ya_reads w) (ya_seen w) (ya_vals w) (ya_ops w)))) ∧ (¬ p0 = 8 → wY_run_55 post p0 p1 1000000 (ya_limit w) (ya_source w) (ya_stages w) (ya_wrongAt w) (ya_paid w) (ya_at w) (ya_seenCount w) (ya_failedAt w) (ya_v w) (ya_valTop w) (ya_opTop w) (ya_ran w) (ya_broken w) (ya_outcome w) (ya_lists w) (ya_sizes w) (ya_tokens w) (ya_counts w) (ya_kinds w) (ya_numbers w) (ya_left w) (ya_last w) (ya_place w) (ya_begun w) (ya_held w) (ya_keys w) (ya_holds w) (ya_applied w) (ya_reads w) (ya_seen w) (ya_vals w) (ya_ops w))))
theorem xw_run {post : Int64 → SX → Prop} {u u' : SX} {t : Nat} {p1 : Int32} (ht : t < 9) (hs : ∀ Q : SX → Prop, Q u' → wpX_start Q u) (h : xD_ post (nI t) p1 u') : wpX_run post u (nI t) p1 := by
  unfold wpX_run
  refine xw_out_in (m := 9) ht (by omega) ?_
  refine br_t rfl (hs _ ?_)
  exact h
theorem yw_run {post : Int64 → SY → Prop} {v v' : SY} {t : Nat} {p1 : Int32} (ht : t < 9) (hs : ∀ Q : SY → Prop, Q v' → wpY_begin Q v) (h : yD_ post (nI t) p1 v') : wpY_run post v (nI t) p1 := by
  unfold wpY_run
  refine br_f (nI_pos (by omega)) (br_t (nI_le (b := 8) (by omega) (by omega)) (hs _ ?_))
  exact h
theorem i_vc_run {k : Nat} {u : SX} {v : SY} (I : i_Rel k u v) (hk : k + 4 ≤ 2049) (v1 : Int32) (v2 : Int32) : wpX_run (fun r u' => wpY_run (fun r' v' => r' = r ∧ i_Rel (k + 4) u' v') v v1 v2) u v1 v2 := by
  have I0 : i_Rel 0 u v := I
  obtain ⟨L, N, K, n, tk, hst, htk, hrs⟩ := I
  have fin : AN_ (fun post => wpX_run post u v1 v2) (fun post => wpY_run post v v1 v2) → wpX_run (fun r u' => wpY_run (fun r' v' => r' = r ∧ i_Rel (k + 4) u' v') v v1 v2) u v1 v2 := by
    rintro ⟨r, u', v', g1, g2, g3⟩
    exact g2 _ (g3 _ ⟨rfl, g1⟩)
  apply fin
  by_cases hneg : v1 < 0
  · refine ⟨9000000000000000000, u, v, I0, fun post hp => ?_, fun post hp => br_t hneg hp⟩
    unfold wpX_run
    exact xw_out_neg hneg (br_f (by decide) hp)
  · by_cases h9 : 9 ≤ v1
    · refine ⟨9000000000000000000, u, v, I0, fun post hp => ?_, fun post hp => br_f hneg (br_f ?_ hp)⟩
      · unfold wpX_run
        exact xw_out_hi hneg h9 (br_f (by decide) hp)
      · rw [Int32.le_iff_toInt_le, show (9 : Int32).toInt = 9 by decide] at h9
        rw [Int32.le_iff_toInt_le, show (8 : Int32).toInt = 8 by decide]
        omega
    · obtain ⟨t, ht, rfl⟩ : ∃ t : Nat, t < 9 ∧ v1 = nI t := by
        rcases pk_ix v1 (n := 9) (by omega) with z | z | z
        · exact absurd z hneg
        · exact absurd z h9
        · exact z
      obtain ⟨u0, v0, hB, X, Y⟩ := begin_bt hst htk hrs
      have hcs : t = 0 ∨ t = 1 ∨ t = 2 ∨ t = 3 ∨ t = 4 ∨ t = 5 ∨ t = 6 ∨ t = 7 ∨ t = 8 := by omega
      rcases hcs with rfl | rfl | rfl | rfl | rfl | rfl | rfl | rfl | rfl
      · obtain ⟨r, u2, v2, g1, g2, g3⟩ := tot_l (t := 0) (by omega) v2 200 0 u0 v0 0 0 0 rfl hB (Or.inl ⟨rfl, rfl⟩)
        exact ⟨r, u2, v2, g1, fun post hp => xw_run ht X (br_f (by decide) (br_f (by decide) (br_f (by decide) (br_t (by decide) (br_f (by decide) (g2 post hp)))))), fun post hp => yw_run ht Y (br_f (by decide) (br_f (by decide) (br_f (by decide) (g3 post hp))))⟩
      · obtain ⟨r, u2, v2, g1, g2, g3⟩ := tot_l (t := 1) (by omega) v2 200 0 u0 v0 0 0 0 rfl hB (Or.inr ⟨by omega, rfl⟩)
        exact ⟨r, u2, v2, g1, fun post hp => xw_run ht X (br_f (by decide) (br_f (by decide) (br_f (by decide) (br_t (by decide) (br_f (by decide) (g2 post hp)))))), fun post hp => yw_run ht Y (br_f (by decide) (br_f (by decide) (br_f (by decide) (g3 post hp))))⟩
      · obtain ⟨r, u2, v2, g1, g2, g3⟩ := elt_l v2 200 0 u0 v0 9000000000000000000 0 0 rfl hB (Or.inl ⟨rfl, rfl⟩)
        exact ⟨r, u2, v2, g1, fun post hp => xw_run ht X (br_t rfl (g2 post hp)), fun post hp => yw_run ht Y (br_t rfl (br_f (by decide) (g3 post hp)))⟩
      · obtain ⟨r, u2, v2, g1, g2, g3⟩ := any_l v2 200 0 u0 v0 0 0 rfl hB
        exact ⟨r, u2, v2, g1, fun post hp => xw_run ht X (br_f (by decide) (br_t rfl (g2 post hp))), fun post hp => yw_run ht Y (br_f (by decide) (br_f (by decide) (br_f (by decide) (g3 post hp))))⟩
      · obtain ⟨r, u2, v2, g1, g2, g3⟩ := cho_l (t := 4) (by omega) v2 200 0 u0 v0 9000000000000000000 0 0 rfl hB (Or.inl ⟨rfl, rfl⟩)
        exact ⟨r, u2, v2, g1, fun post hp => xw_run ht X (br_f (by decide) (br_f (by decide) (br_f (by decide) (br_f (by decide) (br_f (by decide) (g2 post hp)))))), fun post hp => yw_run ht Y (br_f (by decide) (br_f (by decide) (br_f (by decide) (g3 post hp))))⟩
      · obtain ⟨r, u2, v2, g1, g2, g3⟩ := cho_l (t := 5) (by omega) v2 200 0 u0 v0 9000000000000000000 0 0 rfl hB (Or.inl ⟨rfl, rfl⟩)
        exact ⟨r, u2, v2, g1, fun post hp => xw_run ht X (br_f (by decide) (br_f (by decide) (br_f (by decide) (br_f (by decide) (br_f (by decide) (g2 post hp)))))), fun post hp => yw_run ht Y (br_f (by decide) (br_f (by decide) (br_f (by decide) (g3 post hp))))⟩
      · obtain ⟨r, u2, v2, g1, g2, g3⟩ := cho_l (t := 6) (by omega) v2 200 0 u0 v0 9000000000000000000 0 0 rfl hB (Or.inl ⟨rfl, rfl⟩)
        exact ⟨r, u2, v2, g1, fun post hp => xw_run ht X (br_f (by decide) (br_f (by decide) (br_f (by decide) (br_f (by decide) (br_f (by decide) (g2 post hp)))))), fun post hp => yw_run ht Y (br_f (by decide) (br_f (by decide) (br_f (by decide) (g3 post hp))))⟩
      · obtain ⟨r, u2, v2, g1, g2, g3⟩ := tot_l (t := 7) (by omega) v2 200 0 u0 v0 1 1 0 rfl hB (Or.inr ⟨by omega, rfl⟩)
        exact ⟨r, u2, v2, g1, fun post hp => xw_run ht X (br_f (by decide) (br_f (by decide) (br_f (by decide) (br_f (by decide) (br_t rfl (br_t rfl (g2 post hp))))))), fun post hp => yw_run ht Y (br_f (by decide) (br_f (by decide) (br_t rfl (g3 post hp))))⟩
      · by_cases h16 : v2 ≤ 16
        · obtain ⟨r, u2, w2, g1, g2, g3⟩ := lst_l v2 v2 h16 200 0 _ u0 v0 0 0 rfl rfl hB
          exact ⟨r, u2, w2, g1, fun post hp => xw_run ht X (br_f (by decide) (br_f (by decide) (br_t rfl (br_t h16 (g2 post hp))))), fun post hp => yw_run ht Y (br_f (by decide) (br_t rfl (br_t h16 (br_f (by decide) (g3 post hp)))))⟩
        · obtain ⟨r, u2, w2, g1, g2, g3⟩ := lst_l v2 16 (by decide) 200 0 _ u0 v0 0 0 rfl rfl hB
          exact ⟨r, u2, w2, g1, fun post hp => xw_run ht X (br_f (by decide) (br_f (by decide) (br_t rfl (br_f h16 (g2 post hp))))), fun post hp => yw_run ht Y (br_f (by decide) (br_t rfl (br_f h16 (br_f (by decide) (g3 post hp)))))⟩
end
