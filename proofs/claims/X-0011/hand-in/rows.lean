section
/-! pure rows to paste: stores, nI and lN arithmetic, masks, shifts, narrowing, branches by naturals (pk_le, pk_lt, pk_eq), loops (lp1 .. lp16: the measure of the state; rp1 ..: recursion), negatives. Take what you need -/
theorem pk_us {f : Nat → Int32} {k : Nat} {x : Int32} : upd f k x k = x := if_pos rfl
theorem pk_un {f : Nat → Int32} {k j : Nat} {x : Int32} (h : j ≠ k) : upd f k x j = f j := if_neg h
theorem pk_uLs {f : Nat → Int64} {k : Nat} {x : Int64} : vp_updL f k x k = x := if_pos rfl
theorem pk_uLn {f : Nat → Int64} {k j : Nat} {x : Int64} (h : j ≠ k) : vp_updL f k x j = f j := if_neg h
theorem pk_sub {a b : Nat} (h : b ≤ a) : nI a - nI b = nI (a - b) := by
  obtain ⟨c, rfl⟩ : ∃ c, a = c + b := ⟨a - b, by omega⟩
  rw [← nI_add, Int32.add_sub_cancel, Nat.add_sub_cancel]
theorem pk_m1 (n : Nat) : nI (n + 1) + (-1) = nI n := by
  rw [← nI_1, Int32.add_assoc, show (1 : Int32) + (-1) = 0 from rfl, Int32.add_zero]
theorem pk_mul (a b : Nat) : nI a * nI b = nI (a * b) := (Int32.ofNat_mul a b).symm
theorem pk_div {a d : Nat} (ha : a < 2 ^ 31) (h0 : 0 < d) (hd : d < 2 ^ 31) : nI a / nI d = nI (a / d) := by
  apply Int32.toInt_inj.mp
  rw [lg_idiv_nonneg (by rw [nI_toInt ha]; omega) (by rw [nI_toInt hd]; omega), nI_toInt ha, nI_toInt hd, nI_toInt (Nat.lt_of_le_of_lt (Nat.div_le_self a d) ha)]
  first | rfl | exact (Int.natCast_ediv _ _).symm
theorem pk_rem {a d : Nat} (ha : a < 2 ^ 31) (h0 : 0 < d) (hd : d < 2 ^ 31) : nI a - nI a / nI d * nI d = nI (a % d) := by
  rw [pk_div ha h0 hd, pk_mul, pk_sub (Nat.div_mul_le_self a d)]
  exact congrArg nI (by have := Nat.div_add_mod' a d; omega)
theorem pk_sub_toInt {a b : Nat} (ha : a < 2 ^ 30) (hb : b < 2 ^ 30) : (nI a - nI b).toInt = (a : Int) - b := by
  rw [Int32.toInt_sub, nI_toInt (by omega), nI_toInt (by omega)]
  exact Int.bmod_eq_of_le (by omega) (by omega)
theorem pk_sneg {a b : Nat} (hb : b < 2 ^ 30) (h : a < b) : nI a - nI b < 0 := by
  rw [Int32.lt_iff_toInt_lt, pk_sub_toInt (by omega) hb, show (0 : Int32).toInt = 0 from by decide]
  omega
theorem pk_ix (x : Int32) {n : Nat} (hn : n < 2 ^ 31) : x < 0 ∨ nI n ≤ x ∨ ∃ j : Nat, j < n ∧ x = nI j := by
  by_cases h : x < 0
  · exact Or.inl h
  · obtain ⟨j, hj, rfl⟩ := nI_of h
    by_cases h2 : j < n
    · exact Or.inr (Or.inr ⟨j, h2, rfl⟩)
    · exact Or.inr (Or.inl (nI_le (by omega) hj))
theorem pk_le {x y : Int32} {A B : Prop} (a b : Nat) (f : a ≤ b → A) (g : b < a → B) (hx : x = nI a := by rfl) (hy : y = nI b := by rfl) (ha : a < 2 ^ 31 := by omega) (hb : b < 2 ^ 31 := by omega) : (x ≤ y → A) ∧ (¬ x ≤ y → B) := by
  subst hx hy
  rw [nI_leI ha hb]
  exact ⟨f, fun z => g (by omega)⟩
theorem pk_lt {x y : Int32} {A B : Prop} (a b : Nat) (f : a < b → A) (g : b ≤ a → B) (hx : x = nI a := by rfl) (hy : y = nI b := by rfl) (ha : a < 2 ^ 31 := by omega) (hb : b < 2 ^ 31 := by omega) : (x < y → A) ∧ (¬ x < y → B) := by
  subst hx hy
  rw [nI_ltI ha hb]
  exact ⟨f, fun z => g (by omega)⟩
theorem pk_eq {x y : Int32} {A B : Prop} (a b : Nat) (f : a = b → A) (g : a ≠ b → B) (hx : x = nI a := by rfl) (hy : y = nI b := by rfl) (ha : a < 2 ^ 31 := by omega) (hb : b < 2 ^ 31 := by omega) : (x = y → A) ∧ (¬ x = y → B) := by
  subst hx hy
  rw [nI_eq ha hb]
  exact ⟨f, g⟩
theorem pk_in {x : Int32} (n N : Nat) (h : n < N) (hx : x = nI n := by rfl) (hN : N < 2 ^ 31 := by omega) : vp_in x N := by
  subst hx
  exact vp_in_nI h hN
theorem pk_cl {x : Int32} (n : Nat) (hx : x = nI n := by rfl) (h : n < 2 ^ 31 := by omega) : x.toNatClampNeg = n := by
  subst hx
  exact nI_clamp h
theorem pk_tn {n : Nat} (h : n < 2 ^ 32) : (nI n).toBitVec.toNat = n := Nat.mod_eq_of_lt h
theorem pk_and (x : Int32) {m : Int32} (k : Nat) (hm : m.toBitVec.toNat = 2 ^ k - 1) : x &&& m = nI (x.toBitVec.toNat % 2 ^ k) := by
  apply Int32.toBitVec_inj.mp
  apply BitVec.eq_of_toNat_eq
  rw [Int32.toBitVec_and, BitVec.toNat_and, hm, Nat.and_two_pow_sub_one_eq_mod]
  show _ = (BitVec.ofNat 32 _).toNat
  rw [BitVec.toNat_ofNat]
  exact (Nat.mod_eq_of_lt (Nat.lt_of_le_of_lt (Nat.mod_le _ _) x.toBitVec.isLt)).symm
theorem pk_andN {n : Nat} (h : n < 2 ^ 32) {m : Int32} (k : Nat) (hm : m.toBitVec.toNat = 2 ^ k - 1) : nI n &&& m = nI (n % 2 ^ k) := by
  rw [pk_and _ k hm, pk_tn h]
theorem pk_andE (x : Int32) {m : Int32} (k : Nat) (hm : m.toBitVec.toNat = 2 ^ k - 1) : ∃ j : Nat, j < 2 ^ k ∧ x &&& m = nI j := ⟨_, Nat.mod_lt _ (Nat.two_pow_pos k), pk_and x k hm⟩
theorem pk_andIn (x : Int32) {m : Int32} (k : Nat) (hm : m.toBitVec.toNat = 2 ^ k - 1) (hk : k ≤ 30) : vp_in (x &&& m) (2 ^ k) := by
  obtain ⟨j, hj, e⟩ := pk_andE x k hm
  rw [e]
  exact vp_in_nI hj (Nat.lt_of_le_of_lt (Nat.pow_le_pow_right (by decide) hk) (by decide))
theorem pk_shl (a s : Int32) (k : Nat) (hs : (s.toBitVec.smod 32).toNat = k) : (a <<< s).toBitVec.toNat = a.toBitVec.toNat * 2 ^ k % 2 ^ 32 := by
  show (a.toBitVec <<< (s.toBitVec.smod 32).toNat).toNat = _
  rw [hs, BitVec.toNat_shiftLeft, Nat.shiftLeft_eq]
theorem pk_shlN {n : Nat} (s : Int32) (k : Nat) (hs : (s.toBitVec.smod 32).toNat = k) (h : n * 2 ^ k < 2 ^ 32) : nI n <<< s = nI (n * 2 ^ k) := by
  apply Int32.toBitVec_inj.mp
  apply BitVec.eq_of_toNat_eq
  have hn : n < 2 ^ 32 := Nat.lt_of_le_of_lt (Nat.le_mul_of_pos_right n (Nat.two_pow_pos k)) h
  rw [pk_shl _ _ k hs, pk_tn hn, pk_tn h, Nat.mod_eq_of_lt h]
theorem pk_shr (a s : Int32) (k : Nat) (hs : (s.toBitVec.smod 32).toNat = k) : (a >>> s).toInt = a.toInt >>> k := by
  show (a.toBitVec.sshiftRight (s.toBitVec.smod 32).toNat).toInt = _
  rw [hs, BitVec.toInt_sshiftRight]
  rfl
theorem pk_shrN {n : Nat} (h : n < 2 ^ 31) (s : Int32) (k : Nat) (hs : (s.toBitVec.smod 32).toNat = k) : nI n >>> s = nI (n / 2 ^ k) := by
  apply Int32.toInt_inj.mp
  have h2 : n / 2 ^ k ≤ n := Nat.div_le_self _ _
  rw [pk_shr _ _ k hs, nI_toInt h, nI_toInt (by omega), Int.shiftRight_eq_div_pow]
  rfl
theorem pk_ushr (x s : Int32) (k : Nat) (hs : ((s.toUInt32 &&& Int32.toUInt32 31).toBitVec % 32).toNat = k) : (x.toUInt32 >>> (s.toUInt32 &&& Int32.toUInt32 31)).toInt32.toBitVec.toNat = x.toBitVec.toNat / 2 ^ k := by
  have e : (x.toUInt32 >>> (s.toUInt32 &&& Int32.toUInt32 31)).toInt32.toBitVec = x.toBitVec >>> k := by
    rw [← hs]
    exact UInt32.toBitVec_shiftRight _ _
  rw [e, BitVec.toNat_ushiftRight, Nat.shiftRight_eq_div_pow]
theorem pk_ushrN {n : Nat} (hn : n < 2 ^ 32) (s : Int32) (k : Nat) (hs : ((s.toUInt32 &&& Int32.toUInt32 31).toBitVec % 32).toNat = k) : ((nI n).toUInt32 >>> (s.toUInt32 &&& Int32.toUInt32 31)).toInt32 = nI (n / 2 ^ k) := by
  apply Int32.toBitVec_inj.mp
  apply BitVec.eq_of_toNat_eq
  rw [pk_ushr _ s k hs, pk_tn hn, pk_tn (Nat.lt_of_le_of_lt (Nat.div_le_self _ _) hn)]
theorem pk_nb (z : Int32) : narrow .byte (.int z.toInt8.toInt32) = .int z.toInt8.toInt32 := congrArg Value.int (by simp)
theorem pk_ns (z : Int32) : narrow .short (.int z.toInt16.toInt32) = .int z.toInt16.toInt32 := congrArg Value.int (by simp)
theorem pk_fb (r : Int32) : fits .byte (.int r.toInt8.toInt32) = true := by
  have ⟨a, b⟩ := lg_i2b_range r
  have h1 : (-128 : Int32).toInt = -128 := by decide
  have h2 : (127 : Int32).toInt = 127 := by decide
  simp only [fits, Bool.and_eq_true, decide_eq_true_eq, Int32.le_iff_toInt_le, h1, h2]
  omega
theorem pk_fs (r : Int32) : fits .short (.int r.toInt16.toInt32) = true := by
  have ⟨a, b⟩ := lg_i2s_range r
  have h1 : (-32768 : Int32).toInt = -32768 := by decide
  have h2 : (32767 : Int32).toInt = 32767 := by decide
  simp only [fits, Bool.and_eq_true, decide_eq_true_eq, Int32.le_iff_toInt_le, h1, h2]
  omega
theorem pk_charN {q : Nat} (hq : q < 65536) : narrow .char (.int (nI q)) = .int (nI q) ∧ fits .char (.int (nI q)) = true := by
  constructor
  · have e : (nI q).toUInt32.toUInt16.toUInt32.toInt32 = nI q := by
      apply Int32.toBitVec_inj.mp
      apply BitVec.eq_of_toNat_eq
      show (nI q).toUInt32.toUInt16.toUInt32.toNat = q % 2 ^ 32
      rw [UInt16.toNat_toUInt32, UInt32.toNat_toUInt16, show (nI q).toUInt32.toNat = q % 2 ^ 32 from rfl]
      omega
    exact congrArg Value.int e
  · have a : (0 : Int32) ≤ nI q := nI_pos' (by omega)
    have b : nI q ≤ 65535 := nI_le (b := 65535) (by omega) (by decide)
    show (decide ((0 : Int32) ≤ nI q) && decide (nI q ≤ 65535)) = true
    rw [decide_eq_true a, decide_eq_true b]
    rfl
theorem pk_char (x : Int32) : (x.toUInt32 % 65536).toInt32 = nI (x.toBitVec.toNat % 65536) := by
  apply Int32.toBitVec_inj.mp
  apply BitVec.eq_of_toNat_eq
  rw [pk_tn (by omega)]
  show (x.toUInt32 % 65536).toNat = _
  rw [UInt32.toNat_mod]
  rfl
theorem pk_nc (x : Int32) : narrow .char (.int (x.toUInt32 % 65536).toInt32) = .int (x.toUInt32 % 65536).toInt32 := by
  rw [pk_char]
  exact (pk_charN (Nat.mod_lt _ (by decide))).1
theorem pk_fc (x : Int32) : fits .char (.int (x.toUInt32 % 65536).toInt32) = true := by
  rw [pk_char]
  exact (pk_charN (Nat.mod_lt _ (by decide))).2
theorem pk_vb (z : Int32) : vp_nar .byte z.toInt8.toInt32 = z.toInt8.toInt32 := by rw [vp_nar_byte]; simp
theorem pk_vs (z : Int32) : vp_nar .short z.toInt16.toInt32 = z.toInt16.toInt32 := by rw [vp_nar_short]; simp
theorem pk_vc (z : Int32) : vp_nar .char (z.toUInt32 % 65536).toInt32 = (z.toUInt32 % 65536).toInt32 := Value.int.inj (pk_nc z)
theorem pk_lT {n : Nat} (h : n < 2 ^ 63) : (lN n).toInt = (n : Int) := lg_ofNat_toInt h
theorem pk_lLT {a b : Nat} (ha : a < 2 ^ 63) (hb : b < 2 ^ 63) : lN a < lN b ↔ a < b := by
  rw [Int64.lt_iff_toInt_lt, pk_lT ha, pk_lT hb]; omega
theorem pk_lLE {a b : Nat} (ha : a < 2 ^ 63) (hb : b < 2 ^ 63) : lN a ≤ lN b ↔ a ≤ b := by
  rw [Int64.le_iff_toInt_le, pk_lT ha, pk_lT hb]; omega
theorem pk_lEQ {a b : Nat} (ha : a < 2 ^ 63) (hb : b < 2 ^ 63) : lN a = lN b ↔ a = b := by
  rw [← Int64.toInt_inj, pk_lT ha, pk_lT hb]; omega
theorem pk_lOf {x : Int64} (h : ¬ x < 0) : ∃ k : Nat, k < 2 ^ 63 ∧ x = lN k := by
  rw [Int64.lt_iff_toInt_lt] at h
  have h0 : (0 : Int64).toInt = 0 := by decide
  have hx := Int64.toInt_lt x
  refine ⟨x.toInt.toNat, by omega, Int64.toInt_inj.mp ?_⟩
  rw [pk_lT (by omega)]
  omega
theorem pk_lDiv {a b : Nat} (ha : a < 2 ^ 63) (h0 : 0 < b) (hb : b < 2 ^ 63) : lN a / lN b = lN (a / b) := by
  apply Int64.toInt_inj.mp
  rw [lg_ldiv_nonneg (by rw [pk_lT ha]; omega) (by rw [pk_lT hb]; omega), pk_lT ha, pk_lT hb, pk_lT (Nat.lt_of_le_of_lt (Nat.div_le_self a b) ha)]
  rfl
theorem pk_lRem {a b : Nat} (ha : a < 2 ^ 63) (h0 : 0 < b) (hb : b < 2 ^ 63) : lN a - lN a / lN b * lN b = lN (a % b) := by
  rw [pk_lDiv ha h0 hb, lN_mul, lN_sub (Nat.div_mul_le_self a b)]
  exact congrArg lN (by have := Nat.div_add_mod' a b; omega)
theorem pk_loop {σ : Type} (W : Nat → Nat → σ → Prop) (I : Nat → σ → Prop) (e i0 : Nat) (s : σ) (hi : i0 ≤ e) (h0 : I i0 s) (hx : ∀ n s, I e s → W (n + 1) e s)
    (hs : ∀ n i s, i < e → I i s → (∀ s', I (i + 1) s' → W n (i + 1) s') → W (n + 1) i s) : ∃ n, W n i0 s :=
  ⟨e + 1, loop_i W I e hx hs (e + 1) i0 s hi (by omega) h0⟩
theorem pk_loopD {σ : Type} (W : Nat → Nat → σ → Prop) (I : Nat → σ → Prop) (hx : ∀ n s, I 0 s → W (n + 1) 0 s)
    (hs : ∀ n i s, I (i + 1) s → (∀ s', I i s' → W n i s') → W (n + 1) (i + 1) s) : ∀ (e : Nat) (s : σ), I e s → W (e + 1) e s := by
  intro e
  induction e with
  | zero => exact fun s h => hx 0 s h
  | succ e ih => exact fun s h => hs (e + 1) e s h (fun s' h' => ih s' h')
theorem lp1 {A1 : Type} (W : Nat → A1 → Prop) (I : A1 → Prop) (μ : A1 → Nat) (hs : ∀ (n : Nat) (a1 : A1), I a1 → (∀ (b1 : A1), I b1 → μ b1 < μ a1 → W n b1) → W (n + 1) a1) (a1 : A1) (h : I a1) : ∃ n, W n a1 :=
  loop_m (σ := A1) (fun n s => W n s) (fun s => I s) (fun s => μ s) (fun n s hI hk => hs n s hI (fun b1 h9 hm => hk b1 h9 hm)) a1 h
theorem lp2 {A1 A2 : Type} (W : Nat → A1 → A2 → Prop) (I : A1 → A2 → Prop) (μ : A1 → A2 → Nat) (hs : ∀ (n : Nat) (a1 : A1) (a2 : A2), I a1 a2 → (∀ (b1 : A1) (b2 : A2), I b1 b2 → μ b1 b2 < μ a1 a2 → W n b1 b2) → W (n + 1) a1 a2) (a1 : A1) (a2 : A2) (h : I a1 a2) : ∃ n, W n a1 a2 :=
  loop_m (σ := A1 × A2) (fun n s => W n s.1 s.2) (fun s => I s.1 s.2) (fun s => μ s.1 s.2) (fun n s hI hk => hs n s.1 s.2 hI (fun b1 b2 h9 hm => hk (b1, b2) h9 hm)) (a1, a2) h
theorem lp3 {A1 A2 A3 : Type} (W : Nat → A1 → A2 → A3 → Prop) (I : A1 → A2 → A3 → Prop) (μ : A1 → A2 → A3 → Nat) (hs : ∀ (n : Nat) (a1 : A1) (a2 : A2) (a3 : A3), I a1 a2 a3 → (∀ (b1 : A1) (b2 : A2) (b3 : A3), I b1 b2 b3 → μ b1 b2 b3 < μ a1 a2 a3 → W n b1 b2 b3) → W (n + 1) a1 a2 a3) (a1 : A1) (a2 : A2) (a3 : A3) (h : I a1 a2 a3) : ∃ n, W n a1 a2 a3 :=
  loop_m (σ := A1 × A2 × A3) (fun n s => W n s.1 s.2.1 s.2.2) (fun s => I s.1 s.2.1 s.2.2) (fun s => μ s.1 s.2.1 s.2.2) (fun n s hI hk => hs n s.1 s.2.1 s.2.2 hI (fun b1 b2 b3 h9 hm => hk (b1, b2, b3) h9 hm)) (a1, a2, a3) h
theorem lp4 {A1 A2 A3 A4 : Type} (W : Nat → A1 → A2 → A3 → A4 → Prop) (I : A1 → A2 → A3 → A4 → Prop) (μ : A1 → A2 → A3 → A4 → Nat) (hs : ∀ (n : Nat) (a1 : A1) (a2 : A2) (a3 : A3) (a4 : A4), I a1 a2 a3 a4 → (∀ (b1 : A1) (b2 : A2) (b3 : A3) (b4 : A4), I b1 b2 b3 b4 → μ b1 b2 b3 b4 < μ a1 a2 a3 a4 → W n b1 b2 b3 b4) → W (n + 1) a1 a2 a3 a4) (a1 : A1) (a2 : A2) (a3 : A3) (a4 : A4) (h : I a1 a2 a3 a4) : ∃ n, W n a1 a2 a3 a4 :=
  loop_m (σ := A1 × A2 × A3 × A4) (fun n s => W n s.1 s.2.1 s.2.2.1 s.2.2.2) (fun s => I s.1 s.2.1 s.2.2.1 s.2.2.2) (fun s => μ s.1 s.2.1 s.2.2.1 s.2.2.2) (fun n s hI hk => hs n s.1 s.2.1 s.2.2.1 s.2.2.2 hI (fun b1 b2 b3 b4 h9 hm => hk (b1, b2, b3, b4) h9 hm)) (a1, a2, a3, a4) h
theorem lp5 {A1 A2 A3 A4 A5 : Type} (W : Nat → A1 → A2 → A3 → A4 → A5 → Prop) (I : A1 → A2 → A3 → A4 → A5 → Prop) (μ : A1 → A2 → A3 → A4 → A5 → Nat) (hs : ∀ (n : Nat) (a1 : A1) (a2 : A2) (a3 : A3) (a4 : A4) (a5 : A5), I a1 a2 a3 a4 a5 → (∀ (b1 : A1) (b2 : A2) (b3 : A3) (b4 : A4) (b5 : A5), I b1 b2 b3 b4 b5 → μ b1 b2 b3 b4 b5 < μ a1 a2 a3 a4 a5 → W n b1 b2 b3 b4 b5) → W (n + 1) a1 a2 a3 a4 a5) (a1 : A1) (a2 : A2) (a3 : A3) (a4 : A4) (a5 : A5) (h : I a1 a2 a3 a4 a5) : ∃ n, W n a1 a2 a3 a4 a5 :=
  loop_m (σ := A1 × A2 × A3 × A4 × A5) (fun n s => W n s.1 s.2.1 s.2.2.1 s.2.2.2.1 s.2.2.2.2) (fun s => I s.1 s.2.1 s.2.2.1 s.2.2.2.1 s.2.2.2.2) (fun s => μ s.1 s.2.1 s.2.2.1 s.2.2.2.1 s.2.2.2.2) (fun n s hI hk => hs n s.1 s.2.1 s.2.2.1 s.2.2.2.1 s.2.2.2.2 hI (fun b1 b2 b3 b4 b5 h9 hm => hk (b1, b2, b3, b4, b5) h9 hm)) (a1, a2, a3, a4, a5) h
theorem lp6 {A1 A2 A3 A4 A5 A6 : Type} (W : Nat → A1 → A2 → A3 → A4 → A5 → A6 → Prop) (I : A1 → A2 → A3 → A4 → A5 → A6 → Prop) (μ : A1 → A2 → A3 → A4 → A5 → A6 → Nat) (hs : ∀ (n : Nat) (a1 : A1) (a2 : A2) (a3 : A3) (a4 : A4) (a5 : A5) (a6 : A6), I a1 a2 a3 a4 a5 a6 → (∀ (b1 : A1) (b2 : A2) (b3 : A3) (b4 : A4) (b5 : A5) (b6 : A6), I b1 b2 b3 b4 b5 b6 → μ b1 b2 b3 b4 b5 b6 < μ a1 a2 a3 a4 a5 a6 → W n b1 b2 b3 b4 b5 b6) → W (n + 1) a1 a2 a3 a4 a5 a6) (a1 : A1) (a2 : A2) (a3 : A3) (a4 : A4) (a5 : A5) (a6 : A6) (h : I a1 a2 a3 a4 a5 a6) : ∃ n, W n a1 a2 a3 a4 a5 a6 :=
  loop_m (σ := A1 × A2 × A3 × A4 × A5 × A6) (fun n s => W n s.1 s.2.1 s.2.2.1 s.2.2.2.1 s.2.2.2.2.1 s.2.2.2.2.2) (fun s => I s.1 s.2.1 s.2.2.1 s.2.2.2.1 s.2.2.2.2.1 s.2.2.2.2.2) (fun s => μ s.1 s.2.1 s.2.2.1 s.2.2.2.1 s.2.2.2.2.1 s.2.2.2.2.2) (fun n s hI hk => hs n s.1 s.2.1 s.2.2.1 s.2.2.2.1 s.2.2.2.2.1 s.2.2.2.2.2 hI (fun b1 b2 b3 b4 b5 b6 h9 hm => hk (b1, b2, b3, b4, b5, b6) h9 hm)) (a1, a2, a3, a4, a5, a6) h
theorem lp7 {A1 A2 A3 A4 A5 A6 A7 : Type} (W : Nat → A1 → A2 → A3 → A4 → A5 → A6 → A7 → Prop) (I : A1 → A2 → A3 → A4 → A5 → A6 → A7 → Prop) (μ : A1 → A2 → A3 → A4 → A5 → A6 → A7 → Nat) (hs : ∀ (n : Nat) (a1 : A1) (a2 : A2) (a3 : A3) (a4 : A4) (a5 : A5) (a6 : A6) (a7 : A7), I a1 a2 a3 a4 a5 a6 a7 → (∀ (b1 : A1) (b2 : A2) (b3 : A3) (b4 : A4) (b5 : A5) (b6 : A6) (b7 : A7), I b1 b2 b3 b4 b5 b6 b7 → μ b1 b2 b3 b4 b5 b6 b7 < μ a1 a2 a3 a4 a5 a6 a7 → W n b1 b2 b3 b4 b5 b6 b7) → W (n + 1) a1 a2 a3 a4 a5 a6 a7) (a1 : A1) (a2 : A2) (a3 : A3) (a4 : A4) (a5 : A5) (a6 : A6) (a7 : A7) (h : I a1 a2 a3 a4 a5 a6 a7) : ∃ n, W n a1 a2 a3 a4 a5 a6 a7 :=
  loop_m (σ := A1 × A2 × A3 × A4 × A5 × A6 × A7) (fun n s => W n s.1 s.2.1 s.2.2.1 s.2.2.2.1 s.2.2.2.2.1 s.2.2.2.2.2.1 s.2.2.2.2.2.2) (fun s => I s.1 s.2.1 s.2.2.1 s.2.2.2.1 s.2.2.2.2.1 s.2.2.2.2.2.1 s.2.2.2.2.2.2) (fun s => μ s.1 s.2.1 s.2.2.1 s.2.2.2.1 s.2.2.2.2.1 s.2.2.2.2.2.1 s.2.2.2.2.2.2) (fun n s hI hk => hs n s.1 s.2.1 s.2.2.1 s.2.2.2.1 s.2.2.2.2.1 s.2.2.2.2.2.1 s.2.2.2.2.2.2 hI (fun b1 b2 b3 b4 b5 b6 b7 h9 hm => hk (b1, b2, b3, b4, b5, b6, b7) h9 hm)) (a1, a2, a3, a4, a5, a6, a7) h
theorem lp8 {A1 A2 A3 A4 A5 A6 A7 A8 : Type} (W : Nat → A1 → A2 → A3 → A4 → A5 → A6 → A7 → A8 → Prop) (I : A1 → A2 → A3 → A4 → A5 → A6 → A7 → A8 → Prop) (μ : A1 → A2 → A3 → A4 → A5 → A6 → A7 → A8 → Nat) (hs : ∀ (n : Nat) (a1 : A1) (a2 : A2) (a3 : A3) (a4 : A4) (a5 : A5) (a6 : A6) (a7 : A7) (a8 : A8), I a1 a2 a3 a4 a5 a6 a7 a8 → (∀ (b1 : A1) (b2 : A2) (b3 : A3) (b4 : A4) (b5 : A5) (b6 : A6) (b7 : A7) (b8 : A8), I b1 b2 b3 b4 b5 b6 b7 b8 → μ b1 b2 b3 b4 b5 b6 b7 b8 < μ a1 a2 a3 a4 a5 a6 a7 a8 → W n b1 b2 b3 b4 b5 b6 b7 b8) → W (n + 1) a1 a2 a3 a4 a5 a6 a7 a8) (a1 : A1) (a2 : A2) (a3 : A3) (a4 : A4) (a5 : A5) (a6 : A6) (a7 : A7) (a8 : A8) (h : I a1 a2 a3 a4 a5 a6 a7 a8) : ∃ n, W n a1 a2 a3 a4 a5 a6 a7 a8 :=
  loop_m (σ := A1 × A2 × A3 × A4 × A5 × A6 × A7 × A8) (fun n s => W n s.1 s.2.1 s.2.2.1 s.2.2.2.1 s.2.2.2.2.1 s.2.2.2.2.2.1 s.2.2.2.2.2.2.1 s.2.2.2.2.2.2.2) (fun s => I s.1 s.2.1 s.2.2.1 s.2.2.2.1 s.2.2.2.2.1 s.2.2.2.2.2.1 s.2.2.2.2.2.2.1 s.2.2.2.2.2.2.2) (fun s => μ s.1 s.2.1 s.2.2.1 s.2.2.2.1 s.2.2.2.2.1 s.2.2.2.2.2.1 s.2.2.2.2.2.2.1 s.2.2.2.2.2.2.2) (fun n s hI hk => hs n s.1 s.2.1 s.2.2.1 s.2.2.2.1 s.2.2.2.2.1 s.2.2.2.2.2.1 s.2.2.2.2.2.2.1 s.2.2.2.2.2.2.2 hI (fun b1 b2 b3 b4 b5 b6 b7 b8 h9 hm => hk (b1, b2, b3, b4, b5, b6, b7, b8) h9 hm)) (a1, a2, a3, a4, a5, a6, a7, a8) h
theorem lp9 {A1 A2 A3 A4 A5 A6 A7 A8 A9 : Type} (W : Nat → A1 → A2 → A3 → A4 → A5 → A6 → A7 → A8 → A9 → Prop) (I : A1 → A2 → A3 → A4 → A5 → A6 → A7 → A8 → A9 → Prop) (μ : A1 → A2 → A3 → A4 → A5 → A6 → A7 → A8 → A9 → Nat) (hs : ∀ (n : Nat) (a1 : A1) (a2 : A2) (a3 : A3) (a4 : A4) (a5 : A5) (a6 : A6) (a7 : A7) (a8 : A8) (a9 : A9), I a1 a2 a3 a4 a5 a6 a7 a8 a9 → (∀ (b1 : A1) (b2 : A2) (b3 : A3) (b4 : A4) (b5 : A5) (b6 : A6) (b7 : A7) (b8 : A8) (b9 : A9), I b1 b2 b3 b4 b5 b6 b7 b8 b9 → μ b1 b2 b3 b4 b5 b6 b7 b8 b9 < μ a1 a2 a3 a4 a5 a6 a7 a8 a9 → W n b1 b2 b3 b4 b5 b6 b7 b8 b9) → W (n + 1) a1 a2 a3 a4 a5 a6 a7 a8 a9) (a1 : A1) (a2 : A2) (a3 : A3) (a4 : A4) (a5 : A5) (a6 : A6) (a7 : A7) (a8 : A8) (a9 : A9) (h : I a1 a2 a3 a4 a5 a6 a7 a8 a9) : ∃ n, W n a1 a2 a3 a4 a5 a6 a7 a8 a9 :=
  loop_m (σ := A1 × A2 × A3 × A4 × A5 × A6 × A7 × A8 × A9) (fun n s => W n s.1 s.2.1 s.2.2.1 s.2.2.2.1 s.2.2.2.2.1 s.2.2.2.2.2.1 s.2.2.2.2.2.2.1 s.2.2.2.2.2.2.2.1 s.2.2.2.2.2.2.2.2) (fun s => I s.1 s.2.1 s.2.2.1 s.2.2.2.1 s.2.2.2.2.1 s.2.2.2.2.2.1 s.2.2.2.2.2.2.1 s.2.2.2.2.2.2.2.1 s.2.2.2.2.2.2.2.2) (fun s => μ s.1 s.2.1 s.2.2.1 s.2.2.2.1 s.2.2.2.2.1 s.2.2.2.2.2.1 s.2.2.2.2.2.2.1 s.2.2.2.2.2.2.2.1 s.2.2.2.2.2.2.2.2) (fun n s hI hk => hs n s.1 s.2.1 s.2.2.1 s.2.2.2.1 s.2.2.2.2.1 s.2.2.2.2.2.1 s.2.2.2.2.2.2.1 s.2.2.2.2.2.2.2.1 s.2.2.2.2.2.2.2.2 hI (fun b1 b2 b3 b4 b5 b6 b7 b8 b9 h9 hm => hk (b1, b2, b3, b4, b5, b6, b7, b8, b9) h9 hm)) (a1, a2, a3, a4, a5, a6, a7, a8, a9) h
theorem lp10 {A1 A2 A3 A4 A5 A6 A7 A8 A9 A10 : Type} (W : Nat → A1 → A2 → A3 → A4 → A5 → A6 → A7 → A8 → A9 → A10 → Prop) (I : A1 → A2 → A3 → A4 → A5 → A6 → A7 → A8 → A9 → A10 → Prop) (μ : A1 → A2 → A3 → A4 → A5 → A6 → A7 → A8 → A9 → A10 → Nat) (hs : ∀ (n : Nat) (a1 : A1) (a2 : A2) (a3 : A3) (a4 : A4) (a5 : A5) (a6 : A6) (a7 : A7) (a8 : A8) (a9 : A9) (a10 : A10), I a1 a2 a3 a4 a5 a6 a7 a8 a9 a10 → (∀ (b1 : A1) (b2 : A2) (b3 : A3) (b4 : A4) (b5 : A5) (b6 : A6) (b7 : A7) (b8 : A8) (b9 : A9) (b10 : A10), I b1 b2 b3 b4 b5 b6 b7 b8 b9 b10 → μ b1 b2 b3 b4 b5 b6 b7 b8 b9 b10 < μ a1 a2 a3 a4 a5 a6 a7 a8 a9 a10 → W n b1 b2 b3 b4 b5 b6 b7 b8 b9 b10) → W (n + 1) a1 a2 a3 a4 a5 a6 a7 a8 a9 a10) (a1 : A1) (a2 : A2) (a3 : A3) (a4 : A4) (a5 : A5) (a6 : A6) (a7 : A7) (a8 : A8) (a9 : A9) (a10 : A10) (h : I a1 a2 a3 a4 a5 a6 a7 a8 a9 a10) : ∃ n, W n a1 a2 a3 a4 a5 a6 a7 a8 a9 a10 :=
  loop_m (σ := A1 × A2 × A3 × A4 × A5 × A6 × A7 × A8 × A9 × A10) (fun n s => W n s.1 s.2.1 s.2.2.1 s.2.2.2.1 s.2.2.2.2.1 s.2.2.2.2.2.1 s.2.2.2.2.2.2.1 s.2.2.2.2.2.2.2.1 s.2.2.2.2.2.2.2.2.1 s.2.2.2.2.2.2.2.2.2) (fun s => I s.1 s.2.1 s.2.2.1 s.2.2.2.1 s.2.2.2.2.1 s.2.2.2.2.2.1 s.2.2.2.2.2.2.1 s.2.2.2.2.2.2.2.1 s.2.2.2.2.2.2.2.2.1 s.2.2.2.2.2.2.2.2.2) (fun s => μ s.1 s.2.1 s.2.2.1 s.2.2.2.1 s.2.2.2.2.1 s.2.2.2.2.2.1 s.2.2.2.2.2.2.1 s.2.2.2.2.2.2.2.1 s.2.2.2.2.2.2.2.2.1 s.2.2.2.2.2.2.2.2.2) (fun n s hI hk => hs n s.1 s.2.1 s.2.2.1 s.2.2.2.1 s.2.2.2.2.1 s.2.2.2.2.2.1 s.2.2.2.2.2.2.1 s.2.2.2.2.2.2.2.1 s.2.2.2.2.2.2.2.2.1 s.2.2.2.2.2.2.2.2.2 hI (fun b1 b2 b3 b4 b5 b6 b7 b8 b9 b10 h9 hm => hk (b1, b2, b3, b4, b5, b6, b7, b8, b9, b10) h9 hm)) (a1, a2, a3, a4, a5, a6, a7, a8, a9, a10) h
theorem lp11 {A1 A2 A3 A4 A5 A6 A7 A8 A9 A10 A11 : Type} (W : Nat → A1 → A2 → A3 → A4 → A5 → A6 → A7 → A8 → A9 → A10 → A11 → Prop) (I : A1 → A2 → A3 → A4 → A5 → A6 → A7 → A8 → A9 → A10 → A11 → Prop) (μ : A1 → A2 → A3 → A4 → A5 → A6 → A7 → A8 → A9 → A10 → A11 → Nat) (hs : ∀ (n : Nat) (a1 : A1) (a2 : A2) (a3 : A3) (a4 : A4) (a5 : A5) (a6 : A6) (a7 : A7) (a8 : A8) (a9 : A9) (a10 : A10) (a11 : A11), I a1 a2 a3 a4 a5 a6 a7 a8 a9 a10 a11 → (∀ (b1 : A1) (b2 : A2) (b3 : A3) (b4 : A4) (b5 : A5) (b6 : A6) (b7 : A7) (b8 : A8) (b9 : A9) (b10 : A10) (b11 : A11), I b1 b2 b3 b4 b5 b6 b7 b8 b9 b10 b11 → μ b1 b2 b3 b4 b5 b6 b7 b8 b9 b10 b11 < μ a1 a2 a3 a4 a5 a6 a7 a8 a9 a10 a11 → W n b1 b2 b3 b4 b5 b6 b7 b8 b9 b10 b11) → W (n + 1) a1 a2 a3 a4 a5 a6 a7 a8 a9 a10 a11) (a1 : A1) (a2 : A2) (a3 : A3) (a4 : A4) (a5 : A5) (a6 : A6) (a7 : A7) (a8 : A8) (a9 : A9) (a10 : A10) (a11 : A11) (h : I a1 a2 a3 a4 a5 a6 a7 a8 a9 a10 a11) : ∃ n, W n a1 a2 a3 a4 a5 a6 a7 a8 a9 a10 a11 :=
  loop_m (σ := A1 × A2 × A3 × A4 × A5 × A6 × A7 × A8 × A9 × A10 × A11) (fun n s => W n s.1 s.2.1 s.2.2.1 s.2.2.2.1 s.2.2.2.2.1 s.2.2.2.2.2.1 s.2.2.2.2.2.2.1 s.2.2.2.2.2.2.2.1 s.2.2.2.2.2.2.2.2.1 s.2.2.2.2.2.2.2.2.2.1 s.2.2.2.2.2.2.2.2.2.2) (fun s => I s.1 s.2.1 s.2.2.1 s.2.2.2.1 s.2.2.2.2.1 s.2.2.2.2.2.1 s.2.2.2.2.2.2.1 s.2.2.2.2.2.2.2.1 s.2.2.2.2.2.2.2.2.1 s.2.2.2.2.2.2.2.2.2.1 s.2.2.2.2.2.2.2.2.2.2) (fun s => μ s.1 s.2.1 s.2.2.1 s.2.2.2.1 s.2.2.2.2.1 s.2.2.2.2.2.1 s.2.2.2.2.2.2.1 s.2.2.2.2.2.2.2.1 s.2.2.2.2.2.2.2.2.1 s.2.2.2.2.2.2.2.2.2.1 s.2.2.2.2.2.2.2.2.2.2) (fun n s hI hk => hs n s.1 s.2.1 s.2.2.1 s.2.2.2.1 s.2.2.2.2.1 s.2.2.2.2.2.1 s.2.2.2.2.2.2.1 s.2.2.2.2.2.2.2.1 s.2.2.2.2.2.2.2.2.1 s.2.2.2.2.2.2.2.2.2.1 s.2.2.2.2.2.2.2.2.2.2 hI (fun b1 b2 b3 b4 b5 b6 b7 b8 b9 b10 b11 h9 hm => hk (b1, b2, b3, b4, b5, b6, b7, b8, b9, b10, b11) h9 hm)) (a1, a2, a3, a4, a5, a6, a7, a8, a9, a10, a11) h
theorem lp12 {A1 A2 A3 A4 A5 A6 A7 A8 A9 A10 A11 A12 : Type} (W : Nat → A1 → A2 → A3 → A4 → A5 → A6 → A7 → A8 → A9 → A10 → A11 → A12 → Prop) (I : A1 → A2 → A3 → A4 → A5 → A6 → A7 → A8 → A9 → A10 → A11 → A12 → Prop) (μ : A1 → A2 → A3 → A4 → A5 → A6 → A7 → A8 → A9 → A10 → A11 → A12 → Nat) (hs : ∀ (n : Nat) (a1 : A1) (a2 : A2) (a3 : A3) (a4 : A4) (a5 : A5) (a6 : A6) (a7 : A7) (a8 : A8) (a9 : A9) (a10 : A10) (a11 : A11) (a12 : A12), I a1 a2 a3 a4 a5 a6 a7 a8 a9 a10 a11 a12 → (∀ (b1 : A1) (b2 : A2) (b3 : A3) (b4 : A4) (b5 : A5) (b6 : A6) (b7 : A7) (b8 : A8) (b9 : A9) (b10 : A10) (b11 : A11) (b12 : A12), I b1 b2 b3 b4 b5 b6 b7 b8 b9 b10 b11 b12 → μ b1 b2 b3 b4 b5 b6 b7 b8 b9 b10 b11 b12 < μ a1 a2 a3 a4 a5 a6 a7 a8 a9 a10 a11 a12 → W n b1 b2 b3 b4 b5 b6 b7 b8 b9 b10 b11 b12) → W (n + 1) a1 a2 a3 a4 a5 a6 a7 a8 a9 a10 a11 a12) (a1 : A1) (a2 : A2) (a3 : A3) (a4 : A4) (a5 : A5) (a6 : A6) (a7 : A7) (a8 : A8) (a9 : A9) (a10 : A10) (a11 : A11) (a12 : A12) (h : I a1 a2 a3 a4 a5 a6 a7 a8 a9 a10 a11 a12) : ∃ n, W n a1 a2 a3 a4 a5 a6 a7 a8 a9 a10 a11 a12 :=
  loop_m (σ := A1 × A2 × A3 × A4 × A5 × A6 × A7 × A8 × A9 × A10 × A11 × A12) (fun n s => W n s.1 s.2.1 s.2.2.1 s.2.2.2.1 s.2.2.2.2.1 s.2.2.2.2.2.1 s.2.2.2.2.2.2.1 s.2.2.2.2.2.2.2.1 s.2.2.2.2.2.2.2.2.1 s.2.2.2.2.2.2.2.2.2.1 s.2.2.2.2.2.2.2.2.2.2.1 s.2.2.2.2.2.2.2.2.2.2.2) (fun s => I s.1 s.2.1 s.2.2.1 s.2.2.2.1 s.2.2.2.2.1 s.2.2.2.2.2.1 s.2.2.2.2.2.2.1 s.2.2.2.2.2.2.2.1 s.2.2.2.2.2.2.2.2.1 s.2.2.2.2.2.2.2.2.2.1 s.2.2.2.2.2.2.2.2.2.2.1 s.2.2.2.2.2.2.2.2.2.2.2) (fun s => μ s.1 s.2.1 s.2.2.1 s.2.2.2.1 s.2.2.2.2.1 s.2.2.2.2.2.1 s.2.2.2.2.2.2.1 s.2.2.2.2.2.2.2.1 s.2.2.2.2.2.2.2.2.1 s.2.2.2.2.2.2.2.2.2.1 s.2.2.2.2.2.2.2.2.2.2.1 s.2.2.2.2.2.2.2.2.2.2.2) (fun n s hI hk => hs n s.1 s.2.1 s.2.2.1 s.2.2.2.1 s.2.2.2.2.1 s.2.2.2.2.2.1 s.2.2.2.2.2.2.1 s.2.2.2.2.2.2.2.1 s.2.2.2.2.2.2.2.2.1 s.2.2.2.2.2.2.2.2.2.1 s.2.2.2.2.2.2.2.2.2.2.1 s.2.2.2.2.2.2.2.2.2.2.2 hI (fun b1 b2 b3 b4 b5 b6 b7 b8 b9 b10 b11 b12 h9 hm => hk (b1, b2, b3, b4, b5, b6, b7, b8, b9, b10, b11, b12) h9 hm)) (a1, a2, a3, a4, a5, a6, a7, a8, a9, a10, a11, a12) h
theorem lp13 {A1 A2 A3 A4 A5 A6 A7 A8 A9 A10 A11 A12 A13 : Type} (W : Nat → A1 → A2 → A3 → A4 → A5 → A6 → A7 → A8 → A9 → A10 → A11 → A12 → A13 → Prop) (I : A1 → A2 → A3 → A4 → A5 → A6 → A7 → A8 → A9 → A10 → A11 → A12 → A13 → Prop) (μ : A1 → A2 → A3 → A4 → A5 → A6 → A7 → A8 → A9 → A10 → A11 → A12 → A13 → Nat) (hs : ∀ (n : Nat) (a1 : A1) (a2 : A2) (a3 : A3) (a4 : A4) (a5 : A5) (a6 : A6) (a7 : A7) (a8 : A8) (a9 : A9) (a10 : A10) (a11 : A11) (a12 : A12) (a13 : A13), I a1 a2 a3 a4 a5 a6 a7 a8 a9 a10 a11 a12 a13 → (∀ (b1 : A1) (b2 : A2) (b3 : A3) (b4 : A4) (b5 : A5) (b6 : A6) (b7 : A7) (b8 : A8) (b9 : A9) (b10 : A10) (b11 : A11) (b12 : A12) (b13 : A13), I b1 b2 b3 b4 b5 b6 b7 b8 b9 b10 b11 b12 b13 → μ b1 b2 b3 b4 b5 b6 b7 b8 b9 b10 b11 b12 b13 < μ a1 a2 a3 a4 a5 a6 a7 a8 a9 a10 a11 a12 a13 → W n b1 b2 b3 b4 b5 b6 b7 b8 b9 b10 b11 b12 b13) → W (n + 1) a1 a2 a3 a4 a5 a6 a7 a8 a9 a10 a11 a12 a13) (a1 : A1) (a2 : A2) (a3 : A3) (a4 : A4) (a5 : A5) (a6 : A6) (a7 : A7) (a8 : A8) (a9 : A9) (a10 : A10) (a11 : A11) (a12 : A12) (a13 : A13) (h : I a1 a2 a3 a4 a5 a6 a7 a8 a9 a10 a11 a12 a13) : ∃ n, W n a1 a2 a3 a4 a5 a6 a7 a8 a9 a10 a11 a12 a13 :=
  loop_m (σ := A1 × A2 × A3 × A4 × A5 × A6 × A7 × A8 × A9 × A10 × A11 × A12 × A13) (fun n s => W n s.1 s.2.1 s.2.2.1 s.2.2.2.1 s.2.2.2.2.1 s.2.2.2.2.2.1 s.2.2.2.2.2.2.1 s.2.2.2.2.2.2.2.1 s.2.2.2.2.2.2.2.2.1 s.2.2.2.2.2.2.2.2.2.1 s.2.2.2.2.2.2.2.2.2.2.1 s.2.2.2.2.2.2.2.2.2.2.2.1 s.2.2.2.2.2.2.2.2.2.2.2.2) (fun s => I s.1 s.2.1 s.2.2.1 s.2.2.2.1 s.2.2.2.2.1 s.2.2.2.2.2.1 s.2.2.2.2.2.2.1 s.2.2.2.2.2.2.2.1 s.2.2.2.2.2.2.2.2.1 s.2.2.2.2.2.2.2.2.2.1 s.2.2.2.2.2.2.2.2.2.2.1 s.2.2.2.2.2.2.2.2.2.2.2.1 s.2.2.2.2.2.2.2.2.2.2.2.2) (fun s => μ s.1 s.2.1 s.2.2.1 s.2.2.2.1 s.2.2.2.2.1 s.2.2.2.2.2.1 s.2.2.2.2.2.2.1 s.2.2.2.2.2.2.2.1 s.2.2.2.2.2.2.2.2.1 s.2.2.2.2.2.2.2.2.2.1 s.2.2.2.2.2.2.2.2.2.2.1 s.2.2.2.2.2.2.2.2.2.2.2.1 s.2.2.2.2.2.2.2.2.2.2.2.2) (fun n s hI hk => hs n s.1 s.2.1 s.2.2.1 s.2.2.2.1 s.2.2.2.2.1 s.2.2.2.2.2.1 s.2.2.2.2.2.2.1 s.2.2.2.2.2.2.2.1 s.2.2.2.2.2.2.2.2.1 s.2.2.2.2.2.2.2.2.2.1 s.2.2.2.2.2.2.2.2.2.2.1 s.2.2.2.2.2.2.2.2.2.2.2.1 s.2.2.2.2.2.2.2.2.2.2.2.2 hI (fun b1 b2 b3 b4 b5 b6 b7 b8 b9 b10 b11 b12 b13 h9 hm => hk (b1, b2, b3, b4, b5, b6, b7, b8, b9, b10, b11, b12, b13) h9 hm)) (a1, a2, a3, a4, a5, a6, a7, a8, a9, a10, a11, a12, a13) h
theorem lp14 {A1 A2 A3 A4 A5 A6 A7 A8 A9 A10 A11 A12 A13 A14 : Type} (W : Nat → A1 → A2 → A3 → A4 → A5 → A6 → A7 → A8 → A9 → A10 → A11 → A12 → A13 → A14 → Prop) (I : A1 → A2 → A3 → A4 → A5 → A6 → A7 → A8 → A9 → A10 → A11 → A12 → A13 → A14 → Prop) (μ : A1 → A2 → A3 → A4 → A5 → A6 → A7 → A8 → A9 → A10 → A11 → A12 → A13 → A14 → Nat) (hs : ∀ (n : Nat) (a1 : A1) (a2 : A2) (a3 : A3) (a4 : A4) (a5 : A5) (a6 : A6) (a7 : A7) (a8 : A8) (a9 : A9) (a10 : A10) (a11 : A11) (a12 : A12) (a13 : A13) (a14 : A14), I a1 a2 a3 a4 a5 a6 a7 a8 a9 a10 a11 a12 a13 a14 → (∀ (b1 : A1) (b2 : A2) (b3 : A3) (b4 : A4) (b5 : A5) (b6 : A6) (b7 : A7) (b8 : A8) (b9 : A9) (b10 : A10) (b11 : A11) (b12 : A12) (b13 : A13) (b14 : A14), I b1 b2 b3 b4 b5 b6 b7 b8 b9 b10 b11 b12 b13 b14 → μ b1 b2 b3 b4 b5 b6 b7 b8 b9 b10 b11 b12 b13 b14 < μ a1 a2 a3 a4 a5 a6 a7 a8 a9 a10 a11 a12 a13 a14 → W n b1 b2 b3 b4 b5 b6 b7 b8 b9 b10 b11 b12 b13 b14) → W (n + 1) a1 a2 a3 a4 a5 a6 a7 a8 a9 a10 a11 a12 a13 a14) (a1 : A1) (a2 : A2) (a3 : A3) (a4 : A4) (a5 : A5) (a6 : A6) (a7 : A7) (a8 : A8) (a9 : A9) (a10 : A10) (a11 : A11) (a12 : A12) (a13 : A13) (a14 : A14) (h : I a1 a2 a3 a4 a5 a6 a7 a8 a9 a10 a11 a12 a13 a14) : ∃ n, W n a1 a2 a3 a4 a5 a6 a7 a8 a9 a10 a11 a12 a13 a14 :=
  loop_m (σ := A1 × A2 × A3 × A4 × A5 × A6 × A7 × A8 × A9 × A10 × A11 × A12 × A13 × A14) (fun n s => W n s.1 s.2.1 s.2.2.1 s.2.2.2.1 s.2.2.2.2.1 s.2.2.2.2.2.1 s.2.2.2.2.2.2.1 s.2.2.2.2.2.2.2.1 s.2.2.2.2.2.2.2.2.1 s.2.2.2.2.2.2.2.2.2.1 s.2.2.2.2.2.2.2.2.2.2.1 s.2.2.2.2.2.2.2.2.2.2.2.1 s.2.2.2.2.2.2.2.2.2.2.2.2.1 s.2.2.2.2.2.2.2.2.2.2.2.2.2) (fun s => I s.1 s.2.1 s.2.2.1 s.2.2.2.1 s.2.2.2.2.1 s.2.2.2.2.2.1 s.2.2.2.2.2.2.1 s.2.2.2.2.2.2.2.1 s.2.2.2.2.2.2.2.2.1 s.2.2.2.2.2.2.2.2.2.1 s.2.2.2.2.2.2.2.2.2.2.1 s.2.2.2.2.2.2.2.2.2.2.2.1 s.2.2.2.2.2.2.2.2.2.2.2.2.1 s.2.2.2.2.2.2.2.2.2.2.2.2.2) (fun s => μ s.1 s.2.1 s.2.2.1 s.2.2.2.1 s.2.2.2.2.1 s.2.2.2.2.2.1 s.2.2.2.2.2.2.1 s.2.2.2.2.2.2.2.1 s.2.2.2.2.2.2.2.2.1 s.2.2.2.2.2.2.2.2.2.1 s.2.2.2.2.2.2.2.2.2.2.1 s.2.2.2.2.2.2.2.2.2.2.2.1 s.2.2.2.2.2.2.2.2.2.2.2.2.1 s.2.2.2.2.2.2.2.2.2.2.2.2.2) (fun n s hI hk => hs n s.1 s.2.1 s.2.2.1 s.2.2.2.1 s.2.2.2.2.1 s.2.2.2.2.2.1 s.2.2.2.2.2.2.1 s.2.2.2.2.2.2.2.1 s.2.2.2.2.2.2.2.2.1 s.2.2.2.2.2.2.2.2.2.1 s.2.2.2.2.2.2.2.2.2.2.1 s.2.2.2.2.2.2.2.2.2.2.2.1 s.2.2.2.2.2.2.2.2.2.2.2.2.1 s.2.2.2.2.2.2.2.2.2.2.2.2.2 hI (fun b1 b2 b3 b4 b5 b6 b7 b8 b9 b10 b11 b12 b13 b14 h9 hm => hk (b1, b2, b3, b4, b5, b6, b7, b8, b9, b10, b11, b12, b13, b14) h9 hm)) (a1, a2, a3, a4, a5, a6, a7, a8, a9, a10, a11, a12, a13, a14) h
theorem lp15 {A1 A2 A3 A4 A5 A6 A7 A8 A9 A10 A11 A12 A13 A14 A15 : Type} (W : Nat → A1 → A2 → A3 → A4 → A5 → A6 → A7 → A8 → A9 → A10 → A11 → A12 → A13 → A14 → A15 → Prop) (I : A1 → A2 → A3 → A4 → A5 → A6 → A7 → A8 → A9 → A10 → A11 → A12 → A13 → A14 → A15 → Prop) (μ : A1 → A2 → A3 → A4 → A5 → A6 → A7 → A8 → A9 → A10 → A11 → A12 → A13 → A14 → A15 → Nat) (hs : ∀ (n : Nat) (a1 : A1) (a2 : A2) (a3 : A3) (a4 : A4) (a5 : A5) (a6 : A6) (a7 : A7) (a8 : A8) (a9 : A9) (a10 : A10) (a11 : A11) (a12 : A12) (a13 : A13) (a14 : A14) (a15 : A15), I a1 a2 a3 a4 a5 a6 a7 a8 a9 a10 a11 a12 a13 a14 a15 → (∀ (b1 : A1) (b2 : A2) (b3 : A3) (b4 : A4) (b5 : A5) (b6 : A6) (b7 : A7) (b8 : A8) (b9 : A9) (b10 : A10) (b11 : A11) (b12 : A12) (b13 : A13) (b14 : A14) (b15 : A15), I b1 b2 b3 b4 b5 b6 b7 b8 b9 b10 b11 b12 b13 b14 b15 → μ b1 b2 b3 b4 b5 b6 b7 b8 b9 b10 b11 b12 b13 b14 b15 < μ a1 a2 a3 a4 a5 a6 a7 a8 a9 a10 a11 a12 a13 a14 a15 → W n b1 b2 b3 b4 b5 b6 b7 b8 b9 b10 b11 b12 b13 b14 b15) → W (n + 1) a1 a2 a3 a4 a5 a6 a7 a8 a9 a10 a11 a12 a13 a14 a15) (a1 : A1) (a2 : A2) (a3 : A3) (a4 : A4) (a5 : A5) (a6 : A6) (a7 : A7) (a8 : A8) (a9 : A9) (a10 : A10) (a11 : A11) (a12 : A12) (a13 : A13) (a14 : A14) (a15 : A15) (h : I a1 a2 a3 a4 a5 a6 a7 a8 a9 a10 a11 a12 a13 a14 a15) : ∃ n, W n a1 a2 a3 a4 a5 a6 a7 a8 a9 a10 a11 a12 a13 a14 a15 :=
  loop_m (σ := A1 × A2 × A3 × A4 × A5 × A6 × A7 × A8 × A9 × A10 × A11 × A12 × A13 × A14 × A15) (fun n s => W n s.1 s.2.1 s.2.2.1 s.2.2.2.1 s.2.2.2.2.1 s.2.2.2.2.2.1 s.2.2.2.2.2.2.1 s.2.2.2.2.2.2.2.1 s.2.2.2.2.2.2.2.2.1 s.2.2.2.2.2.2.2.2.2.1 s.2.2.2.2.2.2.2.2.2.2.1 s.2.2.2.2.2.2.2.2.2.2.2.1 s.2.2.2.2.2.2.2.2.2.2.2.2.1 s.2.2.2.2.2.2.2.2.2.2.2.2.2.1 s.2.2.2.2.2.2.2.2.2.2.2.2.2.2) (fun s => I s.1 s.2.1 s.2.2.1 s.2.2.2.1 s.2.2.2.2.1 s.2.2.2.2.2.1 s.2.2.2.2.2.2.1 s.2.2.2.2.2.2.2.1 s.2.2.2.2.2.2.2.2.1 s.2.2.2.2.2.2.2.2.2.1 s.2.2.2.2.2.2.2.2.2.2.1 s.2.2.2.2.2.2.2.2.2.2.2.1 s.2.2.2.2.2.2.2.2.2.2.2.2.1 s.2.2.2.2.2.2.2.2.2.2.2.2.2.1 s.2.2.2.2.2.2.2.2.2.2.2.2.2.2) (fun s => μ s.1 s.2.1 s.2.2.1 s.2.2.2.1 s.2.2.2.2.1 s.2.2.2.2.2.1 s.2.2.2.2.2.2.1 s.2.2.2.2.2.2.2.1 s.2.2.2.2.2.2.2.2.1 s.2.2.2.2.2.2.2.2.2.1 s.2.2.2.2.2.2.2.2.2.2.1 s.2.2.2.2.2.2.2.2.2.2.2.1 s.2.2.2.2.2.2.2.2.2.2.2.2.1 s.2.2.2.2.2.2.2.2.2.2.2.2.2.1 s.2.2.2.2.2.2.2.2.2.2.2.2.2.2) (fun n s hI hk => hs n s.1 s.2.1 s.2.2.1 s.2.2.2.1 s.2.2.2.2.1 s.2.2.2.2.2.1 s.2.2.2.2.2.2.1 s.2.2.2.2.2.2.2.1 s.2.2.2.2.2.2.2.2.1 s.2.2.2.2.2.2.2.2.2.1 s.2.2.2.2.2.2.2.2.2.2.1 s.2.2.2.2.2.2.2.2.2.2.2.1 s.2.2.2.2.2.2.2.2.2.2.2.2.1 s.2.2.2.2.2.2.2.2.2.2.2.2.2.1 s.2.2.2.2.2.2.2.2.2.2.2.2.2.2 hI (fun b1 b2 b3 b4 b5 b6 b7 b8 b9 b10 b11 b12 b13 b14 b15 h9 hm => hk (b1, b2, b3, b4, b5, b6, b7, b8, b9, b10, b11, b12, b13, b14, b15) h9 hm)) (a1, a2, a3, a4, a5, a6, a7, a8, a9, a10, a11, a12, a13, a14, a15) h
theorem lp16 {A1 A2 A3 A4 A5 A6 A7 A8 A9 A10 A11 A12 A13 A14 A15 A16 : Type} (W : Nat → A1 → A2 → A3 → A4 → A5 → A6 → A7 → A8 → A9 → A10 → A11 → A12 → A13 → A14 → A15 → A16 → Prop) (I : A1 → A2 → A3 → A4 → A5 → A6 → A7 → A8 → A9 → A10 → A11 → A12 → A13 → A14 → A15 → A16 → Prop) (μ : A1 → A2 → A3 → A4 → A5 → A6 → A7 → A8 → A9 → A10 → A11 → A12 → A13 → A14 → A15 → A16 → Nat) (hs : ∀ (n : Nat) (a1 : A1) (a2 : A2) (a3 : A3) (a4 : A4) (a5 : A5) (a6 : A6) (a7 : A7) (a8 : A8) (a9 : A9) (a10 : A10) (a11 : A11) (a12 : A12) (a13 : A13) (a14 : A14) (a15 : A15) (a16 : A16), I a1 a2 a3 a4 a5 a6 a7 a8 a9 a10 a11 a12 a13 a14 a15 a16 → (∀ (b1 : A1) (b2 : A2) (b3 : A3) (b4 : A4) (b5 : A5) (b6 : A6) (b7 : A7) (b8 : A8) (b9 : A9) (b10 : A10) (b11 : A11) (b12 : A12) (b13 : A13) (b14 : A14) (b15 : A15) (b16 : A16), I b1 b2 b3 b4 b5 b6 b7 b8 b9 b10 b11 b12 b13 b14 b15 b16 → μ b1 b2 b3 b4 b5 b6 b7 b8 b9 b10 b11 b12 b13 b14 b15 b16 < μ a1 a2 a3 a4 a5 a6 a7 a8 a9 a10 a11 a12 a13 a14 a15 a16 → W n b1 b2 b3 b4 b5 b6 b7 b8 b9 b10 b11 b12 b13 b14 b15 b16) → W (n + 1) a1 a2 a3 a4 a5 a6 a7 a8 a9 a10 a11 a12 a13 a14 a15 a16) (a1 : A1) (a2 : A2) (a3 : A3) (a4 : A4) (a5 : A5) (a6 : A6) (a7 : A7) (a8 : A8) (a9 : A9) (a10 : A10) (a11 : A11) (a12 : A12) (a13 : A13) (a14 : A14) (a15 : A15) (a16 : A16) (h : I a1 a2 a3 a4 a5 a6 a7 a8 a9 a10 a11 a12 a13 a14 a15 a16) : ∃ n, W n a1 a2 a3 a4 a5 a6 a7 a8 a9 a10 a11 a12 a13 a14 a15 a16 :=
  loop_m (σ := A1 × A2 × A3 × A4 × A5 × A6 × A7 × A8 × A9 × A10 × A11 × A12 × A13 × A14 × A15 × A16) (fun n s => W n s.1 s.2.1 s.2.2.1 s.2.2.2.1 s.2.2.2.2.1 s.2.2.2.2.2.1 s.2.2.2.2.2.2.1 s.2.2.2.2.2.2.2.1 s.2.2.2.2.2.2.2.2.1 s.2.2.2.2.2.2.2.2.2.1 s.2.2.2.2.2.2.2.2.2.2.1 s.2.2.2.2.2.2.2.2.2.2.2.1 s.2.2.2.2.2.2.2.2.2.2.2.2.1 s.2.2.2.2.2.2.2.2.2.2.2.2.2.1 s.2.2.2.2.2.2.2.2.2.2.2.2.2.2.1 s.2.2.2.2.2.2.2.2.2.2.2.2.2.2.2) (fun s => I s.1 s.2.1 s.2.2.1 s.2.2.2.1 s.2.2.2.2.1 s.2.2.2.2.2.1 s.2.2.2.2.2.2.1 s.2.2.2.2.2.2.2.1 s.2.2.2.2.2.2.2.2.1 s.2.2.2.2.2.2.2.2.2.1 s.2.2.2.2.2.2.2.2.2.2.1 s.2.2.2.2.2.2.2.2.2.2.2.1 s.2.2.2.2.2.2.2.2.2.2.2.2.1 s.2.2.2.2.2.2.2.2.2.2.2.2.2.1 s.2.2.2.2.2.2.2.2.2.2.2.2.2.2.1 s.2.2.2.2.2.2.2.2.2.2.2.2.2.2.2) (fun s => μ s.1 s.2.1 s.2.2.1 s.2.2.2.1 s.2.2.2.2.1 s.2.2.2.2.2.1 s.2.2.2.2.2.2.1 s.2.2.2.2.2.2.2.1 s.2.2.2.2.2.2.2.2.1 s.2.2.2.2.2.2.2.2.2.1 s.2.2.2.2.2.2.2.2.2.2.1 s.2.2.2.2.2.2.2.2.2.2.2.1 s.2.2.2.2.2.2.2.2.2.2.2.2.1 s.2.2.2.2.2.2.2.2.2.2.2.2.2.1 s.2.2.2.2.2.2.2.2.2.2.2.2.2.2.1 s.2.2.2.2.2.2.2.2.2.2.2.2.2.2.2) (fun n s hI hk => hs n s.1 s.2.1 s.2.2.1 s.2.2.2.1 s.2.2.2.2.1 s.2.2.2.2.2.1 s.2.2.2.2.2.2.1 s.2.2.2.2.2.2.2.1 s.2.2.2.2.2.2.2.2.1 s.2.2.2.2.2.2.2.2.2.1 s.2.2.2.2.2.2.2.2.2.2.1 s.2.2.2.2.2.2.2.2.2.2.2.1 s.2.2.2.2.2.2.2.2.2.2.2.2.1 s.2.2.2.2.2.2.2.2.2.2.2.2.2.1 s.2.2.2.2.2.2.2.2.2.2.2.2.2.2.1 s.2.2.2.2.2.2.2.2.2.2.2.2.2.2.2 hI (fun b1 b2 b3 b4 b5 b6 b7 b8 b9 b10 b11 b12 b13 b14 b15 b16 h9 hm => hk (b1, b2, b3, b4, b5, b6, b7, b8, b9, b10, b11, b12, b13, b14, b15, b16) h9 hm)) (a1, a2, a3, a4, a5, a6, a7, a8, a9, a10, a11, a12, a13, a14, a15, a16) h
theorem pk_least (P : Nat → Prop) (h : ∃ k, P k) : ∃ k, P k ∧ ∀ j, j < k → ¬ P j := by
  obtain ⟨k, hk⟩ := h
  induction k using Nat.strongRecOn with
  | ind k ih =>
    by_cases e : ∃ j, j < k ∧ P j
    · obtain ⟨j, hj, pj⟩ := e
      exact ih j hj pj
    · exact ⟨k, hk, fun j hj pj => e ⟨j, hj, pj⟩⟩
theorem rp1 {ρ A1 : Type} (W : Nat → (ρ → Prop) → A1 → Prop) (ok : A1 → Prop) (μ : A1 → Nat) (val : A1 → ρ)
    (hs : ∀ (d : Nat) (post : ρ → Prop) (a1 : A1), ok a1 → post (val a1) → (∀ (post' : ρ → Prop) (b1 : A1), ok b1 → μ b1 < μ a1 → post' (val b1) → W d post' b1) → W (d + 1) post a1) :
    ∀ (d : Nat) (post : ρ → Prop) (a1 : A1), ok a1 → μ a1 < d → post (val a1) → W d post a1 := by
  intro d
  induction d with
  | zero => intro post a1 _ h; omega
  | succ d ih =>
    intro post a1 ho hm hp
    exact hs d post a1 ho hp (fun post' b1 ho' hm' hp' => ih post' b1 ho' (by omega) hp')
theorem rp2 {ρ A1 A2 : Type} (W : Nat → (ρ → Prop) → A1 → A2 → Prop) (ok : A1 → A2 → Prop) (μ : A1 → A2 → Nat) (val : A1 → A2 → ρ)
    (hs : ∀ (d : Nat) (post : ρ → Prop) (a1 : A1) (a2 : A2), ok a1 a2 → post (val a1 a2) → (∀ (post' : ρ → Prop) (b1 : A1) (b2 : A2), ok b1 b2 → μ b1 b2 < μ a1 a2 → post' (val b1 b2) → W d post' b1 b2) → W (d + 1) post a1 a2) :
    ∀ (d : Nat) (post : ρ → Prop) (a1 : A1) (a2 : A2), ok a1 a2 → μ a1 a2 < d → post (val a1 a2) → W d post a1 a2 := by
  intro d
  induction d with
  | zero => intro post a1 a2 _ h; omega
  | succ d ih =>
    intro post a1 a2 ho hm hp
    exact hs d post a1 a2 ho hp (fun post' b1 b2 ho' hm' hp' => ih post' b1 b2 ho' (by omega) hp')
theorem rp3 {ρ A1 A2 A3 : Type} (W : Nat → (ρ → Prop) → A1 → A2 → A3 → Prop) (ok : A1 → A2 → A3 → Prop) (μ : A1 → A2 → A3 → Nat) (val : A1 → A2 → A3 → ρ)
    (hs : ∀ (d : Nat) (post : ρ → Prop) (a1 : A1) (a2 : A2) (a3 : A3), ok a1 a2 a3 → post (val a1 a2 a3) → (∀ (post' : ρ → Prop) (b1 : A1) (b2 : A2) (b3 : A3), ok b1 b2 b3 → μ b1 b2 b3 < μ a1 a2 a3 → post' (val b1 b2 b3) → W d post' b1 b2 b3) → W (d + 1) post a1 a2 a3) :
    ∀ (d : Nat) (post : ρ → Prop) (a1 : A1) (a2 : A2) (a3 : A3), ok a1 a2 a3 → μ a1 a2 a3 < d → post (val a1 a2 a3) → W d post a1 a2 a3 := by
  intro d
  induction d with
  | zero => intro post a1 a2 a3 _ h; omega
  | succ d ih =>
    intro post a1 a2 a3 ho hm hp
    exact hs d post a1 a2 a3 ho hp (fun post' b1 b2 b3 ho' hm' hp' => ih post' b1 b2 b3 ho' (by omega) hp')
theorem rp4 {ρ A1 A2 A3 A4 : Type} (W : Nat → (ρ → Prop) → A1 → A2 → A3 → A4 → Prop) (ok : A1 → A2 → A3 → A4 → Prop) (μ : A1 → A2 → A3 → A4 → Nat) (val : A1 → A2 → A3 → A4 → ρ)
    (hs : ∀ (d : Nat) (post : ρ → Prop) (a1 : A1) (a2 : A2) (a3 : A3) (a4 : A4), ok a1 a2 a3 a4 → post (val a1 a2 a3 a4) → (∀ (post' : ρ → Prop) (b1 : A1) (b2 : A2) (b3 : A3) (b4 : A4), ok b1 b2 b3 b4 → μ b1 b2 b3 b4 < μ a1 a2 a3 a4 → post' (val b1 b2 b3 b4) → W d post' b1 b2 b3 b4) → W (d + 1) post a1 a2 a3 a4) :
    ∀ (d : Nat) (post : ρ → Prop) (a1 : A1) (a2 : A2) (a3 : A3) (a4 : A4), ok a1 a2 a3 a4 → μ a1 a2 a3 a4 < d → post (val a1 a2 a3 a4) → W d post a1 a2 a3 a4 := by
  intro d
  induction d with
  | zero => intro post a1 a2 a3 a4 _ h; omega
  | succ d ih =>
    intro post a1 a2 a3 a4 ho hm hp
    exact hs d post a1 a2 a3 a4 ho hp (fun post' b1 b2 b3 b4 ho' hm' hp' => ih post' b1 b2 b3 b4 ho' (by omega) hp')
theorem rp5 {ρ A1 A2 A3 A4 A5 : Type} (W : Nat → (ρ → Prop) → A1 → A2 → A3 → A4 → A5 → Prop) (ok : A1 → A2 → A3 → A4 → A5 → Prop) (μ : A1 → A2 → A3 → A4 → A5 → Nat) (val : A1 → A2 → A3 → A4 → A5 → ρ)
    (hs : ∀ (d : Nat) (post : ρ → Prop) (a1 : A1) (a2 : A2) (a3 : A3) (a4 : A4) (a5 : A5), ok a1 a2 a3 a4 a5 → post (val a1 a2 a3 a4 a5) → (∀ (post' : ρ → Prop) (b1 : A1) (b2 : A2) (b3 : A3) (b4 : A4) (b5 : A5), ok b1 b2 b3 b4 b5 → μ b1 b2 b3 b4 b5 < μ a1 a2 a3 a4 a5 → post' (val b1 b2 b3 b4 b5) → W d post' b1 b2 b3 b4 b5) → W (d + 1) post a1 a2 a3 a4 a5) :
    ∀ (d : Nat) (post : ρ → Prop) (a1 : A1) (a2 : A2) (a3 : A3) (a4 : A4) (a5 : A5), ok a1 a2 a3 a4 a5 → μ a1 a2 a3 a4 a5 < d → post (val a1 a2 a3 a4 a5) → W d post a1 a2 a3 a4 a5 := by
  intro d
  induction d with
  | zero => intro post a1 a2 a3 a4 a5 _ h; omega
  | succ d ih =>
    intro post a1 a2 a3 a4 a5 ho hm hp
    exact hs d post a1 a2 a3 a4 a5 ho hp (fun post' b1 b2 b3 b4 b5 ho' hm' hp' => ih post' b1 b2 b3 b4 b5 ho' (by omega) hp')
theorem rp6 {ρ A1 A2 A3 A4 A5 A6 : Type} (W : Nat → (ρ → Prop) → A1 → A2 → A3 → A4 → A5 → A6 → Prop) (ok : A1 → A2 → A3 → A4 → A5 → A6 → Prop) (μ : A1 → A2 → A3 → A4 → A5 → A6 → Nat) (val : A1 → A2 → A3 → A4 → A5 → A6 → ρ)
    (hs : ∀ (d : Nat) (post : ρ → Prop) (a1 : A1) (a2 : A2) (a3 : A3) (a4 : A4) (a5 : A5) (a6 : A6), ok a1 a2 a3 a4 a5 a6 → post (val a1 a2 a3 a4 a5 a6) → (∀ (post' : ρ → Prop) (b1 : A1) (b2 : A2) (b3 : A3) (b4 : A4) (b5 : A5) (b6 : A6), ok b1 b2 b3 b4 b5 b6 → μ b1 b2 b3 b4 b5 b6 < μ a1 a2 a3 a4 a5 a6 → post' (val b1 b2 b3 b4 b5 b6) → W d post' b1 b2 b3 b4 b5 b6) → W (d + 1) post a1 a2 a3 a4 a5 a6) :
    ∀ (d : Nat) (post : ρ → Prop) (a1 : A1) (a2 : A2) (a3 : A3) (a4 : A4) (a5 : A5) (a6 : A6), ok a1 a2 a3 a4 a5 a6 → μ a1 a2 a3 a4 a5 a6 < d → post (val a1 a2 a3 a4 a5 a6) → W d post a1 a2 a3 a4 a5 a6 := by
  intro d
  induction d with
  | zero => intro post a1 a2 a3 a4 a5 a6 _ h; omega
  | succ d ih =>
    intro post a1 a2 a3 a4 a5 a6 ho hm hp
    exact hs d post a1 a2 a3 a4 a5 a6 ho hp (fun post' b1 b2 b3 b4 b5 b6 ho' hm' hp' => ih post' b1 b2 b3 b4 b5 b6 ho' (by omega) hp')
theorem rec_p {σ ρ : Type} (W : Nat → (ρ → Prop) → σ → Prop) (ok : σ → Prop) (μ : σ → Nat) (val : σ → ρ)
    (hs : ∀ d s post, ok s → post (val s) → (∀ s' post', ok s' → μ s' < μ s → post' (val s') → W d post' s') → W (d + 1) post s) :
    ∀ d s post, ok s → μ s < d → post (val s) → W d post s := by
  intro d
  induction d with
  | zero => intro s post _ h; omega
  | succ d ih =>
    intro s post ho hm hp
    exact hs d s post ho hp (fun s' post' ho' hm' hp' => ih s' post' ho' (by omega) hp')
theorem rec_q {σ ρ : Type} (W : Nat → (ρ → Prop) → σ → Prop) (ok : σ → Prop) (μ : σ → Nat) (Q : σ → ρ → Prop)
    (hs : ∀ d s post, ok s → (∀ r, Q s r → post r) → (∀ s' post', ok s' → μ s' < μ s → (∀ r, Q s' r → post' r) → W d post' s') → W (d + 1) post s) :
    ∀ d s post, ok s → μ s < d → (∀ r, Q s r → post r) → W d post s := by
  intro d
  induction d with
  | zero => intro s post _ h; omega
  | succ d ih =>
    intro s post ho hm hp
    exact hs d s post ho hp (fun s' post' ho' hm' hp' => ih s' post' ho' (by omega) hp')
def bx_sum (f : Nat → Int32) : Nat → Int32
  | 0 => 0
  | n + 1 => bx_sum f n + f n
theorem ek_u {A : Prop} {B : Nat → Prop} {k N : Nat} (hk : k < N) (h : B k) : (some k = none → A) ∧ (∀ y : Nat, some k = some y → (y < N ∧ B y)) :=
  ⟨fun z => absurd z (Option.some_ne_none k), fun _ e => (by cases e; exact ⟨hk, h⟩)⟩
theorem ek_nu {A : Prop} {B : Nat → Prop} (h : A) : ((none : Option Nat) = none → A) ∧ (∀ y : Nat, (none : Option Nat) = some y → B y) :=
  ⟨fun _ => h, fun _ e => (by cases e)⟩
theorem ek_if {c d A B : Prop} (e : c ↔ d) (f : d → A) (g : ¬ d → B) : (c → A) ∧ (¬ c → B) :=
  ⟨fun z => f (e.mp z), fun z => g (fun y => z (e.mpr y))⟩
theorem ek_v {α : Sort _} {P : α → Prop} {a b : α} (e : a = b) (h : P b) : P a := e ▸ h
theorem co_some {x : Option Nat} {A : Prop} {B : Nat → Prop} (i : Nat) (h : B i) (hx : x = some i := by rfl) : (x = none → A) ∧ (∀ y : Nat, x = some y → B y) := by
  subst hx
  exact ⟨fun e => (nomatch e), fun y e => Option.some.inj e ▸ h⟩
theorem co_none {x : Option Nat} {A : Prop} {B : Nat → Prop} (h : A) (hx : x = none := by rfl) : (x = none → A) ∧ (∀ y : Nat, x = some y → B y) := by
  subst hx
  exact ⟨fun _ => h, fun y e => (nomatch e)⟩
theorem co_any {x : Option Nat} {A : Prop} {B : Nat → Prop} (hn : x = none → A) (hs : ∀ i : Nat, x = some i → B i) : (x = none → A) ∧ (∀ y : Nat, x = some y → B y) := ⟨hn, hs⟩
theorem co_2 {P : Nat → Prop} (h0 : P 0) (h1 : P 1) {i : Nat} (hi : i < 2) : P i :=
  match i, hi with
  | 0, _ => h0
  | 1, _ => h1
theorem co_3 {P : Nat → Prop} (h0 : P 0) (h1 : P 1) (h2 : P 2) {i : Nat} (hi : i < 3) : P i :=
  match i, hi with
  | 0, _ => h0
  | 1, _ => h1
  | 2, _ => h2
theorem co_4 {P : Nat → Prop} (h0 : P 0) (h1 : P 1) (h2 : P 2) (h3 : P 3) {i : Nat} (hi : i < 4) : P i :=
  match i, hi with
  | 0, _ => h0
  | 1, _ => h1
  | 2, _ => h2
  | 3, _ => h3
theorem co_dec {N : Nat} {P : Nat → Prop} [DecidablePred P] (h : (List.range N).all (fun i => decide (P i)) = true) {i : Nat} (hi : i < N) : P i := by
  have := List.all_eq_true.mp h i (List.mem_range.mpr hi)
  exact of_decide_eq_true this
theorem co_tab {α : Type} {l : List α} {d : α} {P : α → Prop} (h : ∀ a, a ∈ l → P a) {i : Nat} (hi : i < l.length) : P (l.getD i d) := by
  rw [List.getD_eq_getElem?_getD, List.getElem?_eq_getElem hi]
  exact h _ (List.getElem_mem hi)
theorem pk_mu {x : Int32} {L : Nat} (h0 : ¬ x < 0) (h : ¬ nI L ≤ x) (hL : L < 2 ^ 31) : ∃ j : Nat, j < L ∧ x = nI j ∧ x + 1 = nI (j + 1) ∧ x.toNatClampNeg = j ∧ L - (x + 1).toNatClampNeg < L - x.toNatClampNeg := by
  obtain ⟨j, hj, rfl⟩ := nI_of h0
  have hl : j < L := Nat.not_le.mp fun q => h (nI_le q hj)
  refine ⟨j, hl, rfl, nI_1 j, nI_clamp hj, ?_⟩
  rw [nI_1, nI_clamp (by omega), nI_clamp hj]
  omega
theorem op_s {α : Type} {r : Option α} {A : Prop} {B : α → Prop} {y : α} (h : r = some y) (b : B y) : (r = none → A) ∧ ∀ z, r = some z → B z :=
  ⟨fun e => (by rw [h] at e; cases e), fun z e => (by rw [h] at e; cases e; exact b)⟩
def l_holds {α : Type} (a : Nat → Option Nat) (LP : List Nat) (p : Nat → α) (c : Nat) (b : Nat → α) : Prop :=
  ∀ j, j < c → ∃ y, a j = some y ∧ y ∈ LP ∧ p y = b j
theorem l_holds_0 {α : Type} {a : Nat → Option Nat} {LP : List Nat} {p b : Nat → α} : l_holds a LP p 0 b := fun j h => absurd h (Nat.not_lt_zero j)
theorem l_in_new (LP : List Nat) (q : Nat) : q ∈ LP ++ [q] := List.mem_append.mpr (Or.inr (List.mem_singleton.mpr rfl))
def l_sum (b : Nat → Int32) : Nat → Int32
  | 0 => 0
  | k + 1 => l_sum b k + b k
theorem sb_shr0 (x : Int32) : x >>> ((0 : Int32) &&& 31) = x := by
  rw [show ((0 : Int32) &&& 31) = 0 by decide]
  simp
theorem sb_shl0 (x : Int32) : x <<< ((0 : Int32) &&& 31) = x := by
  rw [show ((0 : Int32) &&& 31) = 0 by decide]
  simp
theorem sb_cl0 : (0 : Int32).toNatClampNeg = 0 := by decide
theorem sb_m1 {p : Nat} (h : 0 < p) : nI p + (-1) = nI (p - 1) := by
  obtain ⟨q, rfl⟩ : ∃ q, p = q + 1 := ⟨p - 1, by omega⟩
  exact pk_m1 q
def sb_b (c : Nat) : Int32 := (nI c).toInt8.toInt32
theorem sb_byte : ∀ c, c < 256 → sb_b c &&& 255 = nI c ∧ ((nI c).toUInt32 % 65536).toInt32 = nI c ∧ nI c ≤ 255 := by decide +kernel
def sb_Fit (a : Nat → Int32) : Prop := ∀ j, fits .byte (.int (a j)) = true
def sb_Lat (t : Nat → Nat) (n : Nat) (a : Nat → Int32) : Prop := ∀ j, j < n → t j < 256 ∧ a j = sb_b (t j)
theorem sb_fitB (c : Nat) : fits .byte (.int (sb_b c)) = true := pk_fb _
theorem sb_fit0 : sb_Fit (fun _ => 0) := fun _ => by
  show fits .byte (.int 0) = true
  decide
theorem sb_fitU {a : Nat → Int32} {k : Nat} {x : Int32} (h : sb_Fit a) (hx : fits .byte (.int x) = true) : sb_Fit (upd a k x) := by
  intro j
  by_cases e : j = k
  · subst e
    rw [pk_us]
    exact hx
  · rw [pk_un e]
    exact h j
def sb_cat (t : Nat → Nat) (n : Nat) (s : Nat → Nat) : Nat → Nat := fun j => if j < n then t j else s (j - n)
theorem sb_cat_lo {t s : Nat → Nat} {n j : Nat} (h : j < n) : sb_cat t n s j = t j := if_pos h
theorem sb_cat_hi {t s : Nat → Nat} {n j : Nat} : sb_cat t n s (n + j) = s j := by
  show (if n + j < n then t (n + j) else s (n + j - n)) = s j
  rw [if_neg (by omega), Nat.add_sub_cancel_left]
theorem sb_latPut {t s : Nat → Nat} {n w : Nat} {a a' : Nat → Int32} (h : sb_Lat t n a) (hk : ∀ j, j < n → a' j = a j) (hs : ∀ i, i < w → s i < 256 ∧ a' (n + i) = sb_b (s i)) : sb_Lat (sb_cat t n s) (n + w) a' := by
  intro j hj
  by_cases e : j < n
  · rw [sb_cat_lo e, hk j e]
    exact h j e
  · obtain ⟨i, rfl⟩ : ∃ i, j = n + i := ⟨j - n, by omega⟩
    rw [sb_cat_hi]
    exact hs i (by omega)
theorem sb_latKeep {t : Nat → Nat} {n : Nat} {a a' : Nat → Int32} (h : sb_Lat t n a) (hk : ∀ j, j < n → a' j = a j) : sb_Lat t n a' := fun j hj => by
  rw [hk j hj]
  exact h j hj
def sb_cap (q m : Nat) : Nat := if q ≤ m then m else if 2 * m + 2 < q then q else 2 * m + 2
def sb_Room (q m mc ms : Nat) : Prop := q ≤ m ∨ (1 ≤ mc ∧ sb_cap q m ≤ ms ∧ sb_cap q m ≤ 65536)
theorem sb_cap_ge (q m : Nat) : q ≤ sb_cap q m := by
  unfold sb_cap
  split
  · omega
  · split <;> omega
theorem sb_cap_gem (q m : Nat) : m ≤ sb_cap q m := by
  unfold sb_cap
  split
  · omega
  · split <;> omega
theorem sb_cap_le {q m mc ms : Nat} (hm : m ≤ 65536) (hr : sb_Room q m mc ms) : sb_cap q m ≤ 65536 := by
  rcases hr with h | h
  · rw [sb_cap, if_pos h]
    exact hm
  · exact h.2.2
theorem sb_at {P : Int32 → Prop} {x y : Int32} (e : x = y) (h : P y) : P x := e ▸ h
def sb_dg (w : Nat) : Nat := if w < 10 then 1 else if w < 100 then 2 else if w < 1000 then 3 else if w < 10000 then 4 else if w < 100000 then 5 else if w < 1000000 then 6 else if w < 10000000 then 7 else if w < 100000000 then 8 else if w < 1000000000 then 9 else 10
def sb_dec (v : Nat) : Nat → Nat := fun i => 48 + v / 10 ^ (sb_dg v - 1 - i) % 10
theorem sb_dg_in (w : Nat) : 1 ≤ sb_dg w ∧ sb_dg w ≤ 10 := by
  unfold sb_dg
  constructor <;> (repeat' split) <;> omega
theorem sb_dg100 {w : Nat} (h : 100 ≤ w) (hw : w < 2 ^ 31) : sb_dg w = sb_dg (w / 100) + 2 := by
  rw [sb_dg, sb_dg, if_neg (show ¬ w < 10 by omega), if_neg (show ¬ w < 100 by omega)]
  by_cases h3 : w < 1000
  · rw [if_pos h3, if_pos (show w / 100 < 10 by omega)]
  rw [if_neg h3, if_neg (show ¬ w / 100 < 10 by omega)]
  by_cases h4 : w < 10000
  · rw [if_pos h4, if_pos (show w / 100 < 100 by omega)]
  rw [if_neg h4, if_neg (show ¬ w / 100 < 100 by omega)]
  by_cases h5 : w < 100000
  · rw [if_pos h5, if_pos (show w / 100 < 1000 by omega)]
  rw [if_neg h5, if_neg (show ¬ w / 100 < 1000 by omega)]
  by_cases h6 : w < 1000000
  · rw [if_pos h6, if_pos (show w / 100 < 10000 by omega)]
  rw [if_neg h6, if_neg (show ¬ w / 100 < 10000 by omega)]
  by_cases h7 : w < 10000000
  · rw [if_pos h7, if_pos (show w / 100 < 100000 by omega)]
  rw [if_neg h7, if_neg (show ¬ w / 100 < 100000 by omega)]
  by_cases h8 : w < 100000000
  · rw [if_pos h8, if_pos (show w / 100 < 1000000 by omega)]
  rw [if_neg h8, if_neg (show ¬ w / 100 < 1000000 by omega)]
  by_cases h9 : w < 1000000000
  · rw [if_pos h9, if_pos (show w / 100 < 10000000 by omega)]
  rw [if_neg h9, if_neg (show ¬ w / 100 < 10000000 by omega)]
  rw [if_pos (show w / 100 < 100000000 by omega)]
theorem sb_negT {w : Nat} (h : w < 2 ^ 31) : (-nI w).toInt = -(w : Int) := by
  rw [Int32.toInt_neg, nI_toInt h]
  exact Int.bmod_eq_of_le (by omega) (by omega)
theorem sb_nle {a b : Nat} (ha : a < 2 ^ 31) (hb : b < 2 ^ 31) : -nI a ≤ -nI b ↔ b ≤ a := by
  rw [Int32.le_iff_toInt_le, sb_negT ha, sb_negT hb]
  omega
theorem sb_nlt {a b : Nat} (ha : a < 2 ^ 31) (hb : b < 2 ^ 31) : -nI a < -nI b ↔ b < a := by
  rw [Int32.lt_iff_toInt_lt, sb_negT ha, sb_negT hb]
  omega
theorem sb_cmp {A B : Prop} {x : Int32} (v c : Nat) (f : c ≤ v → A) (g : v < c → B) (hv : v < 2 ^ 31) (hx : x = -nI c := by rfl) (hc : c < 2 ^ 31 := by omega) : (-nI v ≤ x → A) ∧ (¬ -nI v ≤ x → B) := by
  subst hx
  rw [sb_nle hv hc]
  exact ⟨f, fun z => g (by omega)⟩
theorem sb_ndiv {w : Nat} (hw : w < 2 ^ 31) : (-nI w) / 100 = -nI (w / 100) := by
  apply Int32.toInt_inj.mp
  have h100 : (100 : Int32).toInt = 100 := by decide
  rw [Int32.toInt_div, sb_negT hw, h100, sb_negT (by omega), Int.neg_tdiv, Int.tdiv_eq_ediv_of_nonneg (by omega), Int.bmod_eq_of_le (by omega) (by omega)]
  omega
theorem sb_nrem {w : Nat} (hw : w < 2 ^ 31) : (-nI (w / 100)) * 100 - (-nI w) = nI (w % 100) := by
  have h := pk_rem (a := w) (d := 100) hw (by decide) (by decide)
  rw [pk_div hw (by decide) (by decide)] at h
  rw [← h]
  show (-nI (w / 100)) * nI 100 - (-nI w) = nI w - nI (w / 100) * nI 100
  rw [Int32.neg_mul, Int32.sub_neg, Int32.add_comm, ← Int32.sub_eq_add_neg]
end
section
/-! rows on bits, shifts and unsigned numbers, to paste: each family out of a closed proof of our own, whole with what it rests on; each by itself clean at Lean in its own claim (generation 39, form 5). Take a family whole -/
/-! ===== Int32 by its bits: bt x i ===== -/
def bt (x : Int32) (i : Nat) : Bool := x.toBitVec.getLsbD i
theorem b_ext {x y : Int32} (h : ∀ i, i < 32 → bt x i = bt y i) : x = y := Int32.toBitVec_inj.mp (BitVec.eq_of_getLsbD_eq (fun i hi => h i hi))
theorem b_or (x y : Int32) (i : Nat) : bt (x ||| y) i = (bt x i || bt y i) := by unfold bt; rw [Int32.toBitVec_or, BitVec.getLsbD_or]
theorem b_and (x y : Int32) (i : Nat) : bt (x &&& y) i = (bt x i && bt y i) := by unfold bt; rw [Int32.toBitVec_and, BitVec.getLsbD_and]
theorem b_xor (x y : Int32) (i : Nat) : bt (x ^^^ y) i = (bt x i ^^ bt y i) := by unfold bt; rw [Int32.toBitVec_xor, BitVec.getLsbD_xor]
theorem b_big {x : Int32} {i : Nat} (h : 32 ≤ i) : bt x i = false := BitVec.getLsbD_of_ge _ _ h
theorem b_255 (i : Nat) : bt 255 i = decide (i < 8) := by
  rcases Nat.lt_or_ge i 32 with h | h
  · exact (by decide +kernel : ∀ i, i < 32 → bt 255 i = decide (i < 8)) i h
  · rw [b_big h, decide_eq_false (by omega)]
theorem b_65535 (i : Nat) : bt 65535 i = decide (i < 16) := by
  rcases Nat.lt_or_ge i 32 with h | h
  · exact (by decide +kernel : ∀ i, i < 32 → bt 65535 i = decide (i < 16)) i h
  · rw [b_big h, decide_eq_false (by omega)]
theorem b_m1 : ∀ i, i < 32 → bt (-1) i = true := by decide +kernel
theorem b_0 (i : Nat) : bt 0 i = false := BitVec.getLsbD_zero
theorem s_l : ∀ n, n < 32 → ((nI n &&& 31).toBitVec.smod 32).toNat = n := by decide +kernel
theorem s_u : ∀ n, n < 32 → (((nI n).toUInt32 &&& Int32.toUInt32 31).toBitVec % 32).toNat = n := by decide +kernel
theorem b_shl (n : Nat) (hn : n < 32) (x : Int32) {i : Nat} (hi : i < 32) : bt (x <<< (nI n &&& 31)) i = (decide (n ≤ i) && bt x (i - n)) := by
  unfold bt
  rw [Int32.toBitVec_shiftLeft]
  show (x.toBitVec <<< ((nI n &&& 31).toBitVec.smod 32).toNat).getLsbD i = _
  rw [s_l n hn, BitVec.getLsbD_shiftLeft]
  rcases Nat.lt_or_ge i n with h | h
  · simp [h, Nat.not_le.mpr h]
  · simp [hi, h, Nat.not_lt.mpr h]
theorem b_ushr (n : Nat) (hn : n < 32) (x : Int32) (i : Nat) : bt ((x.toUInt32 >>> ((nI n).toUInt32 &&& Int32.toUInt32 31)).toInt32) i = bt x (n + i) := by
  show (x.toUInt32 >>> ((nI n).toUInt32 &&& Int32.toUInt32 31)).toBitVec.getLsbD i = x.toUInt32.toBitVec.getLsbD (n + i)
  rw [UInt32.toBitVec_shiftRight]
  show (x.toUInt32.toBitVec >>> (((nI n).toUInt32 &&& Int32.toUInt32 31).toBitVec % 32).toNat).getLsbD i = _
  rw [s_u n hn, BitVec.getLsbD_ushiftRight]
theorem b_sshr (n : Nat) (hn : n < 32) (x : Int32) {i : Nat} (hi : i < 32) : bt (x >>> (nI n &&& 31)) i = if n + i < 32 then bt x (n + i) else bt x 31 := by
  unfold bt
  rw [Int32.toBitVec_shiftRight]
  show (x.toBitVec.sshiftRight ((nI n &&& 31).toBitVec.smod 32).toNat).getLsbD i = _
  rw [s_l n hn, BitVec.getLsbD_sshiftRight, BitVec.msb_eq_getLsbD_last]
  simp [hi]
theorem b_shl8 (x : Int32) {i : Nat} (hi : i < 32) : bt (x <<< ((8 : Int32) &&& 31)) i = (decide (8 ≤ i) && bt x (i - 8)) := b_shl 8 (by omega) x hi
theorem b_shl16 (x : Int32) {i : Nat} (hi : i < 32) : bt (x <<< ((16 : Int32) &&& 31)) i = (decide (16 ≤ i) && bt x (i - 16)) := b_shl 16 (by omega) x hi
theorem b_shl24 (x : Int32) {i : Nat} (hi : i < 32) : bt (x <<< ((24 : Int32) &&& 31)) i = (decide (24 ≤ i) && bt x (i - 24)) := b_shl 24 (by omega) x hi
theorem b_sshr8 (x : Int32) {i : Nat} (hi : i < 32) : bt (x >>> ((8 : Int32) &&& 31)) i = if 8 + i < 32 then bt x (8 + i) else bt x 31 := b_sshr 8 (by omega) x hi
/-! ===== nI under and, xor, >>>, one bit, 65535 ===== -/
theorem nx_and (a b : Nat) : nI a &&& nI b = nI (a &&& b) := by
  apply Int32.toBitVec_inj.1
  show BitVec.ofNat 32 a &&& BitVec.ofNat 32 b = BitVec.ofNat 32 (a &&& b)
  apply BitVec.eq_of_getLsbD_eq
  intro i hi
  simp [hi]
theorem nx_xor (a b : Nat) : nI a ^^^ nI b = nI (a ^^^ b) := by
  apply Int32.toBitVec_inj.1
  show BitVec.ofNat 32 a ^^^ BitVec.ofNat 32 b = BitVec.ofNat 32 (a ^^^ b)
  apply BitVec.eq_of_getLsbD_eq
  intro i hi
  simp [hi]
theorem nx_cnt : ∀ j : Fin 32, (UInt32.ofNat j.val &&& Int32.toUInt32 31).toNat % 32 = j.val := by decide +kernel
theorem nx_ush {k j : Nat} (hk : k < 65536) (hj : j < 32) : ((nI k).toUInt32 >>> ((nI j).toUInt32 &&& Int32.toUInt32 31)).toInt32 = nI (k >>> j) := by
  have hs : k >>> j ≤ k := by
    rw [Nat.shiftRight_eq_div_pow]
    exact Nat.div_le_self _ _
  have e2 : UInt32.ofNat k >>> (UInt32.ofNat j &&& Int32.toUInt32 31) = UInt32.ofNat (k >>> j) := by
    apply UInt32.toNat_inj.1
    have h1 : (UInt32.ofNat k).toNat = k := Nat.mod_eq_of_lt (by omega)
    have h2 : (UInt32.ofNat (k >>> j)).toNat = k >>> j := Nat.mod_eq_of_lt (by omega)
    rw [UInt32.toNat_shiftRight, nx_cnt ⟨j, hj⟩, h1, h2]
  show (UInt32.ofNat k >>> (UInt32.ofNat j &&& Int32.toUInt32 31)).toInt32 = _
  rw [e2]
  rfl
theorem nx_bit {k j : Nat} (hk : k < 65536) (hj : j < 16) : (((nI k).toUInt32 >>> ((nI j).toUInt32 &&& Int32.toUInt32 31)).toInt32 &&& 1) = 0 ↔ k.testBit j = false := by
  rw [nx_ush hk (by omega)]
  show nI (k >>> j) &&& nI 1 = 0 ↔ _
  rw [nx_and, Nat.and_one_is_mod, ← nI_0, nI_eq (by omega) (by omega), Nat.testBit_eq_decide_div_mod_eq, Nat.shiftRight_eq_div_pow, decide_eq_false_iff_not]
  generalize k / 2 ^ j = z
  omega
theorem nx_mod (k : Nat) : nI k &&& 65535 = nI (k % 65536) := by
  show nI k &&& nI 65535 = _
  rw [nx_and, show (65535 : Nat) = 2 ^ 16 - 1 from rfl, Nat.and_two_pow_sub_one_eq_mod]
theorem nx_m16 {k : Nat} (h : k < 65536) : nI k &&& 65535 = nI k := by rw [nx_mod, Nat.mod_eq_of_lt h]
theorem nx_mask (x : Int32) : ∃ k, k < 65536 ∧ x &&& 65535 = nI k := by
  have e : x = nI x.toBitVec.toNat := by
    apply Int32.toBitVec_inj.1
    show x.toBitVec = BitVec.ofNat 32 x.toBitVec.toNat
    simp
  refine ⟨x.toBitVec.toNat % 65536, Nat.mod_lt _ (by omega), ?_⟩
  rw [← nx_mod, ← e]
/-! ===== Int32 as a set of bits: test, set ===== -/
def nf_M (m : Int32) : Nat := 4294967296 - m.toBitVec.toNat
theorem nf_sh : ∀ l, l < 32 → ((1 : Int32) <<< (nI l &&& 31)).toBitVec = BitVec.twoPow 32 l := by decide +kernel
theorem nf_sl : ∀ l, l < 32 → (((nI l).toUInt32 &&& Int32.toUInt32 31).toBitVec % 32).toNat = l := by decide +kernel
theorem nf_tp : ∀ l, l < 32 → BitVec.twoPow 32 l ≠ 0#32 := by decide +kernel
theorem nf_bit (m : Int32) (l : Nat) (hl : l < 32) : ((m.toUInt32 >>> ((nI l).toUInt32 &&& Int32.toUInt32 31)).toInt32 &&& 1) = 0 ↔ (m &&& ((1 : Int32) <<< (nI l &&& 31))) = 0 := by
  have e : ((m.toUInt32 >>> ((nI l).toUInt32 &&& Int32.toUInt32 31)).toInt32).toBitVec = m.toBitVec >>> l := by
    show m.toBitVec >>> (((nI l).toUInt32 &&& Int32.toUInt32 31).toBitVec % 32) = m.toBitVec >>> l
    rw [BitVec.ushiftRight_eq', nf_sl l hl]
  rw [← Int32.toBitVec_inj, ← Int32.toBitVec_inj, Int32.toBitVec_and, Int32.toBitVec_and, nf_sh l hl, e, BitVec.and_twoPow]
  show (m.toBitVec >>> l &&& 1#32) = 0#32 ↔ _ = 0#32
  rw [BitVec.and_one_eq_setWidth_ofBool_getLsbD, BitVec.getLsbD_ushiftRight, Nat.add_zero]
  cases hb : m.toBitVec.getLsbD l
  · exact ⟨fun _ => by simp, fun _ => by decide⟩
  · exact ⟨fun z => absurd z (by decide), fun z => absurd ((if_pos rfl).symm.trans z) (nf_tp l hl)⟩
theorem nf_gr (m k : Int32) (h : m &&& k = 0) (hk : k ≠ 0) : nf_M (m ||| k) < nf_M m := by
  have hm := m.toBitVec.isLt
  have hm' := (m ||| k).toBitVec.isLt
  have h1 : m.toBitVec.toNat ≤ (m ||| k).toBitVec.toNat := by
    rw [Int32.toBitVec_or, BitVec.toNat_or]
    exact Nat.left_le_or
  have h2 : m.toBitVec.toNat ≠ (m ||| k).toBitVec.toNat := by
    intro e
    have e2 : m = m ||| k := Int32.toBitVec_inj.mp (BitVec.eq_of_toNat_eq e)
    apply hk
    apply Int32.toBitVec_inj.mp
    show k.toBitVec = 0#32
    apply BitVec.eq_of_getLsbD_eq
    intro i hi
    have a : m.toBitVec.getLsbD i = (m.toBitVec.getLsbD i || k.toBitVec.getLsbD i) := by rw [← BitVec.getLsbD_or, ← Int32.toBitVec_or, ← e2]
    have b : (m.toBitVec.getLsbD i && k.toBitVec.getLsbD i) = false := by
      rw [← BitVec.getLsbD_and, ← Int32.toBitVec_and, h]
      exact BitVec.getLsbD_zero
    rw [BitVec.getLsbD_zero]
    revert a b
    cases m.toBitVec.getLsbD i <;> cases k.toBitVec.getLsbD i <;> simp
  unfold nf_M
  omega
/-! ===== a byte read unsigned ===== -/
theorem bp_b (x : Int32) : x.toInt8.toInt32 &&& 255 = x &&& 255 := by
  apply Int32.toBitVec_inj.mp
  rw [Int32.toBitVec_and, Int32.toBitVec_and, Int8.toBitVec_toInt32, Int32.toBitVec_toInt8]
  apply BitVec.eq_of_getLsbD_eq
  intro i hi
  rw [BitVec.getLsbD_and, BitVec.getLsbD_and]
  have hm : ∀ i < 32, 8 ≤ i → (255 : Int32).toBitVec.getLsbD i = false := by decide
  rcases Nat.lt_or_ge i 8 with z | z
  · rw [BitVec.getLsbD_signExtend, BitVec.getLsbD_signExtend, if_pos z, if_pos hi]
    simp only [z, hi, decide_true, Bool.true_and]
  · rw [hm i hi z]; simp
/-! ===== the char cast and 65535 ===== -/
theorem em_w (v : Int32) : ∃ w : Nat, w < 65536 ∧ (v.toUInt32 % 65536).toInt32 = nI w ∧ v &&& 65535 = nI w := by
  have hr := lw_u16_r v
  have h0 : (0 : Int32).toInt = 0 := by decide
  obtain ⟨w, h1, h2⟩ := nI_of (x := lw_u16 v) (by rw [Int32.lt_iff_toInt_lt]; omega)
  have h3 : (v.toUInt32 % 65536).toInt32 = nI w := h2
  rw [h2, nI_toInt h1] at hr
  exact ⟨w, by omega, h3, by rw [← lg_i2c_mask, ← lg_i2c_nf, h3]⟩
/-! ===== Int64 as a set of bits: test, set, clear ===== -/
theorem ts_nf {x : Bool} (h : ¬ x = false) : x = true := by cases x <;> first | rfl | exact absurd rfl h
theorem ts_nt {x : Bool} (h : ¬ x = true) : x = false := by cases x <;> first | rfl | exact absurd rfl h
theorem ts_bit {w : Int64} {s : UInt64} {j : Nat} (hj : j < 64) (hs : s.toNat = j) : ((w.toUInt64 >>> s).toInt64 &&& 1) = 0 ↔ w.toBitVec.getLsbD j = false := by
  have e : (w.toUInt64 >>> s).toInt64.toBitVec = w.toBitVec >>> j := by
    apply BitVec.eq_of_toNat_eq
    show (w.toUInt64 >>> s).toNat = _
    rw [UInt64.toNat_shiftRight, hs, Nat.mod_eq_of_lt hj, BitVec.toNat_ushiftRight]
    rfl
  rw [← Int64.toBitVec_inj, Int64.toBitVec_and, e]
  show w.toBitVec >>> j &&& 1#64 = 0#64 ↔ _
  constructor
  · intro h
    have t := congrArg (fun x => x.getLsbD 0) h
    simpa using t
  · intro h
    apply BitVec.eq_of_getLsbD_eq
    intro i hi
    cases i with
    | zero => simp [h]
    | succ i => simp
theorem ts_or {w m : Int64} {j : Nat} (hj : j < 64) (hm : m.toBitVec = BitVec.twoPow 64 j) : (w ||| m) = w ↔ w.toBitVec.getLsbD j = true := by
  rw [← Int64.toBitVec_inj, Int64.toBitVec_or, hm]
  constructor
  · intro h
    have t := congrArg (fun x => x.getLsbD j) h
    simp only [BitVec.getLsbD_or, BitVec.getLsbD_twoPow] at t
    simpa [hj] using t.symm
  · intro h
    apply BitVec.eq_of_getLsbD_eq
    intro i hi
    rw [BitVec.getLsbD_or, BitVec.getLsbD_twoPow]
    by_cases e : j = i
    · subst e; rw [h, Bool.true_or]
    · simp [e]
theorem ts_and {w m : Int64} {j : Nat} (hj : j < 64) (hm : m.toBitVec = BitVec.twoPow 64 j) : (w &&& (m ^^^ (-1))) = w ↔ w.toBitVec.getLsbD j = false := by
  have ha : (-1 : Int64).toBitVec = BitVec.allOnes 64 := by decide
  rw [← Int64.toBitVec_inj, Int64.toBitVec_and, Int64.toBitVec_xor, hm, ha]
  constructor
  · intro h
    have t := congrArg (fun x => x.getLsbD j) h
    simp only [BitVec.getLsbD_and, BitVec.getLsbD_xor, BitVec.getLsbD_twoPow, BitVec.getLsbD_allOnes] at t
    simpa [hj] using t.symm
  · intro h
    apply BitVec.eq_of_getLsbD_eq
    intro i hi
    rw [BitVec.getLsbD_and, BitVec.getLsbD_xor, BitVec.getLsbD_twoPow, BitVec.getLsbD_allOnes]
    by_cases e : j = i
    · subst e; rw [h, Bool.false_and]
    · simp [e, hi]
/-! ===== lN n to 2^64: shifts, and, or, masks, one bit ===== -/
theorem wb_tb (n : Nat) : (lN n).toBitVec = BitVec.ofNat 64 n := rfl
theorem wb_inj {a b : Int64} (h : a.toBitVec = b.toBitVec) : a = b := Int64.toBitVec_inj.mp h
theorem wb_tn {n : Nat} (h : n < 2 ^ 64) : (lN n).toBitVec.toNat = n := by rw [wb_tb, BitVec.toNat_ofNat, Nat.mod_eq_of_lt h]
theorem wb_of (x : Int64) : ∃ n, n < 2 ^ 64 ∧ x = lN n := ⟨x.toBitVec.toNat, x.toBitVec.isLt, wb_inj (by rw [wb_tb]; simp)⟩
theorem wb_of32 (x : Int32) : ∃ n, n < 2 ^ 32 ∧ x = nI n := ⟨x.toBitVec.toNat, x.toBitVec.isLt, Int32.toBitVec_inj.mp (by show _ = BitVec.ofNat 32 _; simp)⟩
theorem wb_c : ∀ k, k < 64 → ((nI k).toInt64 &&& 63) = lN k := by decide +kernel
theorem wb_cu : ∀ k, k < 64 → ((nI k).toInt64.toUInt64 &&& Int64.toUInt64 63) = UInt64.ofNat k := by decide +kernel
theorem wb_sm : ∀ k, k < 64 → (BitVec.ofNat 64 k).smod 64 = BitVec.ofNat 64 k := by decide +kernel
theorem wb_pw {a b : Nat} (h : a ≤ b) : 2 ^ b = 2 ^ a * 2 ^ (b - a) := by rw [← Nat.pow_add]; congr 1; omega
theorem wb_lt2 {a b : Nat} (h : a < b) : 2 ^ a < 2 ^ b := Nat.pow_lt_pow_right (by decide) h
theorem wb_mod (n : Nat) : lN n = lN (n % 2 ^ 64) := wb_inj (by rw [wb_tb, wb_tb]; apply BitVec.eq_of_toNat_eq; rw [BitVec.toNat_ofNat, BitVec.toNat_ofNat, Nat.mod_mod])
theorem wb_shr {n k : Nat} (hn : n < 2 ^ 64) (hk : k < 64) : ((lN n).toUInt64 >>> ((nI k).toInt64.toUInt64 &&& Int64.toUInt64 63)).toInt64 = lN (n / 2 ^ k) := by
  rw [wb_cu k hk]
  apply wb_inj
  apply BitVec.eq_of_toNat_eq
  show ((lN n).toUInt64 >>> UInt64.ofNat k).toNat = (BitVec.ofNat 64 _).toNat
  have h1 : (UInt64.ofNat k).toNat = k := by
    show (BitVec.ofNat 64 k).toNat = k
    rw [BitVec.toNat_ofNat, Nat.mod_eq_of_lt (by omega)]
  have h2 : (lN n).toUInt64.toNat = n := wb_tn hn
  rw [UInt64.toNat_shiftRight, h1, h2, Nat.mod_eq_of_lt hk, Nat.shiftRight_eq_div_pow, BitVec.toNat_ofNat, Nat.mod_eq_of_lt (Nat.lt_of_le_of_lt (Nat.div_le_self _ _) hn)]
theorem wb_shl (n : Nat) {k : Nat} (hk : k < 64) : lN n <<< ((nI k).toInt64 &&& 63) = lN (n * 2 ^ k) := by
  rw [wb_c k hk]
  apply wb_inj
  rw [Int64.toBitVec_shiftLeft, wb_tb, wb_tb, wb_tb, wb_sm k hk]
  apply BitVec.eq_of_toNat_eq
  rw [BitVec.shiftLeft_eq', BitVec.toNat_shiftLeft, BitVec.toNat_ofNat, BitVec.toNat_ofNat, BitVec.toNat_ofNat, Nat.mod_eq_of_lt (show k < 2 ^ 64 by omega), Nat.shiftLeft_eq, Nat.mul_mod, Nat.mod_mod, ← Nat.mul_mod]
theorem wb_and {a b : Nat} (ha : a < 2 ^ 64) (hb : b < 2 ^ 64) : lN a &&& lN b = lN (a &&& b) := by
  apply wb_inj
  rw [Int64.toBitVec_and, wb_tb, wb_tb, wb_tb]
  apply BitVec.eq_of_toNat_eq
  rw [BitVec.toNat_and, BitVec.toNat_ofNat, BitVec.toNat_ofNat, BitVec.toNat_ofNat, Nat.mod_eq_of_lt ha, Nat.mod_eq_of_lt hb, Nat.mod_eq_of_lt (Nat.and_lt_two_pow _ hb)]
theorem wb_or {a b : Nat} (ha : a < 2 ^ 64) (hb : b < 2 ^ 64) : lN a ||| lN b = lN (a ||| b) := by
  apply wb_inj
  rw [Int64.toBitVec_or, wb_tb, wb_tb, wb_tb]
  apply BitVec.eq_of_toNat_eq
  rw [BitVec.toNat_or, BitVec.toNat_ofNat, BitVec.toNat_ofNat, BitVec.toNat_ofNat, Nat.mod_eq_of_lt ha, Nat.mod_eq_of_lt hb, Nat.mod_eq_of_lt (Nat.or_lt_two_pow ha hb)]
theorem wb_mask {n k : Nat} (hn : n < 2 ^ 64) (hk : k < 64) : lN n &&& lN (2 ^ k - 1) = lN (n % 2 ^ k) := by
  rw [wb_and hn (by have := wb_lt2 hk; omega), Nat.and_two_pow_sub_one_eq_mod]
theorem wb_a1 {n : Nat} (hn : n < 2 ^ 64) : lN n &&& 1 = lN (n % 2) := wb_mask (k := 1) hn (by decide)
theorem wb_bit {n k : Nat} (hn : n < 2 ^ 64) (hk : k < 64) : ((lN n).toUInt64 >>> ((nI k).toInt64.toUInt64 &&& Int64.toUInt64 63)).toInt64 &&& 1 = lN (n / 2 ^ k % 2) := by
  rw [wb_shr hn hk, wb_a1 (Nat.lt_of_le_of_lt (Nat.div_le_self _ _) hn)]
theorem wb_xor {q k : Nat} (hk : k < 63) (h : 2 ^ k ≤ q) (h2 : q < 2 ^ (k + 1)) : lN q ^^^ lN (2 ^ k) = lN (q - 2 ^ k) := by
  obtain ⟨r, rfl⟩ : ∃ r, q = 2 ^ k + r := ⟨q - 2 ^ k, by omega⟩
  have hr : r < 2 ^ k := by rw [Nat.pow_succ] at h2; omega
  have hx : (2 ^ k + r) ^^^ 2 ^ k = r := by
    apply Nat.eq_of_testBit_eq
    intro i
    rw [Nat.testBit_xor, Nat.testBit_two_pow]
    rcases Nat.lt_trichotomy i k with h | h | h
    · rw [Nat.testBit_two_pow_add_gt h]
      simp [show ¬ k = i by omega]
    · subst h
      rw [Nat.testBit_two_pow_add_eq]
      simp
    · have a1 : 2 ^ (k + 1) ≤ 2 ^ i := Nat.pow_le_pow_right (by decide) h
      rw [Nat.testBit_lt_two_pow (show 2 ^ k + r < 2 ^ i by omega), Nat.testBit_lt_two_pow (show r < 2 ^ i by omega)]
      simp [show ¬ k = i by omega]
  have b1 := wb_lt2 (show k + 1 < 64 by omega)
  have b2 := wb_lt2 (show k < 64 by omega)
  apply wb_inj
  rw [Int64.toBitVec_xor, wb_tb, wb_tb, wb_tb]
  apply BitVec.eq_of_toNat_eq
  rw [BitVec.toNat_xor, BitVec.toNat_ofNat, BitVec.toNat_ofNat, BitVec.toNat_ofNat, Nat.mod_eq_of_lt (by omega : 2 ^ k + r < 2 ^ 64), Nat.mod_eq_of_lt b2, hx, Nat.add_sub_cancel_left, Nat.mod_eq_of_lt (by omega)]
/-! ===== lN: masks, 'or' of parts that don't overlap is a sum ===== -/
theorem u_tn {n : Nat} (h : n < 2 ^ 64) : (UInt64.ofNat n).toNat = n := Nat.mod_eq_of_lt h
theorem g_and {a b c : Nat} (ha : a < 2 ^ 64) (hb : b < 2 ^ 64) (hc : a &&& b = c) : lN a &&& lN b = lN c := by
  subst hc
  have h : UInt64.ofNat a &&& UInt64.ofNat b = UInt64.ofNat (a &&& b) := UInt64.toNat_inj.mp (by rw [UInt64.toNat_and, u_tn ha, u_tn hb, u_tn (Nat.and_lt_two_pow a hb)])
  have h2 := congrArg UInt64.toInt64 h
  exact h2
theorem g_and1 {a : Nat} (ha : a < 2 ^ 64) : lN a &&& 1 = lN (a % 2) := g_and (b := 1) ha (by decide) (Nat.and_two_pow_sub_one_eq_mod a 1)
theorem g_mask {a s p : Nat} (hp : 2 ^ s = p) (hs : s < 64) (ha : a < 2 ^ 64) : lN a &&& lN (p - 1) = lN (a % p) := by
  subst hp
  have := Nat.pow_lt_pow_right (show 1 < 2 by decide) hs
  exact g_and ha (by omega) (Nat.and_two_pow_sub_one_eq_mod a s)
theorem g_or {k p a b : Nat} (hp : 2 ^ k = p) (ha : a < p) (h : b * p + a < 2 ^ 64) : lN (b * p) ||| lN a = lN (b * p + a) := by
  subst hp
  have h1 : b * 2 ^ k ||| a = b * 2 ^ k + a := by rw [← Nat.shiftLeft_eq, Nat.shiftLeft_add_eq_or_of_lt ha]
  have h3 : UInt64.ofNat (b * 2 ^ k) ||| UInt64.ofNat a = UInt64.ofNat (b * 2 ^ k + a) := UInt64.toNat_inj.mp (by rw [UInt64.toNat_or, u_tn (by omega), u_tn (by omega), u_tn h, h1])
  have h2 := congrArg UInt64.toInt64 h3
  exact h2
theorem g_or' {k p a b : Nat} (hp : 2 ^ k = p) (ha : a < p) (h : a + b * p < 2 ^ 64) : lN a ||| lN (b * p) = lN (a + b * p) := by
  rw [Int64.or_comm, g_or hp ha (by omega), Nat.add_comm]
theorem g_ushr {a k p : Nat} {y : UInt64} (hy : y = UInt64.ofNat k) (hk : k < 64) (hp : 2 ^ k = p) (ha : a < 2 ^ 64) : ((lN a).toUInt64 >>> y).toInt64 = lN (a / p) := by
  subst hy hp
  have h : UInt64.ofNat a >>> UInt64.ofNat k = UInt64.ofNat (a / 2 ^ k) := UInt64.toNat_inj.mp (by rw [UInt64.toNat_shiftRight, u_tn ha, u_tn (by omega), u_tn (Nat.lt_of_le_of_lt (Nat.div_le_self _ _) ha), Nat.mod_eq_of_lt hk, Nat.shiftRight_eq_div_pow])
  have h2 := congrArg UInt64.toInt64 h
  exact h2
theorem g_shl {a k p : Nat} {y : Int64} (hy : y.toBitVec.smod 64 = BitVec.ofNat 64 k) (hk : k < 64) (hp : 2 ^ k = p) (ha : a < 2 ^ 64) : lN a <<< y = lN (a * p) := by
  subst hp
  apply Int64.toBitVec_inj.mp
  rw [Int64.toBitVec_shiftLeft, hy]
  apply BitVec.eq_of_toNat_eq
  have hb : (lN a).toBitVec.toNat = a := Nat.mod_eq_of_lt ha
  have hk' : (BitVec.ofNat 64 k).toNat = k := Nat.mod_eq_of_lt (by omega)
  have h : ((lN a).toBitVec <<< BitVec.ofNat 64 k).toNat = (a * 2 ^ k) % 2 ^ 64 := by simp only [BitVec.shiftLeft_eq', BitVec.toNat_shiftLeft, hb, hk', Nat.shiftLeft_eq]
  exact h
/-! ===== lN to 2^62 under >> and >>> ===== -/
theorem pf_lI {a : Nat} (h : a < 2 ^ 63) : (lN a).toInt = (a : Int) := lg_ofNat_toInt h
theorem pf_shr {a d : Nat} {D : Int64} (hD : (D.toBitVec.smod 64).toNat = d) (h : a < 2 ^ 62) : lN a >>> D = lN (a / 2 ^ d) := by
  have hd : a / 2 ^ d ≤ a := Nat.div_le_self _ _
  apply Int64.toInt_inj.mp
  have e : (lN a >>> D).toInt = (lN a).toInt >>> d := by
    rw [← hD]
    exact BitVec.toInt_sshiftRight ..
  rw [e, Int.shiftRight_eq_div_pow, pf_lI (by omega), pf_lI (by omega)]
  rfl
theorem pf_ushr {a d : Nat} {D : UInt64} (hD : D.toNat % 64 = d) (h : a < 2 ^ 62) : ((lN a).toUInt64 >>> D).toInt64 = lN (a / 2 ^ d) := by
  have hd : a / 2 ^ d ≤ a := Nat.div_le_self _ _
  have e : (lN a).toUInt64 >>> D = UInt64.ofNat (a / 2 ^ d) := UInt64.toNat_inj.mp (by
    rw [UInt64.toNat_shiftRight, hD, Nat.shiftRight_eq_div_pow, UInt64.toNat_ofNat']
    show (UInt64.ofNat a).toNat / 2 ^ d = _
    rw [UInt64.toNat_ofNat', Nat.mod_eq_of_lt (by omega), Nat.mod_eq_of_lt (by omega)])
  rw [e]
  rfl
theorem pf_andw (x : Int64) : ∃ m, m < 2 ^ 32 ∧ x &&& 4294967295 = lN m := ⟨x.toBitVec.toNat % 2 ^ 32, Nat.mod_lt _ (by decide), Int64.toBitVec_inj.mp (BitVec.eq_of_toNat_eq (by
  show (x.toBitVec &&& 4294967295#64).toNat = (BitVec.ofNat 64 (x.toBitVec.toNat % 2 ^ 32)).toNat
  rw [BitVec.toNat_and, show (4294967295#64).toNat = 2 ^ 32 - 1 from by decide, Nat.and_two_pow_sub_one_eq_mod, BitVec.toNat_ofNat]
  omega))⟩
/-! ===== Int64 as an unsigned number: uN x ===== -/
def uN (x : Int64) : Nat := x.toUInt64.toNat
theorem uN_lt (x : Int64) : uN x < 18446744073709551616 := x.toUInt64.toNat_lt
theorem uN_inj {x y : Int64} (h : uN x = uN y) : x = y := congrArg UInt64.toInt64 (UInt64.toNat_inj.mp h)
theorem uN_add (x y : Int64) : uN (x + y) = (uN x + uN y) % 18446744073709551616 := by
  show (x.toUInt64 + y.toUInt64).toNat = _
  exact UInt64.toNat_add _ _
theorem uN_mul (x y : Int64) : uN (x * y) = (uN x * uN y) % 18446744073709551616 := by
  show (x.toUInt64 * y.toUInt64).toNat = _
  exact UInt64.toNat_mul _ _
theorem uN_shl (x : Int64) : uN (x <<< ((1 : Int32).toInt64 &&& 63)) = (2 * uN x) % 18446744073709551616 := by
  have h : (((1 : Int32).toInt64 &&& 63).toBitVec.smod 64).toNat = 1 := by decide
  show (x.toBitVec <<< (((1 : Int32).toInt64 &&& 63).toBitVec.smod 64).toNat).toNat = _
  rw [h, BitVec.toNat_shiftLeft, Nat.shiftLeft_eq, Nat.mul_comm]
  rfl
theorem uN_shr (x : Int64) (s : UInt64) : uN (x.toUInt64 >>> s).toInt64 = uN x / 2 ^ (s.toNat % 64) := by
  show (x.toUInt64 >>> s).toNat = _
  rw [UInt64.toNat_shiftRight, Nat.shiftRight_eq_div_pow]
  rfl
theorem uN_s32 (x : Int64) : uN (x.toUInt64 >>> ((32 : Int32).toInt64.toUInt64 &&& Int64.toUInt64 63)).toInt64 = uN x / 4294967296 := by
  have h : ((32 : Int32).toInt64.toUInt64 &&& Int64.toUInt64 63).toNat % 64 = 32 := by decide
  rw [uN_shr, h]
theorem uN_s63 (x : Int64) : uN (x.toUInt64 >>> ((63 : Int32).toInt64.toUInt64 &&& Int64.toUInt64 63)).toInt64 = uN x / 9223372036854775808 := by
  have h : ((63 : Int32).toInt64.toUInt64 &&& Int64.toUInt64 63).toNat % 64 = 63 := by decide
  rw [uN_shr, h]
theorem uN_lo (x : Int64) : uN (x &&& 4294967295) = uN x % 4294967296 := by
  show (x.toUInt64 &&& Int64.toUInt64 4294967295).toNat = _
  rw [UInt64.toNat_and]
  exact Nat.and_two_pow_sub_one_eq_mod _ 32
theorem uN_bit (x : Int64) : (x &&& 1) = 0 ↔ uN x % 2 = 0 := by
  have h : uN (x &&& 1) = uN x % 2 := by
    show (x.toUInt64 &&& Int64.toUInt64 1).toNat = _
    rw [UInt64.toNat_and]
    exact Nat.and_two_pow_sub_one_eq_mod _ 1
  rw [← h]
  exact ⟨fun z => by rw [z]; rfl, fun z => uN_inj (z.trans rfl)⟩
theorem uN_or {x y : Int64} (hy : uN y < 2) : uN ((x <<< ((1 : Int32).toInt64 &&& 63)) ||| y) = (2 * uN x) % 18446744073709551616 + uN y := by
  have h1 : uN ((x <<< ((1 : Int32).toInt64 &&& 63)) ||| y) = uN (x <<< ((1 : Int32).toInt64 &&& 63)) ||| uN y := UInt64.toNat_or _ _
  have h2 : (2 * uN x) % 18446744073709551616 = 2 ^ 1 * (uN x % 9223372036854775808) := by omega
  rw [h1, uN_shl, h2]
  exact (Nat.two_pow_add_eq_or_of_lt (i := 1) hy _).symm
theorem nat_xor {a : Nat} (h : a < 18446744073709551616) : a ^^^ 2 ^ 63 = (a + 9223372036854775808) % 18446744073709551616 := by
  have h1 : (a ^^^ 2 ^ 63) % 2 ^ 63 = a % 2 ^ 63 := by rw [Nat.xor_mod_two_pow, Nat.mod_self, Nat.xor_zero]
  have h2 : (a ^^^ 2 ^ 63) / 2 ^ 63 = (a / 2 ^ 63) ^^^ 1 := by rw [Nat.xor_div_two_pow, Nat.div_self (Nat.two_pow_pos 63)]
  have h3 : a / 2 ^ 63 = 0 ∨ a / 2 ^ 63 = 1 := by omega
  generalize a ^^^ 2 ^ 63 = t at h1 h2
  rcases h3 with h3 | h3
  · rw [h3] at h2
    have h2 : t / 2 ^ 63 = 1 := h2
    omega
  · rw [h3] at h2
    have h2 : t / 2 ^ 63 = 0 := h2
    omega
theorem uN_xor (x : Int64) : uN (x ^^^ (-9223372036854775808)) = (uN x + 9223372036854775808) % 18446744073709551616 := by
  rw [← nat_xor (uN_lt x)]
  exact UInt64.toNat_xor _ _
theorem uN_int (x : Int64) : x.toInt = if 2 * uN x < 18446744073709551616 then (uN x : Int) else (uN x : Int) - 18446744073709551616 := BitVec.toInt_eq_toNat_cond _
theorem uN_le (x y : Int64) : (x ^^^ (-9223372036854775808)) ≤ (y ^^^ (-9223372036854775808)) ↔ uN x ≤ uN y := by
  have hx := uN_lt x
  have hy := uN_lt y
  rw [Int64.le_iff_toInt_le, uN_int, uN_int, uN_xor, uN_xor]
  omega
theorem uN_sk (x : Int64) {k : Nat} (hk : k < 64) : uN (x.toUInt64 >>> ((nI k).toInt64.toUInt64 &&& Int64.toUInt64 63)).toInt64 = uN x / 2 ^ k := by
  have h : ((nI k).toInt64.toUInt64 &&& Int64.toUInt64 63).toNat % 64 = k := by
    rw [nI_l (by omega), UInt64.toNat_and]
    have e : (lN k).toUInt64.toNat = k % 2 ^ 64 := rfl
    have e2 : (Int64.toUInt64 63).toNat = 2 ^ 6 - 1 := by decide
    rw [e, e2, Nat.and_two_pow_sub_one_eq_mod]
    omega
  rw [uN_shr, h]
/-! ===== unsigned comparison by xor with the least ===== -/
theorem lN_bv (n : Nat) : (lN n).toBitVec = BitVec.ofNat 64 n := rfl
theorem lN_nat {n : Nat} (h : n < 2 ^ 64) : (lN n).toBitVec.toNat = n := by rw [lN_bv, BitVec.toNat_ofNat]; exact Nat.mod_eq_of_lt h
theorem lN_xor (a b : Nat) : lN a ^^^ lN b = lN (a ^^^ b) := by
  apply Int64.toBitVec_inj.mp; rw [Int64.toBitVec_xor, lN_bv, lN_bv, lN_bv]; apply BitVec.eq_of_getLsbD_eq; intro i hi; simp [BitVec.getLsbD_ofNat, Nat.testBit_xor, hi]
theorem lN_ti {m : Nat} (h : m < 2 ^ 64) : (lN m).toInt = if m < 2 ^ 63 then (m : Int) else (m : Int) - 2 ^ 64 := by
  have c := BitVec.toInt_eq_toNat_cond (lN m).toBitVec
  rw [lN_nat h] at c
  show (lN m).toBitVec.toInt = _
  rw [c]
  split <;> split <;> omega
theorem xor63 {x : Nat} (h : x < 2 ^ 63) : x ^^^ 2 ^ 63 = 2 ^ 63 + x := by
  apply Nat.eq_of_testBit_eq
  intro i
  rw [Nat.testBit_xor, Nat.testBit_two_pow]
  rcases Nat.lt_trichotomy i 63 with z | z | z
  · rw [Nat.testBit_two_pow_add_gt z, decide_eq_false (by omega)]; simp
  · subst z; rw [Nat.testBit_two_pow_add_eq]; simp
  · have hp : 2 ^ 64 ≤ 2 ^ i := Nat.pow_le_pow_right (by decide) z
    rw [Nat.testBit_lt_two_pow (show x < 2 ^ i by omega), Nat.testBit_lt_two_pow (show 2 ^ 63 + x < 2 ^ i by omega), decide_eq_false (by omega)]; rfl
theorem xorS {a : Nat} (h : a < 2 ^ 64) : (lN a ^^^ (-9223372036854775808)).toInt = (a : Int) - 2 ^ 63 := by
  rw [show (-9223372036854775808 : Int64) = lN (2 ^ 63) from by decide +kernel, lN_xor]
  rcases Nat.lt_or_ge a (2 ^ 63) with z | z
  · rw [xor63 z, lN_ti (by omega), if_neg (by omega)]; omega
  · obtain ⟨x, rfl⟩ : ∃ x, a = 2 ^ 63 + x := ⟨a - 2 ^ 63, by omega⟩
    rw [← xor63 (by omega), Nat.xor_assoc, Nat.xor_self, Nat.xor_zero, lN_ti (by omega), if_pos (by omega), xor63 (by omega)]; omega
theorem ultL {a b : Nat} (ha : a < 2 ^ 64) (hb : b < 2 ^ 64) : ((lN b ^^^ (-9223372036854775808)) ≤ (lN a ^^^ (-9223372036854775808))) ↔ b ≤ a := by
  rw [Int64.le_iff_toInt_le, xorS ha, xorS hb]; omega
/-! ===== Int64 masks of n low bits ===== -/
theorem cr_bits (W U M : BitVec 64) : ((W &&& U) &&& (U &&& (M ^^^ BitVec.allOnes 64))) = 0#64 ↔ (W &&& U) &&& M = W &&& U := by
  constructor
  · intro h
    apply BitVec.eq_of_getLsbD_eq
    intro i hi
    have e := congrArg (fun x => BitVec.getLsbD x i) h
    simp only [BitVec.getLsbD_and, BitVec.getLsbD_xor, BitVec.getLsbD_allOnes, BitVec.getLsbD_zero, hi, decide_true] at e ⊢
    revert e
    cases W.getLsbD i <;> cases U.getLsbD i <;> cases M.getLsbD i <;> decide
  · intro h
    apply BitVec.eq_of_getLsbD_eq
    intro i hi
    have e := congrArg (fun x => BitVec.getLsbD x i) h
    simp only [BitVec.getLsbD_and, BitVec.getLsbD_xor, BitVec.getLsbD_allOnes, BitVec.getLsbD_zero, hi, decide_true] at e ⊢
    revert e
    cases W.getLsbD i <;> cases U.getLsbD i <;> cases M.getLsbD i <;> decide
theorem cr_mask (w U m : Int64) (n : Nat) (hm : m.toBitVec.toNat = 2 ^ n - 1) : ((w &&& U) &&& (U &&& (m ^^^ (-1)))) = 0 ↔ (w &&& U).toBitVec.toNat < 2 ^ n := by
  have e0 : (-1 : Int64).toBitVec = BitVec.allOnes 64 := by decide
  have z0 : (0 : Int64).toBitVec = 0#64 := by decide
  rw [← Int64.toBitVec_inj, z0, Int64.toBitVec_and, Int64.toBitVec_and, Int64.toBitVec_and, Int64.toBitVec_xor, e0, cr_bits]
  generalize w.toBitVec &&& U.toBitVec = T
  rw [← BitVec.toNat_inj, BitVec.toNat_and, hm, Nat.and_two_pow_sub_one_eq_mod]
  constructor
  · intro h
    have t := Nat.mod_lt T.toNat (Nat.two_pow_pos n)
    rw [h] at t
    exact t
  · exact Nat.mod_eq_of_lt
theorem cr_shr (t : Int64) (x : UInt64) (n : Nat) (hx : x.toNat % 64 = n) : (t.toUInt64 >>> x).toInt64 = 0 ↔ t.toBitVec.toNat < 2 ^ n := by
  rw [← Int64.toBitVec_inj, ← BitVec.toNat_inj]
  show (t.toUInt64 >>> x).toNat = 0 ↔ t.toUInt64.toNat < 2 ^ n
  rw [UInt64.toNat_shiftRight, hx, Nat.shiftRight_eq_div_pow]
  constructor
  · intro h
    have d : t.toUInt64.toNat / 2 ^ n < 1 := by
      rw [h]
      decide
    have e := (Nat.div_lt_iff_lt_mul (Nat.two_pow_pos n)).mp d
    rw [Nat.one_mul] at e
    exact e
  · exact Nat.div_eq_of_lt
theorem cr_amt (s : Int64) : ∃ n, n < 64 ∧ s &&& 63 = lN n ∧ (s.toUInt64 &&& Int64.toUInt64 63).toNat % 64 = n := by
  have e : (s.toUInt64 &&& Int64.toUInt64 63).toNat = s.toUInt64.toNat % 2 ^ 6 := by
    rw [UInt64.toNat_and, show (Int64.toUInt64 63).toNat = 2 ^ 6 - 1 from by decide, Nat.and_two_pow_sub_one_eq_mod]
  refine ⟨s.toUInt64.toNat % 2 ^ 6, by omega, ?_, by omega⟩
  rw [← Int64.toBitVec_inj, ← BitVec.toNat_inj]
  show (s.toUInt64 &&& Int64.toUInt64 63).toNat = (BitVec.ofNat 64 (s.toUInt64.toNat % 2 ^ 6)).toNat
  rw [e, BitVec.toNat_ofNat]
  omega
end
section
/-! pigeonhole, sums -/
theorem ph_le : ∀ (m k : Nat) (f : Nat → Nat), (∀ i, i < m → f i < k) → (∀ i j, i < m → j < m → f i = f j → i = j) → m ≤ k
  | 0, _, _, _, _ => Nat.zero_le _
  | m + 1, k, f, h, hi => by
    have hk : f m < k := h m (by omega)
    have ne : ∀ i, i < m → f i ≠ f m := fun i h1 e => by
      have := hi i m (by omega) (by omega) e
      omega
    have key := ph_le m (k - 1) (fun i => if f m < f i then f i - 1 else f i)
      (fun i h1 => by
        have h2 := h i (by omega)
        have h3 := ne i h1
        show (if f m < f i then f i - 1 else f i) < k - 1
        split <;> omega)
      (fun i j h1 h2 e => by
        have a1 := ne i h1
        have a2 := ne j h2
        have e' : (if f m < f i then f i - 1 else f i) = (if f m < f j then f j - 1 else f j) := e
        apply hi i j (by omega) (by omega)
        split at e' <;> split at e' <;> omega)
    omega
theorem ph_sur {n : Nat} {f : Nat → Nat} (h : ∀ i, i < n → f i < n) (hi : ∀ i j, i < n → j < n → f i = f j → i = j) {a : Nat} (ha : a < n) : ∃ i, i < n ∧ f i = a := by
  apply Classical.byContradiction
  intro hn
  have ne : ∀ i, i < n → f i ≠ a := fun i h1 e => hn ⟨i, h1, e⟩
  have key := ph_le (n + 1) n (fun i => if i < n then f i else a)
    (fun i h1 => by
      show (if i < n then f i else a) < n
      split
      · exact h i (by assumption)
      · exact ha)
    (fun i j h1 h2 e => by
      have e' : (if i < n then f i else a) = (if j < n then f j else a) := e
      split at e' <;> split at e'
      · exact hi i j (by assumption) (by assumption) e'
      · exact absurd e' (ne i (by assumption))
      · exact absurd e'.symm (ne j (by assumption))
      · omega)
  omega
def zs_u (f : Nat → Int) : Nat → Int
  | 0 => 0
  | k + 1 => zs_u f k + f k
theorem zs_cg {f g : Nat → Int} : ∀ {k : Nat}, (∀ i, i < k → f i = g i) → zs_u f k = zs_u g k
  | 0, _ => rfl
  | k + 1, h => by
    show zs_u f k + f k = zs_u g k + g k
    rw [zs_cg (k := k) (fun i hi => h i (by omega)), h k (by omega)]
theorem zs_add (f g : Nat → Int) : ∀ k : Nat, zs_u (fun i => f i + g i) k = zs_u f k + zs_u g k
  | 0 => rfl
  | k + 1 => by
    show zs_u (fun i => f i + g i) k + (f k + g k) = zs_u f k + f k + (zs_u g k + g k)
    rw [zs_add f g k]; omega
theorem zs_sub (f g : Nat → Int) : ∀ k : Nat, zs_u (fun i => f i - g i) k = zs_u f k - zs_u g k
  | 0 => rfl
  | k + 1 => by
    show zs_u (fun i => f i - g i) k + (f k - g k) = zs_u f k + f k - (zs_u g k + g k)
    rw [zs_sub f g k]; omega
theorem zs_0 : ∀ k : Nat, zs_u (fun _ => 0) k = 0
  | 0 => rfl
  | k + 1 => by
    show zs_u (fun _ => 0) k + 0 = 0
    rw [zs_0 k]; rfl
theorem zs_z {f : Nat → Int} {k : Nat} (h : ∀ i, i < k → f i = 0) : zs_u f k = 0 := (zs_cg h).trans (zs_0 k)
theorem zs_le {f g : Nat → Int} : ∀ {k : Nat}, (∀ i, i < k → f i ≤ g i) → zs_u f k ≤ zs_u g k
  | 0, _ => Int.le_refl _
  | k + 1, h => by
    show zs_u f k + f k ≤ zs_u g k + g k
    have a := zs_le (k := k) (f := f) (g := g) (fun i hi => h i (by omega))
    have b := h k (by omega)
    omega
theorem zs_nn {f : Nat → Int} {k : Nat} (h : ∀ i, i < k → 0 ≤ f i) : 0 ≤ zs_u f k := by
  have := zs_le (f := fun _ => 0) (g := f) (k := k) h
  rw [zs_0] at this
  exact this
theorem zs_b {f : Nat → Int} {c : Int} : ∀ {k : Nat}, (∀ i, i < k → f i ≤ c) → zs_u f k ≤ k * c
  | 0, _ => by simp [zs_u]
  | k + 1, h => by
    show zs_u f k + f k ≤ (k + 1 : Nat) * c
    have a := zs_b (k := k) (f := f) (c := c) (fun i hi => h i (by omega))
    have b := h k (by omega)
    have e : ((k + 1 : Nat) : Int) * c = (k : Int) * c + c := by rw [Int.natCast_add, Int.add_mul]; simp
    omega
theorem zs_1 {f g : Nat → Int} {d : Int} {q : Nat} : ∀ {k : Nat}, q < k → (∀ i, i < k → i ≠ q → f i = g i) → f q = g q + d → zs_u f k = zs_u g k + d
  | 0, h, _, _ => by omega
  | k + 1, hq, h, e => by
    show zs_u f k + f k = zs_u g k + g k + d
    rcases Nat.lt_or_ge q k with z | z
    · rw [zs_1 (k := k) z (fun i hi hn => h i (by omega) hn) e, h k (by omega) (by omega)]; omega
    · have eq : q = k := by omega
      subst eq
      rw [zs_cg (k := q) (fun i hi => h i (by omega) (by omega)), e]; omega
theorem zs_one {f : Nat → Int} {q k : Nat} (hq : q < k) (h : ∀ i, i < k → i ≠ q → f i = 0) : zs_u f k = f q := by
  have := zs_1 (f := f) (g := fun _ => 0) (d := f q) hq h (by omega)
  rw [zs_0] at this
  omega
theorem zs_2 {f g : Nat → Int} {d1 d2 : Int} {q1 q2 k : Nat} (h1 : q1 < k) (h2 : q2 < k) (ne : q1 ≠ q2) (h : ∀ i, i < k → i ≠ q1 → i ≠ q2 → f i = g i) (e1 : f q1 = g q1 + d1) (e2 : f q2 = g q2 + d2) : zs_u f k = zs_u g k + d1 + d2 := by
  have a := zs_1 (f := fun i => if i = q2 then g q2 else f i) (g := g) (d := d1) h1 (fun i hi hn => by
    show (if i = q2 then g q2 else f i) = g i
    by_cases z : i = q2
    · rw [if_pos z, z]
    · rw [if_neg z]; exact h i hi hn z) (by
    show (if q1 = q2 then g q2 else f q1) = g q1 + d1
    rw [if_neg ne]; exact e1)
  have b := zs_1 (f := f) (g := fun i => if i = q2 then g q2 else f i) (d := d2) h2 (fun i hi hn => by
    show f i = (if i = q2 then g q2 else f i)
    rw [if_neg hn]) (by
    show f q2 = (if q2 = q2 then g q2 else f q2) + d2
    rw [if_pos rfl]; exact e2)
  omega
theorem zs_sw (f : Nat → Nat → Int) (b : Nat) : ∀ a : Nat, zs_u (fun i => zs_u (fun j => f i j) b) a = zs_u (fun j => zs_u (fun i => f i j) a) b
  | 0 => (zs_0 b).symm
  | a + 1 => by
    show zs_u (fun i => zs_u (fun j => f i j) b) a + zs_u (fun j => f a j) b = zs_u (fun j => zs_u (fun i => f i j) a + f a j) b
    rw [zs_add, zs_sw f b a]
def ns_u (f : Nat → Nat) : Nat → Nat
  | 0 => 0
  | k + 1 => ns_u f k + f k
theorem ns_cg {f g : Nat → Nat} : ∀ {k : Nat}, (∀ i, i < k → f i = g i) → ns_u f k = ns_u g k
  | 0, _ => rfl
  | k + 1, h => by
    show ns_u f k + f k = ns_u g k + g k
    rw [ns_cg (k := k) (fun i hi => h i (by omega)), h k (by omega)]
theorem ns_le {f g : Nat → Nat} : ∀ {k : Nat}, (∀ i, i < k → f i ≤ g i) → ns_u f k ≤ ns_u g k
  | 0, _ => Nat.le_refl _
  | k + 1, h => by
    show ns_u f k + f k ≤ ns_u g k + g k
    have a := ns_le (k := k) (f := f) (g := g) (fun i hi => h i (by omega))
    have b := h k (by omega)
    omega
theorem ns_b {f : Nat → Nat} {c : Nat} : ∀ {k : Nat}, (∀ i, i < k → f i ≤ c) → ns_u f k ≤ k * c
  | 0, _ => by simp [ns_u]
  | k + 1, h => by
    show ns_u f k + f k ≤ (k + 1) * c
    have a := ns_b (k := k) (f := f) (c := c) (fun i hi => h i (by omega))
    have b := h k (by omega)
    rw [Nat.succ_mul]
    omega
theorem ns_1 {f g : Nat → Nat} {d : Nat} {q : Nat} : ∀ {k : Nat}, q < k → (∀ i, i < k → i ≠ q → f i = g i) → f q = g q + d → ns_u f k = ns_u g k + d
  | 0, h, _, _ => by omega
  | k + 1, hq, h, e => by
    show ns_u f k + f k = ns_u g k + g k + d
    rcases Nat.lt_or_ge q k with z | z
    · rw [ns_1 (k := k) z (fun i hi hn => h i (by omega) hn) e, h k (by omega) (by omega)]; omega
    · have eq : q = k := by omega
      subst eq
      rw [ns_cg (k := q) (fun i hi => h i (by omega) (by omega)), e]; omega
/-- equal sums of ordered functions: equal -/
theorem ns_eq {f g : Nat → Nat} : ∀ {k : Nat}, (∀ i, i < k → f i ≤ g i) → ns_u g k ≤ ns_u f k → ∀ i, i < k → f i = g i
  | 0, _, _, i, hi => by omega
  | k + 1, h, e, i, hi => by
    have e' : ns_u g k + g k ≤ ns_u f k + f k := e
    have a := ns_le (k := k) (f := f) (g := g) (fun i hi => h i (by omega))
    have b := h k (by omega)
    rcases Nat.lt_or_ge i k with z | z
    · exact ns_eq (k := k) (fun i hi => h i (by omega)) (by omega) i z
    · have : i = k := by omega
      subst this
      omega
/-- a bounded measure has a greatest element -/
theorem mx_ex {α : Type} {P : α → Prop} (f : α → Nat) (b : Nat) (hb : ∀ a, P a → f a ≤ b) : ∀ (t : Nat) (a : α), P a → b ≤ f a + t → ∃ c, P c ∧ ∀ d, P d → f d ≤ f c
  | 0, a, ha, ht => ⟨a, ha, fun d hd => by have := hb d hd; omega⟩
  | t + 1, a, ha, ht => by
    rcases Classical.em (∃ d, P d ∧ f a < f d) with ⟨d, hd, h1⟩ | hn
    · exact mx_ex f b hb t d hd (by omega)
    · exact ⟨a, ha, fun d hd => Nat.le_of_not_lt fun z => hn ⟨d, hd, z⟩⟩
end
section
/-! the market, stable rows, meet and join, the settling step, Gale and Shapley -/
abbrev sm_M : Type := Nat × (Nat → Nat) × (Nat → Nat)
def sm_l (m : sm_M) (p k : Nat) : Nat := m.2.1 (p * 6 + k)
def sm_r (m : sm_M) (p a : Nat) : Nat := m.2.2 (p * 6 + a)
def sm_al (m : sm_M) (a k : Nat) : Nat := m.2.1 (36 + a * 6 + k)
def sm_ar (m : sm_M) (a p : Nat) : Nat := m.2.2 (36 + a * 6 + p)
def sm_ok (m : sm_M) : Prop :=
  (1 ≤ m.1 ∧ m.1 ≤ 6) ∧ (∀ p k, p < m.1 → k < m.1 → sm_l m p k < m.1 ∧ sm_r m p (sm_l m p k) = k) ∧
  (∀ p a, p < m.1 → a < m.1 → sm_r m p a < m.1 ∧ sm_l m p (sm_r m p a) = a) ∧
  (∀ a k, a < m.1 → k < m.1 → sm_al m a k < m.1 ∧ sm_ar m a (sm_al m a k) = k) ∧
  (∀ a p, a < m.1 → p < m.1 → sm_ar m a p < m.1 ∧ sm_al m a (sm_ar m a p) = p)
theorem sm_ari {m : sm_M} (o : sm_ok m) {a p q : Nat} (ha : a < m.1) (hp : p < m.1) (hq : q < m.1) (e : sm_ar m a p = sm_ar m a q) : p = q := by
  have h1 := (o.2.2.2.2 a p ha hp).2
  have h2 := (o.2.2.2.2 a q ha hq).2
  rw [← h1, ← h2, e]
theorem sm_li {m : sm_M} (o : sm_ok m) {p k j : Nat} (hp : p < m.1) (hk : k < m.1) (hj : j < m.1) (e : sm_l m p k = sm_l m p j) : k = j := by
  have h1 := (o.2.1 p k hp hk).2
  have h2 := (o.2.1 p j hp hj).2
  rw [← h1, ← h2, e]
def sm_h (m : sm_M) (M : Nat → Nat) (p : Nat) : Nat := sm_l m p (M p)
def sm_St (m : sm_M) (M : Nat → Nat) : Prop :=
  (∀ p, p < m.1 → M p < m.1) ∧ (∀ p q, p < m.1 → q < m.1 → sm_h m M p = sm_h m M q → p = q) ∧
  (∀ p q, p < m.1 → q < m.1 → sm_r m p (sm_h m M q) < M p → sm_ar m (sm_h m M q) q ≤ sm_ar m (sm_h m M q) p)
def sm_le (m : sm_M) (M N : Nat → Nat) : Prop := ∀ p, p < m.1 → M p ≤ N p
theorem sm_hl {m : sm_M} (o : sm_ok m) {M : Nat → Nat} {p : Nat} (hp : p < m.1) (h : M p < m.1) : sm_h m M p < m.1 := (o.2.1 p (M p) hp h).1
theorem sm_rh {m : sm_M} (o : sm_ok m) {M : Nat → Nat} {p : Nat} (hp : p < m.1) (h : M p < m.1) : sm_r m p (sm_h m M p) = M p := (o.2.1 p (M p) hp h).2
theorem sm_cg {m : sm_M} {M N : Nat → Nat} (e : ∀ p, p < m.1 → M p = N p) (h : sm_St m M) : sm_St m N := by
  have eh : ∀ p, p < m.1 → sm_h m N p = sm_h m M p := fun p hp => by
    show sm_l m p (N p) = sm_l m p (M p)
    rw [e p hp]
  refine ⟨fun p hp => e p hp ▸ h.1 p hp, fun p q hp hq z => ?_, fun p q hp hq z => ?_⟩
  · rw [eh p hp, eh q hq] at z
    exact h.2.1 p q hp hq z
  · rw [eh q hq] at z ⊢
    rw [← e p hp] at z
    exact h.2.2 p q hp hq z
theorem sm_sur {m : sm_M} (o : sm_ok m) {M : Nat → Nat} (h : sm_St m M) {a : Nat} (ha : a < m.1) : ∃ x, x < m.1 ∧ sm_h m M x = a :=
  ph_sur (f := sm_h m M) (fun i hi => sm_hl o hi (h.1 i hi)) (fun i j hi hj e => h.2.1 i j hi hj e) ha
theorem sm_ma {m : sm_M} (o : sm_ok m) {M N : Nat → Nat} (hM : sm_St m M) (hN : sm_St m N) {p q : Nat} (hp : p < m.1) (hq : q < m.1) (b1 : M p ≤ N p) (b2 : N q ≤ M q) (e : sm_l m p (M p) = sm_l m q (N q)) : p = q := by
  apply Classical.byContradiction
  intro ne
  have s1 : M p ≠ N p := fun z => ne (hN.2.1 p q hp hq (by show sm_l m p (N p) = sm_l m q (N q); rw [← z]; exact e))
  have s2 : N q ≠ M q := fun z => ne (hM.2.1 p q hp hq (by show sm_l m p (M p) = sm_l m q (M q); rw [← z]; exact e))
  have r1 : sm_r m p (sm_h m N q) = M p := by
    show sm_r m p (sm_l m q (N q)) = M p
    rw [← e]; exact (o.2.1 p (M p) hp (hM.1 p hp)).2
  have r2 : sm_r m q (sm_h m M p) = N q := by
    show sm_r m q (sm_l m p (M p)) = N q
    rw [e]; exact (o.2.1 q (N q) hq (hN.1 q hq)).2
  have t1 := hN.2.2 p q hp hq (by omega)
  have t2 := hM.2.2 q p hq hp (by omega)
  have eh : sm_h m M p = sm_h m N q := e
  rw [eh] at t2
  exact ne (sm_ari o (sm_hl o hq (hN.1 q hq)) hp hq (by omega))
theorem sm_mn (a b : Nat) : (min a b = a ∧ a ≤ b) ∨ (min a b = b ∧ b ≤ a) := by omega
theorem sm_mx (a b : Nat) : (max a b = a ∧ b ≤ a) ∨ (max a b = b ∧ a ≤ b) := by omega
theorem sm_meet {m : sm_M} (o : sm_ok m) {M N : Nat → Nat} (hM : sm_St m M) (hN : sm_St m N) : sm_St m (fun p => min (M p) (N p)) := by
  refine ⟨fun p hp => ?_, fun p q hp hq e => ?_, fun p q hp hq e => ?_⟩
  · have := hM.1 p hp
    show min (M p) (N p) < m.1
    omega
  · have e' : sm_l m p (min (M p) (N p)) = sm_l m q (min (M q) (N q)) := e
    rcases sm_mn (M p) (N p) with ⟨a1, b1⟩ | ⟨a1, b1⟩ <;> rcases sm_mn (M q) (N q) with ⟨a2, b2⟩ | ⟨a2, b2⟩ <;> rw [a1, a2] at e'
    · exact hM.2.1 p q hp hq e'
    · exact sm_ma o hM hN hp hq b1 b2 e'
    · exact (sm_ma o hM hN hq hp b2 b1 e'.symm).symm
    · exact hN.2.1 p q hp hq e'
  · have e' : sm_r m p (sm_h m (fun p => min (M p) (N p)) q) < min (M p) (N p) := e
    rcases sm_mn (M q) (N q) with ⟨a2, b2⟩ | ⟨a2, b2⟩
    · have eh : sm_h m (fun p => min (M p) (N p)) q = sm_h m M q := by
        show sm_l m q (min (M q) (N q)) = sm_l m q (M q)
        rw [a2]
      rw [eh] at e' ⊢
      exact hM.2.2 p q hp hq (by omega)
    · have eh : sm_h m (fun p => min (M p) (N p)) q = sm_h m N q := by
        show sm_l m q (min (M q) (N q)) = sm_l m q (N q)
        rw [a2]
      rw [eh] at e' ⊢
      exact hN.2.2 p q hp hq (by omega)
theorem sm_ja {m : sm_M} (o : sm_ok m) {M N : Nat → Nat} (hM : sm_St m M) (hN : sm_St m N) {p q : Nat} (hp : p < m.1) (hq : q < m.1) (b1 : N p ≤ M p) (b2 : M q ≤ N q) (e : sm_l m p (M p) = sm_l m q (N q)) : p = q := by
  apply Classical.byContradiction
  intro ne
  have s1 : N p ≠ M p := fun z => ne (hN.2.1 p q hp hq (by show sm_l m p (N p) = sm_l m q (N q); rw [z]; exact e))
  have s2 : M q ≠ N q := fun z => ne (hM.2.1 p q hp hq (by show sm_l m p (M p) = sm_l m q (M q); rw [z]; exact e))
  obtain ⟨x, hx, ex⟩ := sm_sur o (sm_meet o hM hN) (o.2.1 p (M p) hp (hM.1 p hp)).1
  have ex' : sm_l m x (min (M x) (N x)) = sm_l m p (M p) := ex
  rcases sm_mn (M x) (N x) with ⟨a1, c1⟩ | ⟨a1, c1⟩ <;> rw [a1] at ex'
  · have := hM.2.1 x p hx hp ex'
    subst this
    omega
  · have := hN.2.1 x q hx hq (ex'.trans e)
    subst this
    omega
theorem sm_ji {m : sm_M} (o : sm_ok m) {M N : Nat → Nat} (hM : sm_St m M) (hN : sm_St m N) {p q : Nat} (hp : p < m.1) (hq : q < m.1) (e : sm_l m p (max (M p) (N p)) = sm_l m q (max (M q) (N q))) : p = q := by
  rcases sm_mx (M p) (N p) with ⟨a1, b1⟩ | ⟨a1, b1⟩ <;> rcases sm_mx (M q) (N q) with ⟨a2, b2⟩ | ⟨a2, b2⟩ <;> rw [a1, a2] at e
  · exact hM.2.1 p q hp hq e
  · exact sm_ja o hM hN hp hq b1 b2 e
  · exact (sm_ja o hM hN hq hp b2 b1 e.symm).symm
  · exact hN.2.1 p q hp hq e
/-- the join's third clause, from the side of M -/
theorem sm_jb {m : sm_M} (o : sm_ok m) {M N : Nat → Nat} (hM : sm_St m M) (hN : sm_St m N) {p q : Nat} (hp : p < m.1) (hq : q < m.1) (b2 : N q ≤ M q) (ji : ∀ x, x < m.1 → sm_l m x (max (M x) (N x)) = sm_l m q (max (M q) (N q)) → x = q) (e : sm_r m p (sm_h m M q) < max (M p) (N p)) : sm_ar m (sm_h m M q) q ≤ sm_ar m (sm_h m M q) p := by
  rcases Nat.lt_or_ge (sm_r m p (sm_h m M q)) (M p) with z | z
  · exact hM.2.2 p q hp hq z
  · apply Classical.byContradiction
    intro hn
    obtain ⟨x, hx, ex⟩ := sm_sur o hN (sm_hl o hq (hM.1 q hq))
    have t := hN.2.2 p x hp hx (by rw [ex]; omega)
    rw [ex] at t
    have nxq : x ≠ q := fun z => by subst z; omega
    have rx : sm_r m x (sm_h m M q) = N x := by rw [← ex]; exact sm_rh o hx (hN.1 x hx)
    rcases Nat.lt_or_ge (N x) (M x) with y | y
    · have := hM.2.2 x q hx hq (by omega)
      omega
    · apply nxq
      apply ji x hx
      rw [Nat.max_eq_right y, Nat.max_eq_left b2]
      exact ex
theorem sm_join {m : sm_M} (o : sm_ok m) {M N : Nat → Nat} (hM : sm_St m M) (hN : sm_St m N) : sm_St m (fun p => max (M p) (N p)) := by
  refine ⟨fun p hp => ?_, fun p q hp hq e => sm_ji o hM hN hp hq e, fun p q hp hq e => ?_⟩
  · have := hM.1 p hp
    have := hN.1 p hp
    show max (M p) (N p) < m.1
    omega
  · have e' : sm_r m p (sm_h m (fun p => max (M p) (N p)) q) < max (M p) (N p) := e
    rcases sm_mx (M q) (N q) with ⟨a2, b2⟩ | ⟨a2, b2⟩
    · have eh : sm_h m (fun p => max (M p) (N p)) q = sm_h m M q := by
        show sm_l m q (max (M q) (N q)) = sm_l m q (M q)
        rw [a2]
      rw [eh] at e' ⊢
      exact sm_jb o hM hN hp hq b2 (fun x hx z => sm_ji o hM hN hx hq z) e'
    · have eh : sm_h m (fun p => max (M p) (N p)) q = sm_h m N q := by
        show sm_l m q (max (M q) (N q)) = sm_l m q (N q)
        rw [a2]
      rw [eh] at e' ⊢
      exact sm_jb o hN hM hp hq b2 (fun x hx z => sm_ji o hM hN hx hq (by rw [Nat.max_comm (M x), Nat.max_comm (M q)]; exact z)) (by rw [Nat.max_comm]; exact e')
def sm_out (m : sm_M) (R : Nat → Nat) (q : Nat) : Prop := ∃ x, x < m.1 ∧ sm_r m x (sm_h m R q) ≤ R x ∧ sm_ar m (sm_h m R q) x < sm_ar m (sm_h m R q) q
theorem sm_raise {m : sm_M} (o : sm_ok m) {M R : Nat → Nat} (hM : sm_St m M) (hl : sm_le m R M) {q : Nat} (hq : q < m.1) (ho : sm_out m R q) : R q < M q := by
  apply Classical.byContradiction
  intro hn
  have e : R q = M q := by have := hl q hq; omega
  have eh : sm_h m R q = sm_h m M q := by
    show sm_l m q (R q) = sm_l m q (M q)
    rw [e]
  obtain ⟨x, hx, h1, h2⟩ := ho
  rw [eh] at h1 h2
  have h3 := hl x hx
  have nxq : x ≠ q := fun z => by subst z; omega
  rcases Nat.lt_or_ge (sm_r m x (sm_h m M q)) (M x) with z | z
  · have := hM.2.2 x q hx hq z
    omega
  · have e1 : sm_r m x (sm_h m M q) = M x := by omega
    apply nxq
    apply hM.2.1 x q hx hq
    show sm_l m x (M x) = _
    rw [← e1]
    exact (o.2.2.1 x _ hx (sm_hl o hq (hM.1 q hq))).2
theorem sm_noout {m : sm_M} (o : sm_ok m) {R : Nat → Nat} (hR : ∀ q, q < m.1 → R q < m.1) (hn : ∀ q, q < m.1 → ¬ sm_out m R q) : sm_St m R := by
  refine ⟨hR, fun p q hp hq e => ?_, fun p q hp hq e => ?_⟩
  · apply Classical.byContradiction
    intro ne
    have na : sm_ar m (sm_h m R q) p ≠ sm_ar m (sm_h m R q) q := fun z => ne (sm_ari o (sm_hl o hq (hR q hq)) hp hq z)
    rcases Nat.lt_or_ge (sm_ar m (sm_h m R q) p) (sm_ar m (sm_h m R q) q) with z | z
    · exact hn q hq ⟨p, hp, by rw [← e, sm_rh o hp (hR p hp)]; exact Nat.le_refl _, z⟩
    · refine hn p hp ⟨q, hq, ?_, ?_⟩
      · rw [e, sm_rh o hq (hR q hq)]; exact Nat.le_refl _
      · rw [e]; omega
  · apply Classical.byContradiction
    intro z
    exact hn q hq ⟨p, hp, by omega, by omega⟩
def sm_up (R : Nat → Nat) (q : Nat) : Nat → Nat := fun i => if i = q then R q + 1 else R i
theorem sm_up_s {R : Nat → Nat} {q : Nat} : sm_up R q q = R q + 1 := if_pos rfl
theorem sm_up_n {R : Nat → Nat} {q i : Nat} (h : i ≠ q) : sm_up R q i = R i := if_neg h
theorem sm_up_le {R : Nat → Nat} {q : Nat} (i : Nat) : R i ≤ sm_up R q i := by
  by_cases h : i = q
  · subst h; rw [sm_up_s]; omega
  · rw [sm_up_n h]; exact Nat.le_refl _
theorem sm_up_sum {R : Nat → Nat} {q k : Nat} (h : q < k) : ns_u (sm_up R q) k = ns_u R k + 1 :=
  ns_1 h (fun _ _ hn => sm_up_n hn) sm_up_s
theorem sm_upM {m : sm_M} {R M : Nat → Nat} {q : Nat} (h : sm_le m R M) (h1 : R q < M q) : sm_le m (sm_up R q) M := fun i hi => by
  by_cases z : i = q
  · subst z; rw [sm_up_s]; omega
  · rw [sm_up_n z]; exact h i hi
def sm_gs (m : sm_M) (R : Nat → Nat) : Prop := ∀ x a, x < m.1 → a < m.1 → sm_r m x a < R x → ∃ y, y < m.1 ∧ sm_r m y a ≤ R y ∧ sm_ar m a y < sm_ar m a x
theorem sm_gs0 {m : sm_M} {R : Nat → Nat} (h : ∀ x, x < m.1 → R x = 0) : sm_gs m R := fun x a hx _ z => by rw [h x hx] at z; omega
theorem sm_gsS {m : sm_M} (o : sm_ok m) {R : Nat → Nat} {q : Nat} (hq : q < m.1) (hR : R q < m.1) (h : sm_gs m R) (ho : sm_out m R q) : sm_gs m (sm_up R q) := fun x a hx ha z => by
  have keep : (∃ y, y < m.1 ∧ sm_r m y a ≤ R y ∧ sm_ar m a y < sm_ar m a x) → ∃ y, y < m.1 ∧ sm_r m y a ≤ sm_up R q y ∧ sm_ar m a y < sm_ar m a x := fun ⟨y, h1, h2, h3⟩ => ⟨y, h1, Nat.le_trans h2 (sm_up_le y), h3⟩
  apply keep
  by_cases e : x = q
  · subst e
    rw [sm_up_s] at z
    rcases Nat.lt_or_ge (sm_r m x a) (R x) with z1 | z1
    · exact h x a hx ha z1
    · have e1 : sm_r m x a = R x := by omega
      have e2 : sm_h m R x = a := by
        show sm_l m x (R x) = a
        rw [← e1]
        exact (o.2.2.1 x a hx ha).2
      obtain ⟨y, h1, h2, h3⟩ := ho
      rw [e2] at h2 h3
      exact ⟨y, h1, h2, h3⟩
  · rw [sm_up_n e] at z
    exact h x a hx ha z
theorem sm_gsB {m : sm_M} {R : Nat → Nat} (h : sm_gs m R) {a : Nat} (ha : a < m.1) : ∀ (t y : Nat), y < m.1 → sm_r m y a ≤ R y → sm_ar m a y ≤ t → ∃ x, x < m.1 ∧ sm_r m x a = R x ∧ sm_ar m a x ≤ sm_ar m a y
  | 0, y, hy, h1, h2 => by
    rcases Nat.lt_or_ge (sm_r m y a) (R y) with z | z
    · obtain ⟨y', _, _, h5⟩ := h y a hy ha z
      omega
    · exact ⟨y, hy, by omega, Nat.le_refl _⟩
  | t + 1, y, hy, h1, h2 => by
    rcases Nat.lt_or_ge (sm_r m y a) (R y) with z | z
    · obtain ⟨y', h3, h4, h5⟩ := h y a hy ha z
      obtain ⟨x, g1, g2, g3⟩ := sm_gsB h ha t y' h3 h4 (by omega)
      exact ⟨x, g1, g2, by omega⟩
    · exact ⟨y, hy, by omega, Nat.le_refl _⟩
theorem sm_gsF {m : sm_M} (o : sm_ok m) {R : Nat → Nat} (h : sm_gs m R) (hR : ∀ i, i < m.1 → R i < m.1) {q : Nat} (hq : q < m.1) (ho : sm_out m R q) (hf : R q + 1 = m.1) : False := by
  have key : ∀ a, ∃ x, a < m.1 → x < m.1 ∧ x ≠ q ∧ sm_h m R x = a := fun a => by
    by_cases ha : a < m.1
    · have : ∃ y, y < m.1 ∧ sm_r m y a ≤ R y ∧ sm_ar m a y < sm_ar m a q := by
        have hr := (o.2.2.1 q a hq ha).1
        rcases Nat.lt_or_ge (sm_r m q a) (R q) with z | z
        · exact h q a hq ha z
        · have e1 : sm_r m q a = R q := by omega
          have e2 : sm_h m R q = a := by
            show sm_l m q (R q) = a
            rw [← e1]
            exact (o.2.2.1 q a hq ha).2
          obtain ⟨y, h1, h2, h3⟩ := ho
          rw [e2] at h2 h3
          exact ⟨y, h1, h2, h3⟩
      obtain ⟨y, h1, h2, h3⟩ := this
      obtain ⟨x, g1, g2, g3⟩ := sm_gsB h ha (sm_ar m a y) y h1 h2 (Nat.le_refl _)
      refine ⟨x, fun _ => ⟨g1, fun e => by subst e; omega, ?_⟩⟩
      show sm_l m x (R x) = a
      rw [← g2]
      exact (o.2.2.1 x a g1 ha).2
    · exact ⟨0, fun z => absurd z ha⟩
  obtain ⟨g, hg⟩ := Classical.axiomOfChoice key
  have := ph_le (m.1 + 1) m.1 (fun i => if i < m.1 then g i else q)
    (fun i hi => by
      show (if i < m.1 then g i else q) < m.1
      split
      · exact (hg i (by assumption)).1
      · exact hq)
    (fun i j hi hj e => by
      have e' : (if i < m.1 then g i else q) = (if j < m.1 then g j else q) := e
      split at e' <;> split at e'
      · rename_i h1 h2
        have a1 := (hg i h1).2.2
        have a2 := (hg j h2).2.2
        rw [← a1, ← a2, e']
      · rename_i h1 h2
        exact absurd e' (hg i h1).2.1
      · rename_i h1 h2
        exact absurd e'.symm (hg j h2).2.1
      · omega)
  omega
theorem sm_sumB {m : sm_M} {R : Nat → Nat} (hR : ∀ i, i < m.1 → R i < m.1) : ns_u R m.1 ≤ m.1 * (m.1 - 1) := ns_b fun i hi => by have := hR i hi; omega
theorem sm_ex1 {m : sm_M} (o : sm_ok m) : ∀ (t : Nat) (R : Nat → Nat), (∀ i, i < m.1 → R i < m.1) → sm_gs m R → m.1 * (m.1 - 1) < ns_u R m.1 + t → ∃ M, sm_St m M
  | 0, R, hR, _, ht => by have := sm_sumB hR; omega
  | t + 1, R, hR, hg, ht => by
    rcases Classical.em (∃ q, q < m.1 ∧ sm_out m R q) with ⟨q, hq, ho⟩ | hn
    · have hl : R q + 1 < m.1 := by
        have h1 := hR q hq
        rcases Nat.lt_or_ge (R q + 1) m.1 with z | z
        · exact z
        · exact (sm_gsF o hg hR hq ho (by omega)).elim
      refine sm_ex1 o t (sm_up R q) (fun i hi => ?_) (sm_gsS o hq (hR q hq) hg ho) (by rw [sm_up_sum hq]; omega)
      by_cases e : i = q
      · subst e; rw [sm_up_s]; exact hl
      · rw [sm_up_n e]; exact hR i hi
    · exact ⟨R, sm_noout o hR fun q hq ho => hn ⟨q, hq, ho⟩⟩
theorem sm_ex {m : sm_M} (o : sm_ok m) : ∃ M, sm_St m M :=
  sm_ex1 o (m.1 * (m.1 - 1) + 1) (fun _ => 0) (fun _ _ => by have := o.1.1; omega) (sm_gs0 fun _ _ => rfl) (by omega)
theorem sm_lea {m : sm_M} (o : sm_ok m) {M : Nat → Nat} (hM : sm_St m M) : ∀ (t : Nat) (R : Nat → Nat), sm_le m R M → ns_u M m.1 ≤ ns_u R m.1 + t → ∃ B, sm_St m B ∧ sm_le m R B ∧ ∀ N, sm_St m N → sm_le m R N → sm_le m B N := by
  intro t
  induction t with
  | zero =>
    intro R hl ht
    have e := ns_eq hl (by omega)
    refine ⟨R, sm_cg (fun p hp => (e p hp).symm) hM, fun p _ => Nat.le_refl _, fun N _ h => h⟩
  | succ t ih =>
    intro R hl ht
    rcases Classical.em (∃ q, q < m.1 ∧ sm_out m R q) with ⟨q, hq, ho⟩ | hn
    · obtain ⟨B, h1, h2, h3⟩ := ih (sm_up R q) (sm_upM hl (sm_raise o hM hl hq ho)) (by rw [sm_up_sum hq]; omega)
      exact ⟨B, h1, fun p hp => Nat.le_trans (sm_up_le p) (h2 p hp), fun N hN hl' => h3 N hN (sm_upM hl' (sm_raise o hN hl' hq ho))⟩
    · exact ⟨R, sm_noout o (fun q hq => Nat.lt_of_le_of_lt (hl q hq) (hM.1 q hq)) fun q hq ho => hn ⟨q, hq, ho⟩, fun p _ => Nat.le_refl _, fun N _ h => h⟩
end
section
/-! least rows, movers, the list of leads -/
def sm_LB (m : sm_M) (p K : Nat) (B : Nat → Nat) : Prop := sm_St m B ∧ K ≤ B p ∧ ∀ M, sm_St m M → K ≤ M p → sm_le m B M
theorem sm_LBx {m : sm_M} (o : sm_ok m) {p K : Nat} (hp : p < m.1) {M : Nat → Nat} (hM : sm_St m M) (hK : K ≤ M p) : ∃ B, sm_LB m p K B := by
  have low : ∀ N : Nat → Nat, K ≤ N p → sm_le m (fun i => if i = p then K else 0) N := fun N hN i hi => by
    show (if i = p then K else 0) ≤ N i
    by_cases e : i = p
    · rw [if_pos e, e]; exact hN
    · rw [if_neg e]; exact Nat.zero_le _
  obtain ⟨B, h1, h2, h3⟩ := sm_lea o hM (ns_u M m.1) (fun i => if i = p then K else 0) (low M hK) (by omega)
  refine ⟨B, h1, ?_, fun N hN hk => h3 N hN (low N hk)⟩
  have h4 : (if p = p then K else 0) ≤ B p := h2 p hp
  rw [if_pos rfl] at h4
  exact h4
theorem sm_LBu {m : sm_M} {p K : Nat} {B C : Nat → Nat} (hB : sm_LB m p K B) (hC : sm_LB m p K C) : ∀ q, q < m.1 → B q = C q := fun q hq =>
  Nat.le_antisymm (hB.2.2 C hC.1 hC.2.1 q hq) (hC.2.2 B hB.1 hB.2.1 q hq)
theorem sm_LBc {m : sm_M} {p K : Nat} {B C : Nat → Nat} (hp : p < m.1) (e : ∀ q, q < m.1 → B q = C q) (hB : sm_LB m p K B) : sm_LB m p K C :=
  ⟨sm_cg e hB.1, by rw [← e p hp]; exact hB.2.1, fun M hM hK q hq => by rw [← e q hq]; exact hB.2.2 M hM hK q hq⟩
theorem sm_brx (m : sm_M) (p K : Nat) : ∃ B : Nat → Nat, sm_ok m → p < m.1 → (sm_LB m p K B ∨ ((∀ M, sm_St m M → M p < K) ∧ ∀ q, B q = m.1)) := by
  rcases Classical.em (∃ B, sm_LB m p K B) with ⟨B, hB⟩ | hn
  · exact ⟨B, fun _ _ => Or.inl hB⟩
  · exact ⟨fun _ => m.1, fun o hp => Or.inr ⟨fun M hM => Nat.lt_of_not_le fun z => hn (sm_LBx o hp hM z), fun _ => rfl⟩⟩
noncomputable def sm_br (m : sm_M) (p K : Nat) : Nat → Nat := Classical.choose (sm_brx m p K)
theorem sm_brs {m : sm_M} (o : sm_ok m) {p : Nat} (hp : p < m.1) (K : Nat) : sm_LB m p K (sm_br m p K) ∨ ((∀ M, sm_St m M → M p < K) ∧ ∀ q, sm_br m p K q = m.1) := Classical.choose_spec (sm_brx m p K) o hp
theorem sm_brl {m : sm_M} (o : sm_ok m) {p K : Nat} (hp : p < m.1) {M : Nat → Nat} (hM : sm_St m M) (hK : K ≤ M p) : sm_LB m p K (sm_br m p K) := by
  rcases sm_brs o hp K with h | h
  · exact h
  · have := h.1 M hM; omega
theorem sm_brn {m : sm_M} (o : sm_ok m) {p K : Nat} (hp : p < m.1) (h : ∀ M, sm_St m M → M p < K) (q : Nat) : sm_br m p K q = m.1 := by
  rcases sm_brs o hp K with h1 | h1
  · have := h _ h1.1; have := h1.2.1; omega
  · exact h1.2 q
/-- the top row -/
noncomputable def sm_tp (m : sm_M) : Nat → Nat := sm_br m 0 0
theorem sm_tpS {m : sm_M} (o : sm_ok m) : sm_St m (sm_tp m) ∧ ∀ M, sm_St m M → sm_le m (sm_tp m) M := by
  obtain ⟨M, hM⟩ := sm_ex o
  have h := sm_brl o (p := 0) (K := 0) (by have := o.1.1; omega) hM (Nat.zero_le _)
  exact ⟨h.1, fun N hN => h.2.2 N hN (Nat.zero_le _)⟩
theorem sm_tpb {m : sm_M} (o : sm_ok m) {p : Nat} (hp : p < m.1) : ∀ q, q < m.1 → sm_br m p 0 q = sm_tp m q := by
  have h := sm_tpS o
  have h1 := sm_brl o (p := p) (K := 0) hp h.1 (Nat.zero_le _)
  exact sm_LBu h1 ⟨h.1, Nat.zero_le _, fun M hM _ => h.2 M hM⟩
/-- some stable row has k at p; (p, k) is a mover -/
def sm_oc (m : sm_M) (p k : Nat) : Prop := ∃ M, sm_St m M ∧ M p = k
def sm_mv (m : sm_M) (p k : Nat) : Prop := p < m.1 ∧ sm_oc m p k ∧ ∃ M, sm_St m M ∧ k < M p
theorem sm_mvk {m : sm_M} {p k : Nat} (h : sm_mv m p k) : k + 1 < m.1 := by
  obtain ⟨hp, _, M, hM, hk⟩ := h
  have := hM.1 p hp
  omega
theorem sm_mvL {m : sm_M} (o : sm_ok m) {p k : Nat} (h : sm_mv m p k) : sm_LB m p (k + 1) (sm_br m p (k + 1)) := by
  obtain ⟨hp, _, M, hM, hk⟩ := h
  exact sm_brl o hp hM hk
theorem sm_ocb {m : sm_M} (o : sm_ok m) {p k : Nat} (hp : p < m.1) : sm_oc m p k ↔ k < m.1 ∧ sm_br m p k p = k := by
  constructor
  · rintro ⟨M, hM, e⟩
    have h := sm_brl o (p := p) (K := k) hp hM (by omega)
    have h1 := h.2.2 M hM (by omega) p hp
    have h2 := h.2.1
    have h3 := hM.1 p hp
    omega
  · rintro ⟨h1, h2⟩
    rcases sm_brs o hp k with h | h
    · exact ⟨_, h.1, h2⟩
    · have := h.2 p; omega
theorem sm_mvb {m : sm_M} (o : sm_ok m) {p k : Nat} (hp : p < m.1) : sm_mv m p k ↔ (k < m.1 ∧ sm_br m p k p = k) ∧ sm_br m p (k + 1) p < m.1 := by
  rw [← sm_ocb o hp]
  constructor
  · intro h
    have h1 := sm_mvL o h
    exact ⟨h.2.1, h1.1.1 p hp⟩
  · rintro ⟨h1, h2⟩
    refine ⟨hp, h1, ?_⟩
    rcases sm_brs o hp (k + 1) with h | h
    · exact ⟨_, h.1, h.2.1⟩
    · have := h.2 p; omega
/-- codes p * 6 + k -/
def sm_mj (m : sm_M) (j : Nat) : Prop := sm_mv m (j / 6) (j % 6)
noncomputable def sm_bj (m : sm_M) (j : Nat) : Nat → Nat := sm_br m (j / 6) (j % 6 + 1)
def sm_sb (m : sm_M) (i j : Nat) : Prop := ∀ q, q < m.1 → sm_bj m i q = sm_bj m j q
theorem sm_c6 {p k : Nat} (h : k < 6) : (p * 6 + k) / 6 = p ∧ (p * 6 + k) % 6 = k := by omega
theorem sm_mjc {m : sm_M} {p k : Nat} (h : k < 6) : sm_mj m (p * 6 + k) ↔ sm_mv m p k := by
  unfold sm_mj
  rw [(sm_c6 h).1, (sm_c6 h).2]
theorem sm_bjc {m : sm_M} {p k : Nat} (h : k < 6) : sm_bj m (p * 6 + k) = sm_br m p (k + 1) := by
  unfold sm_bj
  rw [(sm_c6 h).1, (sm_c6 h).2]
theorem sm_bjS {m : sm_M} (o : sm_ok m) {j : Nat} (h : sm_mj m j) : sm_LB m (j / 6) (j % 6 + 1) (sm_bj m j) := sm_mvL o h
/-- the same proposer: movers with one bar are one -/
theorem sm_uni {m : sm_M} (o : sm_ok m) {p k k' : Nat} (h : sm_mv m p k) (h' : sm_mv m p k') (e : sm_br m p (k + 1) p = sm_br m p (k' + 1) p) : k = k' := by
  have key : ∀ a b, sm_mv m p a → sm_mv m p b → sm_br m p (a + 1) p = sm_br m p (b + 1) p → ¬ a < b := fun a b ha hb e z => by
    obtain ⟨M, hM, eM⟩ := hb.2.1
    have h1 := (sm_mvL o ha).2.2 M hM (by omega) p ha.1
    have h2 := (sm_mvL o hb).2.1
    omega
  have := key k k' h h' e
  have := key k' k h' h e.symm
  omega
/-- a mover's bar has a second mover, of another proposer -/
theorem sm_two {m : sm_M} (o : sm_ok m) {p k : Nat} (h : sm_mv m p k) : ∃ p' k', p' ≠ p ∧ sm_mv m p' k' ∧ ∀ q, q < m.1 → sm_br m p' (k' + 1) q = sm_br m p (k + 1) q := by
  have hB := sm_mvL o h
  have hp := h.1
  obtain ⟨M0, hM0, e0⟩ := h.2.1
  have n1 : sm_St m (fun i => min (sm_br m p (k + 1) i) (M0 i)) := sm_meet o hB.1 hM0
  have hb2 := hB.2.1
  obtain ⟨N, ⟨N1, N2, N3⟩, N4⟩ := mx_ex (P := fun N : Nat → Nat => sm_St m N ∧ sm_le m N (sm_br m p (k + 1)) ∧ N p ≤ k) (fun N => ns_u N m.1) (m.1 * (m.1 - 1)) (fun N hN => sm_sumB hN.1.1) (m.1 * (m.1 - 1)) (fun i => min (sm_br m p (k + 1) i) (M0 i))
    ⟨n1, fun i _ => Nat.min_le_left _ _, by show min (sm_br m p (k + 1) p) (M0 p) ≤ k; omega⟩ (by omega)
  have gr : ∀ D, sm_St m D → sm_le m D (sm_br m p (k + 1)) → D p ≤ k → sm_le m D N := fun D d1 d2 d3 i hi => by
    have hj := N4 (fun i => max (N i) (D i)) ⟨sm_join o N1 d1, fun i hi => Nat.max_le.mpr ⟨N2 i hi, d2 i hi⟩, by show max (N p) (D p) ≤ k; omega⟩
    have hj' : ns_u (fun i => max (N i) (D i)) m.1 ≤ ns_u N m.1 := hj
    have e := ns_eq (f := N) (g := fun i => max (N i) (D i)) (k := m.1) (fun i _ => Nat.le_max_left _ _) hj' i hi
    have e' : N i = max (N i) (D i) := e
    omega
  have np : N p = k := by
    have := gr _ n1 (fun i _ => Nat.min_le_left _ _) (by show min (sm_br m p (k + 1) p) (M0 p) ≤ k; omega) p hp
    have t : min (sm_br m p (k + 1) p) (M0 p) ≤ N p := this
    omega
  have ex : ∃ p', p' < m.1 ∧ p' ≠ p ∧ N p' ≠ sm_br m p (k + 1) p' := by
    apply Classical.byContradiction
    intro hn
    have same : ∀ x, x < m.1 → x ≠ p → N x = sm_br m p (k + 1) x := fun x hx ne => Classical.byContradiction fun z => hn ⟨x, hx, ne, z⟩
    obtain ⟨x, hx, exx⟩ := sm_sur o N1 (sm_hl o hp (hB.1.1 p hp))
    by_cases e : x = p
    · subst e
      have := sm_li o hx (N1.1 x hx) (hB.1.1 x hx) exx
      omega
    · apply e
      apply hB.1.2.1 x p hx hp
      rw [← exx]
      show sm_l m x (sm_br m p (k + 1) x) = sm_l m x (N x)
      rw [same x hx e]
  obtain ⟨p', hp', ne, nd⟩ := ex
  have lt : N p' < sm_br m p (k + 1) p' := by have := N2 p' hp'; omega
  have mv' : sm_mv m p' (N p') := ⟨hp', ⟨N, N1, rfl⟩, ⟨_, hB.1, lt⟩⟩
  refine ⟨p', N p', ne, mv', ?_⟩
  refine sm_LBu (sm_mvL o mv') ⟨hB.1, lt, fun M hM hK => ?_⟩
  rcases Nat.lt_or_ge k (M p) with z | z
  · exact hB.2.2 M hM z
  · have d := gr (fun i => min (sm_br m p (k + 1) i) (M i)) (sm_meet o hB.1 hM) (fun i _ => Nat.min_le_left _ _) (by show min (sm_br m p (k + 1) p) (M p) ≤ k; omega) p' hp'
    have d' : min (sm_br m p (k + 1) p') (M p') ≤ N p' := d
    omega
/-- the first mover of its bar -/
def sm_fm (m : sm_M) (j : Nat) : Prop := sm_mj m j ∧ ∀ i, i < j → sm_mj m i → ¬ sm_sb m i j
def sm_RL (m : sm_M) (i c : Nat) (ld : Nat → Nat) : Prop :=
  (∀ r, r < c → ld r < i ∧ sm_fm m (ld r)) ∧ (∀ r s, r < s → s < c → ld r < ld s) ∧ (∀ j, j < i → sm_fm m j → ∃ r, r < c ∧ ld r = j)
theorem sm_RL0 {m : sm_M} {ld : Nat → Nat} : sm_RL m 0 0 ld := ⟨fun r hr => by omega, fun r s _ hs => by omega, fun j hj => by omega⟩
theorem sm_RLn {m : sm_M} {i c : Nat} {ld ld' : Nat → Nat} (h : sm_RL m i c ld) (hf : sm_fm m i) (e1 : ∀ r, r < c → ld' r = ld r) (e2 : ld' c = i) : sm_RL m (i + 1) (c + 1) ld' := by
  refine ⟨fun r hr => ?_, fun r s hrs hs => ?_, fun j hj hf' => ?_⟩
  · rcases Nat.lt_or_ge r c with z | z
    · rw [e1 r z]; exact ⟨by have := (h.1 r z).1; omega, (h.1 r z).2⟩
    · have : r = c := by omega
      subst this
      rw [e2]; exact ⟨by omega, hf⟩
  · rcases Nat.lt_or_ge s c with z | z
    · rw [e1 r (by omega), e1 s z]; exact h.2.1 r s hrs z
    · have : s = c := by omega
      subst this
      rw [e2, e1 r hrs]; exact (h.1 r hrs).1
  · rcases Nat.lt_or_ge j i with z | z
    · obtain ⟨r, hr, e⟩ := h.2.2 j z hf'
      exact ⟨r, by omega, by rw [e1 r hr]; exact e⟩
    · exact ⟨c, by omega, by rw [e2]; omega⟩
theorem sm_RLs {m : sm_M} {i c : Nat} {ld : Nat → Nat} (h : sm_RL m i c ld) {i' : Nat} (hi : i ≤ i') (hf : ∀ j, i ≤ j → j < i' → ¬ sm_fm m j) : sm_RL m i' c ld :=
  ⟨fun r hr => ⟨by have := (h.1 r hr).1; omega, (h.1 r hr).2⟩, h.2.1, fun j hj hf' => by
    rcases Nat.lt_or_ge j i with z | z
    · exact h.2.2 j z hf'
    · exact absurd hf' (hf j z hj)⟩
theorem sm_sbs {m : sm_M} {i j : Nat} (h : sm_sb m i j) : sm_sb m j i := fun q hq => (h q hq).symm
theorem sm_sbt {m : sm_M} {i j k : Nat} (h : sm_sb m i j) (h' : sm_sb m j k) : sm_sb m i k := fun q hq => (h q hq).trans (h' q hq)
/-- every mover has a first one -/
theorem sm_first {m : sm_M} : ∀ (t j : Nat), j < t → sm_mj m j → ∃ i, i ≤ j ∧ sm_fm m i ∧ sm_sb m i j
  | 0, j, h, _ => by omega
  | t + 1, j, h, hj => by
    rcases Classical.em (∃ i, i < j ∧ sm_mj m i ∧ sm_sb m i j) with ⟨i, h1, h2, h3⟩ | hn
    · obtain ⟨i', g1, g2, g3⟩ := sm_first t i (by omega) h2
      exact ⟨i', by omega, g2, sm_sbt g3 h3⟩
    · exact ⟨j, Nat.le_refl _, ⟨hj, fun i h1 h2 h3 => hn ⟨i, h1, h2, h3⟩⟩, fun q _ => rfl⟩
theorem sm_RLm {m : sm_M} {i c : Nat} {ld : Nat → Nat} (h : sm_RL m i c ld) {j : Nat} (hj : j < i) (hm : sm_mj m j) : ∃ r, r < c ∧ sm_sb m (ld r) j := by
  obtain ⟨i', g1, g2, g3⟩ := sm_first (j + 1) j (by omega) hm
  obtain ⟨r, hr, e⟩ := h.2.2 i' (by omega) g2
  exact ⟨r, hr, by rw [e]; exact g3⟩
theorem sm_RLd {m : sm_M} {i c : Nat} {ld : Nat → Nat} (h : sm_RL m i c ld) {r s : Nat} (hr : r < c) (hs : s < c) (e : sm_sb m (ld r) (ld s)) : r = s := by
  rcases Nat.lt_trichotomy r s with z | z | z
  · exact absurd e ((h.1 s hs).2.2 (ld r) (h.2.1 r s z hs) (h.1 r hr).2.1)
  · exact z
  · exact absurd (sm_sbs e) ((h.1 r hr).2.2 (ld s) (h.2.1 s r z hr) (h.1 s hs).2.1)
/-- the new mover is a first one if no lead has its bar -/
theorem sm_RLf {m : sm_M} {i c : Nat} {ld : Nat → Nat} (h : sm_RL m i c ld) (hm : sm_mj m i) (hn : ∀ r, r < c → ¬ sm_sb m (ld r) i) : sm_fm m i :=
  ⟨hm, fun j hj hmj e => by
    obtain ⟨r, hr, e'⟩ := sm_RLm h hj hmj
    exact hn r hr (sm_sbt e' e)⟩
theorem sm_RLg {m : sm_M} {i c : Nat} {ld : Nat → Nat} (h : sm_RL m i c ld) {r : Nat} (hr : r < c) (e : sm_sb m (ld r) i) : ¬ sm_fm m i := fun hf =>
  hf.2 (ld r) (h.1 r hr).1 (h.1 r hr).2.1 e
theorem sm_RL15 {m : sm_M} (o : sm_ok m) {i c : Nat} {ld : Nat → Nat} (h : sm_RL m i c ld) : c ≤ 15 := by
  have o6 := o.1.2
  have key : ∀ r, ∃ j : Nat × Nat, r < c → j.1 ≠ ld r / 6 ∧ sm_mv m j.1 j.2 ∧ ∀ q, q < m.1 → sm_br m j.1 (j.2 + 1) q = sm_bj m (ld r) q := fun r => by
    by_cases hr : r < c
    · obtain ⟨p', k', h1, h2, h3⟩ := sm_two o (h.1 r hr).2.1
      exact ⟨(p', k'), fun _ => ⟨h1, h2, h3⟩⟩
    · exact ⟨(0, 0), fun z => absurd z hr⟩
  obtain ⟨g, hg⟩ := Classical.axiomOfChoice key
  have g1 : ∀ r, r < c → ld r % 6 < 5 ∧ ld r / 6 < 6 := fun r hr => by
    have a := sm_mvk (h.1 r hr).2.1
    have b := (h.1 r hr).2.1.1
    omega
  have g2 : ∀ r, r < c → (g r).2 < 5 ∧ (g r).1 < 6 := fun r hr => by
    have a := sm_mvk (hg r hr).2.1
    have b := (hg r hr).2.1.1
    omega
  have two : ∀ r s, r < c → s < c → (∀ q, q < m.1 → sm_bj m (ld r) q = sm_bj m (ld s) q) → r = s := fun r s hr hs e => sm_RLd h hr hs e
  have := ph_le (2 * c) 30 (fun i => if i % 2 = 0 then ld (i / 2) / 6 * 5 + ld (i / 2) % 6 else (g (i / 2)).1 * 5 + (g (i / 2)).2)
    (fun i hi => by
      have a := g1 (i / 2) (by omega)
      have b := g2 (i / 2) (by omega)
      show (if i % 2 = 0 then ld (i / 2) / 6 * 5 + ld (i / 2) % 6 else (g (i / 2)).1 * 5 + (g (i / 2)).2) < 30
      split <;> omega)
    (fun i j hi hj e => by
      have hr : i / 2 < c := by omega
      have hs : j / 2 < c := by omega
      have a1 := g1 (i / 2) hr
      have a2 := g2 (i / 2) hr
      have b1 := g1 (j / 2) hs
      have b2 := g2 (j / 2) hs
      have c1 := hg (i / 2) hr
      have c2 := hg (j / 2) hs
      have e' : (if i % 2 = 0 then ld (i / 2) / 6 * 5 + ld (i / 2) % 6 else (g (i / 2)).1 * 5 + (g (i / 2)).2) = (if j % 2 = 0 then ld (j / 2) / 6 * 5 + ld (j / 2) % 6 else (g (j / 2)).1 * 5 + (g (j / 2)).2) := e
      split at e' <;> split at e'
      · rename_i z1 z2
        have d1 : ld (i / 2) / 6 = ld (j / 2) / 6 := by omega
        have d2 : ld (i / 2) % 6 = ld (j / 2) % 6 := by omega
        have := two _ _ hr hs (fun q _ => by unfold sm_bj; rw [d1, d2])
        omega
      · rename_i z1 z2
        have d1 : ld (i / 2) / 6 = (g (j / 2)).1 := by omega
        have d2 : ld (i / 2) % 6 = (g (j / 2)).2 := by omega
        have := two _ _ hr hs (fun q hq => by rw [← c2.2.2 q hq, ← d1, ← d2]; rfl)
        rw [this] at d1
        exact absurd d1.symm c2.1
      · rename_i z1 z2
        have d1 : ld (j / 2) / 6 = (g (i / 2)).1 := by omega
        have d2 : ld (j / 2) % 6 = (g (i / 2)).2 := by omega
        have := two _ _ hs hr (fun q hq => by rw [← c1.2.2 q hq, ← d1, ← d2]; rfl)
        rw [this] at d1
        exact absurd d1.symm c1.1
      · rename_i z1 z2
        have d1 : (g (i / 2)).1 = (g (j / 2)).1 := by omega
        have d2 : (g (i / 2)).2 = (g (j / 2)).2 := by omega
        have := two _ _ hr hs (fun q hq => by rw [← c1.2.2 q hq, ← c2.2.2 q hq, d1, d2])
        omega)
  omega
theorem sm_RLu1 {m : sm_M} {i c c' : Nat} {ld ld' : Nat → Nat} (h : sm_RL m i c ld) (h' : sm_RL m i c' ld') : ∀ r, r < c → (r < c' ∧ ld r = ld' r) := by
  have key : ∀ t r, r < t → r < c → (r < c' ∧ ld r = ld' r) := by
    intro t
    induction t with
    | zero => intro r h1; omega
    | succ t ih =>
      intro r hrt hr
      obtain ⟨s, hs, e⟩ := h'.2.2 (ld r) (h.1 r hr).1 (h.1 r hr).2
      have s1 : ¬ s < r := fun z => by
        have a := ih s (by omega) (by omega)
        have b := h.2.1 s r z hr
        omega
      have s2 : ¬ r < s := fun z => by
        have hrc' : r < c' := by omega
        obtain ⟨x, hx, ex⟩ := h.2.2 (ld' r) (h'.1 r hrc').1 (h'.1 r hrc').2
        have l1 : ld' r < ld' s := h'.2.1 r s z hs
        have l2 : x < r := by
          rcases Nat.lt_trichotomy x r with y | y | y
          · exact y
          · subst y; omega
          · have := h.2.1 r x y hx; omega
        have a := ih x (by omega) hx
        have b := h'.2.1 x r l2 hrc'
        omega
      have : s = r := by omega
      subst this
      exact ⟨hs, e.symm⟩
  exact fun r hr => key (r + 1) r (by omega) hr
theorem sm_RLu {m : sm_M} {i c c' : Nat} {ld ld' : Nat → Nat} (h : sm_RL m i c ld) (h' : sm_RL m i c' ld') : c = c' ∧ ∀ r, r < c → ld r = ld' r := by
  have a := sm_RLu1 h h'
  have b := sm_RLu1 h' h
  refine ⟨?_, fun r hr => (a r hr).2⟩
  have h1 : ¬ c < c' := fun z => by have := (b c z).1; omega
  have h2 : ¬ c' < c := fun z => by have := (a c' z).1; omega
  omega
end
section
/-! leaves, telescoping totals, closed sets, the bound 600 -/
def sm_LV (m : sm_M) (i c : Nat) (ld : Nat → Nat) (lv : Nat → Nat → Nat) : Prop :=
  ∀ r q k, r < c → q < m.1 → (lv r q = k + 1 ↔ (q * 6 + k < i ∧ sm_mv m q k ∧ ∀ x, x < m.1 → sm_br m q (k + 1) x = sm_bj m (ld r) x))
theorem sm_bS {m : sm_M} (o : sm_ok m) {i c : Nat} {ld : Nat → Nat} (h : sm_RL m i c ld) {r : Nat} (hr : r < c) : sm_LB m (ld r / 6) (ld r % 6 + 1) (sm_bj m (ld r)) := sm_bjS o (h.1 r hr).2.1
theorem sm_Sle {m : sm_M} (o : sm_ok m) {i c : Nat} {ld : Nat → Nat} (h : sm_RL m i c ld) {r : Nat} (hr : r < c) {M : Nat → Nat} (hM : sm_St m M) : ld r % 6 < M (ld r / 6) ↔ sm_le m (sm_bj m (ld r)) M := by
  have hb := sm_bS o h hr
  constructor
  · intro z
    exact hb.2.2 M hM z
  · intro z
    have h1 := z _ (h.1 r hr).2.1.1
    have h2 := hb.2.1
    omega
theorem sm_Slv {m : sm_M} (o : sm_ok m) {i c : Nat} {ld : Nat → Nat} {lv : Nat → Nat → Nat} (h : sm_RL m i c ld) (hv : sm_LV m i c ld lv) {r q k : Nat} (hr : r < c) (hq : q < m.1) (e : lv r q = k + 1) {M : Nat → Nat} (hM : sm_St m M) : ld r % 6 < M (ld r / 6) ↔ k < M q := by
  rw [sm_Sle o h hr hM]
  obtain ⟨_, h2, h3⟩ := (hv r q k hr hq).mp e
  have hb := sm_mvL o h2
  constructor
  · intro z
    have h4 := z q hq
    rw [← h3 q hq] at h4
    have := hb.2.1
    omega
  · intro z x hx
    rw [← h3 x hx]
    exact hb.2.2 M hM z x hx
theorem sm_prev {m : sm_M} {q x : Nat} {y0 : Nat} (h0 : sm_oc m q y0) (hx : y0 < x) : ∃ y, y < x ∧ sm_oc m q y ∧ ∀ z, y < z → z < x → ¬ sm_oc m q z := by
  obtain ⟨y, ⟨h1, h2⟩, h3⟩ := mx_ex (P := fun y => y < x ∧ sm_oc m q y) (fun y => y) x (fun a ha => Nat.le_of_lt ha.1) x y0 ⟨hx, h0⟩ (by omega)
  exact ⟨y, h1, h2, fun z h4 h5 h6 => by have := h3 z ⟨h5, h6⟩; omega⟩
/-- a rank above the top's is some lead's bar, left from the rank before it -/
theorem sm_step {m : sm_M} (o : sm_ok m) {c : Nat} {ld : Nat → Nat} (h : sm_RL m 36 c ld) {q x : Nat} (hq : q < m.1) (hx : sm_oc m q x) (ht : sm_tp m q < x) :
    ∃ y r, y < x ∧ sm_oc m q y ∧ (∀ z, y < z → z < x → ¬ sm_oc m q z) ∧ sm_mv m q y ∧ r < c ∧ (∀ z, z < m.1 → sm_br m q (y + 1) z = sm_bj m (ld r) z) ∧ sm_bj m (ld r) q = x := by
  obtain ⟨y, h1, h2, h3⟩ := sm_prev ⟨_, (sm_tpS o).1, rfl⟩ ht
  obtain ⟨M, hM, eM⟩ := hx
  have mv : sm_mv m q y := ⟨hq, h2, M, hM, by omega⟩
  have k6 := sm_mvk mv
  have o6 := o.1.2
  have hy : y < 6 := by omega
  obtain ⟨r, hr, e⟩ := sm_RLm h (j := q * 6 + y) (by omega) ((sm_mjc hy).mpr mv)
  have e' : ∀ z, z < m.1 → sm_br m q (y + 1) z = sm_bj m (ld r) z := fun z hz => by
    have := e z hz
    rw [sm_bjc hy] at this
    exact this.symm
  refine ⟨y, r, h1, h2, h3, mv, hr, e', ?_⟩
  have hb := sm_mvL o mv
  have b1 := hb.2.2 M hM (by omega) q hq
  have b2 := hb.2.1
  rw [← e' q hq]
  apply Classical.byContradiction
  intro ne
  exact h3 _ (by omega) (by omega) ⟨_, hb.1, rfl⟩
theorem sm_tel1 {m : sm_M} (o : sm_ok m) {c : Nat} {ld : Nat → Nat} {lv : Nat → Nat → Nat} (h : sm_RL m 36 c ld) (hv : sm_LV m 36 c ld lv) {q : Nat} (hq : q < m.1) (w : Nat → Int) :
    ∀ t x, x < t → sm_oc m q x → w x = w (sm_tp m q) + zs_u (fun r => if lv r q ≠ 0 ∧ lv r q ≤ x then w (sm_bj m (ld r) q) - w (lv r q - 1) else 0) c := by
  intro t
  induction t with
  | zero => intro x hx; omega
  | succ t ih =>
    intro x hxt hx
    have lvs : ∀ r, r < c → lv r q ≠ 0 → ∃ k, lv r q = k + 1 ∧ sm_mv m q k ∧ ∀ z, z < m.1 → sm_br m q (k + 1) z = sm_bj m (ld r) z := fun r hr h0 => by
      obtain ⟨k, ek⟩ : ∃ k, lv r q = k + 1 := ⟨lv r q - 1, by omega⟩
      obtain ⟨_, h2, h3⟩ := (hv r q k hr hq).mp ek
      exact ⟨k, ek, h2, h3⟩
    have tl : ∀ k, sm_oc m q k → sm_tp m q ≤ k := fun k ⟨M, hM, e⟩ => by
      have := (sm_tpS o).2 M hM q hq
      omega
    have tx := tl x hx
    rcases Nat.lt_or_ge (sm_tp m q) x with z | z
    · obtain ⟨y, r0, h1, h2, h3, mv, hr0, e', ex⟩ := sm_step o h hq hx z
      have iy := ih y (by omega) h2
      have lv0 : lv r0 q = y + 1 := (hv r0 q y hr0 hq).mpr ⟨by have := sm_mvk mv; have := o.1.2; omega, mv, e'⟩
      have key := zs_1 (k := c) (q := r0) (f := fun r => if lv r q ≠ 0 ∧ lv r q ≤ x then w (sm_bj m (ld r) q) - w (lv r q - 1) else 0) (g := fun r => if lv r q ≠ 0 ∧ lv r q ≤ y then w (sm_bj m (ld r) q) - w (lv r q - 1) else 0) (d := w x - w y) hr0
        (fun r hr ne => by
          show (if lv r q ≠ 0 ∧ lv r q ≤ x then w (sm_bj m (ld r) q) - w (lv r q - 1) else 0) = (if lv r q ≠ 0 ∧ lv r q ≤ y then w (sm_bj m (ld r) q) - w (lv r q - 1) else 0)
          by_cases h0 : lv r q = 0
          · rw [if_neg (fun z => z.1 h0), if_neg (fun z => z.1 h0)]
          · obtain ⟨k, ek, mk, bk⟩ := lvs r hr h0
            have ky : k ≠ y := fun ey => ne (sm_RLd h hr hr0 fun z hz => by rw [← bk z hz, ← e' z hz, ey])
            by_cases c1 : k < y
            · rw [if_pos ⟨h0, by omega⟩, if_pos ⟨h0, by omega⟩]
            · have c2 : ¬ k < x := fun c2 => h3 k (by omega) c2 mk.2.1
              rw [if_neg (fun z => by omega), if_neg (fun z => by omega)])
        (by
          show (if lv r0 q ≠ 0 ∧ lv r0 q ≤ x then w (sm_bj m (ld r0) q) - w (lv r0 q - 1) else 0) = (if lv r0 q ≠ 0 ∧ lv r0 q ≤ y then w (sm_bj m (ld r0) q) - w (lv r0 q - 1) else 0) + (w x - w y)
          rw [lv0, if_pos ⟨by omega, by omega⟩, if_neg (fun z => by omega), ex, Nat.add_sub_cancel]
          omega)
      rw [key]
      omega
    · have e : x = sm_tp m q := by omega
      rw [zs_z (fun r hr => by
        show (if lv r q ≠ 0 ∧ lv r q ≤ x then w (sm_bj m (ld r) q) - w (lv r q - 1) else 0) = 0
        by_cases h0 : lv r q = 0
        · rw [if_neg (fun z => z.1 h0)]
        · obtain ⟨k, ek, mk, _⟩ := lvs r hr h0
          have := tl k mk.2.1
          rw [if_neg (fun z => by omega)]), e]
      omega
def sm_ch (m : sm_M) (w : Nat → Nat → Int) (b lv : Nat → Nat → Nat) (r : Nat) : Int := zs_u (fun q => if lv r q ≠ 0 then w q (b r q) - w q (lv r q - 1) else 0) m.1
theorem sm_tot {m : sm_M} (o : sm_ok m) {c : Nat} {ld : Nat → Nat} {lv : Nat → Nat → Nat} (h : sm_RL m 36 c ld) (hv : sm_LV m 36 c ld lv) (w : Nat → Nat → Int) {M : Nat → Nat} (hM : sm_St m M) :
    zs_u (fun q => w q (M q)) m.1 = zs_u (fun q => w q (sm_tp m q)) m.1 + zs_u (fun r => if ld r % 6 < M (ld r / 6) then sm_ch m w (fun r => sm_bj m (ld r)) lv r else 0) c := by
  have e1 : zs_u (fun q => w q (M q)) m.1 = zs_u (fun q => w q (sm_tp m q) + zs_u (fun r => if lv r q ≠ 0 ∧ lv r q ≤ M q then w q (sm_bj m (ld r) q) - w q (lv r q - 1) else 0) c) m.1 :=
    zs_cg fun q hq => sm_tel1 o h hv hq (w q) (M q + 1) (M q) (by omega) ⟨M, hM, rfl⟩
  rw [e1, zs_add, zs_sw (fun q r => if lv r q ≠ 0 ∧ lv r q ≤ M q then w q (sm_bj m (ld r) q) - w q (lv r q - 1) else 0)]
  congr 1
  apply zs_cg
  intro r hr
  by_cases z : ld r % 6 < M (ld r / 6)
  · rw [if_pos z]
    apply zs_cg
    intro q hq
    by_cases h0 : lv r q = 0
    · rw [if_neg (fun z => z.1 h0), if_neg (fun z => z h0)]
    · have ek : lv r q = (lv r q - 1) + 1 := by omega
      have := (sm_Slv o h hv hr hq ek hM).mp z
      rw [if_pos ⟨h0, by omega⟩, if_pos h0]
  · rw [if_neg z]
    apply zs_z
    intro q hq
    by_cases h0 : lv r q = 0
    · rw [if_neg (fun z => z.1 h0)]
    · have ek : lv r q = (lv r q - 1) + 1 := by omega
      have : ¬ lv r q - 1 < M q := fun y => z ((sm_Slv o h hv hr hq ek hM).mpr y)
      rw [if_neg (fun y => by omega)]
/-- the join of the bars of a set -/
theorem sm_jr1 {m : sm_M} (o : sm_ok m) {c : Nat} {ld : Nat → Nat} (h : sm_RL m 36 c ld) (R : Nat → Prop) : ∀ d, d ≤ c → ∃ M, sm_St m M ∧ (∀ r, r < d → R r → sm_le m (sm_bj m (ld r)) M) ∧
    (∀ N, sm_St m N → (∀ r, r < d → R r → sm_le m (sm_bj m (ld r)) N) → sm_le m M N) ∧ (∀ q, q < m.1 → M q = sm_tp m q ∨ ∃ r, r < d ∧ R r ∧ M q = sm_bj m (ld r) q) := by
  intro d
  induction d with
  | zero => exact fun _ => ⟨sm_tp m, (sm_tpS o).1, fun r hr => by omega, fun N hN _ => (sm_tpS o).2 N hN, fun q _ => Or.inl rfl⟩
  | succ d ih =>
    intro hd
    obtain ⟨M, h1, h2, h3, h4⟩ := ih (by omega)
    rcases Classical.em (R d) with hR | hR
    · refine ⟨fun q => max (M q) (sm_bj m (ld d) q), sm_join o h1 (sm_bS o h (r := d) (by omega)).1, fun r hr hR' q hq => ?_, fun N hN hl q hq => ?_, fun q hq => ?_⟩
      · rcases Nat.lt_or_ge r d with z | z
        · exact Nat.le_trans (h2 r z hR' q hq) (Nat.le_max_left _ _)
        · have : r = d := by omega
          subst this
          exact Nat.le_max_right _ _
      · exact Nat.max_le.mpr ⟨h3 N hN (fun r hr hR' => hl r (by omega) hR') q hq, hl d (by omega) hR q hq⟩
      · show max (M q) (sm_bj m (ld d) q) = sm_tp m q ∨ ∃ r, r < d + 1 ∧ R r ∧ max (M q) (sm_bj m (ld d) q) = sm_bj m (ld r) q
        rcases sm_mx (M q) (sm_bj m (ld d) q) with ⟨a, b⟩ | ⟨a, b⟩ <;> rw [a]
        · rcases h4 q hq with z | ⟨r, hr, hR', e⟩
          · exact Or.inl z
          · exact Or.inr ⟨r, by omega, hR', e⟩
        · exact Or.inr ⟨d, by omega, hR, rfl⟩
    · refine ⟨M, h1, fun r hr hR' => ?_, fun N hN hl => h3 N hN fun r hr hR' => hl r (by omega) hR', fun q hq => ?_⟩
      · rcases Nat.lt_or_ge r d with z | z
        · exact h2 r z hR'
        · have : r = d := by omega
          subst this
          exact absurd hR' hR
      · rcases h4 q hq with z | ⟨r, hr, hR', e⟩
        · exact Or.inl z
        · exact Or.inr ⟨r, by omega, hR', e⟩
def sm_cl (m : sm_M) (c : Nat) (ld : Nat → Nat) (R : Nat → Prop) : Prop := ∀ r s, r < c → s < c → R s → sm_le m (sm_bj m (ld r)) (sm_bj m (ld s)) → R r
theorem sm_jr {m : sm_M} (o : sm_ok m) {c : Nat} {ld : Nat → Nat} (h : sm_RL m 36 c ld) {R : Nat → Prop} (hc : sm_cl m c ld R) : ∃ M, sm_St m M ∧ (∀ r, r < c → (ld r % 6 < M (ld r / 6) ↔ R r)) ∧
    (∀ N, sm_St m N → (∀ r, r < c → R r → sm_le m (sm_bj m (ld r)) N) → sm_le m M N) := by
  obtain ⟨M, h1, h2, h3, h4⟩ := sm_jr1 o h R c (Nat.le_refl _)
  refine ⟨M, h1, fun r hr => ⟨fun z => ?_, fun hR => (sm_Sle o h hr h1).mpr (h2 r hr hR)⟩, h3⟩
  have mv := (h.1 r hr).2.1
  rcases h4 _ mv.1 with e | ⟨s, hs, hR, e⟩
  · obtain ⟨M0, hM0, e0⟩ := mv.2.1
    have := (sm_tpS o).2 M0 hM0 _ mv.1
    omega
  · exact hc r s hr hs hR ((sm_bS o h hr).2.2 _ (sm_bS o h hs).1 (by omega))
/-- the acceptors' part of the total falls -/
theorem sm_am {m : sm_M} (o : sm_ok m) (wa : Nat → Nat) {M N : Nat → Nat} (hM : sm_St m M) (hN : sm_St m N) (hl : sm_le m M N) :
    zs_u (fun q => ((wa (sm_l m q (N q)) * sm_ar m (sm_l m q (N q)) q : Nat) : Int)) m.1 ≤ zs_u (fun q => ((wa (sm_l m q (M q)) * sm_ar m (sm_l m q (M q)) q : Nat) : Int)) m.1 := by
  have ex : ∀ L, sm_St m L → zs_u (fun q => ((wa (sm_l m q (L q)) * sm_ar m (sm_l m q (L q)) q : Nat) : Int)) m.1 = zs_u (fun a => zs_u (fun q => if sm_h m L q = a then ((wa a * sm_ar m a q : Nat) : Int) else 0) m.1) m.1 := fun L hL => by
    rw [← zs_sw (fun q a => if sm_h m L q = a then ((wa a * sm_ar m a q : Nat) : Int) else 0)]
    apply zs_cg
    intro q hq
    rw [zs_one (q := sm_h m L q) (sm_hl o hq (hL.1 q hq)) (fun a _ ne => if_neg (fun z => ne z.symm)), if_pos rfl]
    rfl
  rw [ex M hM, ex N hN]
  apply zs_le
  intro a ha
  have one : ∀ L x, sm_St m L → x < m.1 → sm_h m L x = a → zs_u (fun q => if sm_h m L q = a then ((wa a * sm_ar m a q : Nat) : Int) else 0) m.1 = ((wa a * sm_ar m a x : Nat) : Int) := fun L x hL hx e => by
    rw [zs_one (q := x) hx (fun q hq ne => if_neg (fun z => ne (hL.2.1 q x hq hx (z.trans e.symm)))), if_pos e]
  obtain ⟨x, hx, e1⟩ := sm_sur o hN ha
  obtain ⟨y, hy, e2⟩ := sm_sur o hM ha
  rw [one N x hN hx e1, one M y hM hy e2]
  apply Int.ofNat_le.mpr
  apply Nat.mul_le_mul_left
  rcases Classical.em (x = y) with z | z
  · rw [z]; exact Nat.le_refl _
  · have r1 : sm_r m y a = M y := by rw [← e2]; exact sm_rh o hy (hM.1 y hy)
    have ne : M y ≠ N y := fun e => z (hN.2.1 x y hx hy (by
      rw [e1, ← e2]
      show sm_l m y (M y) = sm_l m y (N y)
      rw [e]))
    have := hl y hy
    have t := hN.2.2 y x hy hx (by rw [e1]; omega)
    rw [e1] at t
    exact t
def sm_wa (m : sm_M) (wa : Nat → Nat) (q k : Nat) : Int := ((wa (sm_l m q k) * sm_ar m (sm_l m q k) q : Nat) : Int)
def sm_wf (m : sm_M) (wp wa : Nat → Nat) (q k : Nat) : Int := ((wp q * k + wa (sm_l m q k) * sm_ar m (sm_l m q k) q : Nat) : Int)
theorem sm_can {m : sm_M} (o : sm_ok m) {c : Nat} {ld : Nat → Nat} {lv : Nat → Nat → Nat} (h : sm_RL m 36 c ld) (hv : sm_LV m 36 c ld lv) (wa : Nat → Nat) {r : Nat} (hr : r < c) : sm_ch m (sm_wa m wa) (fun r => sm_bj m (ld r)) lv r ≤ 0 := by
  have hb := sm_bS o h hr
  obtain ⟨M, h1, h2, h3⟩ := sm_jr o h (R := fun s => sm_le m (sm_bj m (ld s)) (sm_bj m (ld r)) ∧ s ≠ r) (fun s t hs ht hR hl => ⟨fun q hq => Nat.le_trans (hl q hq) (hR.1 q hq), fun e => by
    subst e
    exact hR.2 (sm_RLd h ht hs fun q hq => Nat.le_antisymm (hR.1 q hq) (hl q hq))⟩)
  have a := sm_tot o h hv (sm_wa m wa) hb.1
  have b := sm_tot o h hv (sm_wa m wa) h1
  have l1 := sm_am o wa h1 hb.1 (h3 _ hb.1 fun s _ hR => hR.1)
  have l2 : zs_u (fun q => sm_wa m wa q (sm_bj m (ld r) q)) m.1 ≤ zs_u (fun q => sm_wa m wa q (M q)) m.1 := l1
  have key := zs_1 (k := c) (q := r) (f := fun s => if ld s % 6 < sm_bj m (ld r) (ld s / 6) then sm_ch m (sm_wa m wa) (fun r => sm_bj m (ld r)) lv s else 0) (g := fun s => if ld s % 6 < M (ld s / 6) then sm_ch m (sm_wa m wa) (fun r => sm_bj m (ld r)) lv s else 0) (d := sm_ch m (sm_wa m wa) (fun r => sm_bj m (ld r)) lv r) hr
    (fun s hs ne => by
      show (if ld s % 6 < sm_bj m (ld r) (ld s / 6) then sm_ch m (sm_wa m wa) (fun r => sm_bj m (ld r)) lv s else 0) = (if ld s % 6 < M (ld s / 6) then sm_ch m (sm_wa m wa) (fun r => sm_bj m (ld r)) lv s else 0)
      by_cases z : ld s % 6 < sm_bj m (ld r) (ld s / 6)
      · rw [if_pos z, if_pos ((h2 s hs).mpr ⟨(sm_Sle o h hs hb.1).mp z, ne⟩)]
      · rw [if_neg z, if_neg (fun y => z ((sm_Sle o h hs hb.1).mpr ((h2 s hs).mp y).1))])
    (by
      show (if ld r % 6 < sm_bj m (ld r) (ld r / 6) then sm_ch m (sm_wa m wa) (fun r => sm_bj m (ld r)) lv r else 0) = (if ld r % 6 < M (ld r / 6) then sm_ch m (sm_wa m wa) (fun r => sm_bj m (ld r)) lv r else 0) + sm_ch m (sm_wa m wa) (fun r => sm_bj m (ld r)) lv r
      rw [if_pos (by have := hb.2.1; omega), if_neg (fun y => ((h2 r hr).mp y).2 rfl)]
      omega)
  omega
theorem sm_600 {m : sm_M} (o : sm_ok m) {c : Nat} {ld : Nat → Nat} {lv : Nat → Nat → Nat} (h : sm_RL m 36 c ld) (hv : sm_LV m 36 c ld lv) {wp wa : Nat → Nat} (hw : ∀ a, wa a ≤ 20) :
    zs_u (fun r => if sm_ch m (sm_wf m wp wa) (fun r => sm_bj m (ld r)) lv r < 0 then - sm_ch m (sm_wf m wp wa) (fun r => sm_bj m (ld r)) lv r else 0) c ≤ 600 := by
  have o6 := o.1.2
  obtain ⟨M, h1, h2, _⟩ := sm_jr o h (R := fun _ => True) (fun _ _ _ _ _ _ => trivial)
  have b := sm_tot o h hv (sm_wa m wa) h1
  have nn : 0 ≤ zs_u (fun q => sm_wa m wa q (M q)) m.1 := zs_nn fun q _ => Int.natCast_nonneg _
  have up : zs_u (fun q => sm_wa m wa q (sm_tp m q)) m.1 ≤ m.1 * 100 := zs_b fun q hq => by
    show ((wa (sm_l m q (sm_tp m q)) * sm_ar m (sm_l m q (sm_tp m q)) q : Nat) : Int) ≤ 100
    have t := (sm_tpS o).1
    have a1 := hw (sm_l m q (sm_tp m q))
    have a2 := (o.2.2.2.2 (sm_l m q (sm_tp m q)) q (sm_hl o hq (t.1 q hq)) hq).1
    have a3 : wa (sm_l m q (sm_tp m q)) * sm_ar m (sm_l m q (sm_tp m q)) q ≤ 20 * 5 := Nat.mul_le_mul a1 (by omega)
    omega
  have e : zs_u (fun r => if ld r % 6 < M (ld r / 6) then sm_ch m (sm_wa m wa) (fun r => sm_bj m (ld r)) lv r else 0) c = zs_u (fun r => sm_ch m (sm_wa m wa) (fun r => sm_bj m (ld r)) lv r) c :=
    zs_cg fun r hr => if_pos ((h2 r hr).mpr trivial)
  have le : zs_u (fun r => if sm_ch m (sm_wf m wp wa) (fun r => sm_bj m (ld r)) lv r < 0 then - sm_ch m (sm_wf m wp wa) (fun r => sm_bj m (ld r)) lv r else 0) c ≤ zs_u (fun r => 0 - sm_ch m (sm_wa m wa) (fun r => sm_bj m (ld r)) lv r) c := by
    apply zs_le
    intro r hr
    have c1 := sm_can o h hv wa hr
    have c2 : sm_ch m (sm_wa m wa) (fun r => sm_bj m (ld r)) lv r ≤ sm_ch m (sm_wf m wp wa) (fun r => sm_bj m (ld r)) lv r := by
      apply zs_le
      intro q hq
      by_cases h0 : lv r q = 0
      · rw [if_neg (fun z => z h0), if_neg (fun z => z h0)]
        exact Int.le_refl _
      · rw [if_pos h0, if_pos h0]
        obtain ⟨k, ek⟩ : ∃ k, lv r q = k + 1 := ⟨lv r q - 1, by omega⟩
        obtain ⟨_, g2, g3⟩ := (hv r q k hr hq).mp ek
        have g4 := (sm_mvL o g2).2.1
        rw [g3 q hq] at g4
        have g5 : wp q * (lv r q - 1) ≤ wp q * sm_bj m (ld r) q := Nat.mul_le_mul_left _ (by omega)
        show ((wa (sm_l m q (sm_bj m (ld r) q)) * sm_ar m (sm_l m q (sm_bj m (ld r) q)) q : Nat) : Int) - ((wa (sm_l m q (lv r q - 1)) * sm_ar m (sm_l m q (lv r q - 1)) q : Nat) : Int) ≤ ((wp q * sm_bj m (ld r) q + wa (sm_l m q (sm_bj m (ld r) q)) * sm_ar m (sm_l m q (sm_bj m (ld r) q)) q : Nat) : Int) - ((wp q * (lv r q - 1) + wa (sm_l m q (lv r q - 1)) * sm_ar m (sm_l m q (lv r q - 1)) q : Nat) : Int)
        rw [Int.natCast_add, Int.natCast_add]
        have g6 : ((wp q * (lv r q - 1) : Nat) : Int) ≤ ((wp q * sm_bj m (ld r) q : Nat) : Int) := Int.ofNat_le.mpr g5
        omega
    show (if sm_ch m (sm_wf m wp wa) (fun r => sm_bj m (ld r)) lv r < 0 then - sm_ch m (sm_wf m wp wa) (fun r => sm_bj m (ld r)) lv r else 0) ≤ 0 - sm_ch m (sm_wa m wa) (fun r => sm_bj m (ld r)) lv r
    split <;> omega
  rw [zs_sub, zs_0] at le
  have e2 : zs_u (sm_ch m (sm_wa m wa) (fun r => sm_bj m (ld r)) lv) c = zs_u (fun r => if ld r % 6 < M (ld r / 6) then sm_ch m (sm_wa m wa) (fun r => sm_bj m (ld r)) lv r else 0) c := e.symm
  omega
end
section
/-! flow on 17 nodes: cuts, the search tree, the push along a path -/
theorem zs_ex {f : Nat → Int} {c : Nat} : ∀ {k : Nat}, c ≤ k → (∀ i, c ≤ i → i < k → f i = 0) → zs_u f k = zs_u f c
  | 0, h, _ => by
    have : c = 0 := by omega
    rw [this]
  | k + 1, h, hz => by
    rcases Nat.lt_or_ge k c with z | z
    · have : c = k + 1 := by omega
      rw [this]
    · show zs_u f k + f k = zs_u f c
      rw [hz k z (by omega), zs_ex z (fun i h1 h2 => hz i h1 (by omega))]
      omega
theorem zs_nz {f : Nat → Int} : ∀ {k : Nat}, (∀ i, i < k → 0 ≤ f i) → zs_u f k ≤ 0 → ∀ i, i < k → f i = 0
  | 0, _, _, i, hi => by omega
  | k + 1, h, e, i, hi => by
    have e' : zs_u f k + f k ≤ 0 := e
    have a := zs_nn (f := f) (k := k) (fun i hi => h i (by omega))
    have b := h k (by omega)
    rcases Nat.lt_or_ge i k with z | z
    · exact zs_nz (fun i hi => h i (by omega)) (by omega) i z
    · have : i = k := by omega
      subst this
      omega
theorem zs_mem {f : Nat → Int} {k : Nat} (h : ∀ i, i < k → 0 ≤ f i) {i : Nat} (hi : i < k) : f i ≤ zs_u f k := by
  have a := zs_le (f := fun j => if j = i then f i else 0) (g := f) (k := k) (fun j hj => by
    show (if j = i then f i else 0) ≤ f j
    by_cases e : j = i
    · rw [if_pos e, e]; exact Int.le_refl _
    · rw [if_neg e]; exact h j hj)
  rw [zs_one hi (fun j _ ne => if_neg ne), if_pos rfl] at a
  exact a
def fl_I (κ ρ : Nat → Nat) (F : Int) : Prop :=
  (∀ u v, u < 17 → v < 17 → ρ (u * 17 + v) + ρ (v * 17 + u) = κ (u * 17 + v) + κ (v * 17 + u)) ∧
  (∀ x, x < 15 → zs_u (fun u => (ρ (x * 17 + u) : Int)) 17 = zs_u (fun u => (κ (x * 17 + u) : Int)) 17) ∧
  zs_u (fun u => (ρ (15 * 17 + u) : Int)) 17 + F = zs_u (fun u => (κ (15 * 17 + u) : Int)) 17
def fl_cut (κ : Nat → Nat) (T : Nat → Bool) : Int := zs_u (fun u => zs_u (fun v => if T u = true ∧ T v = false then (κ (u * 17 + v) : Int) else 0) 17) 17
theorem fl_anti {g : Nat → Nat → Int} {k : Nat} (h : ∀ u v, u < k → v < k → g u v = - g v u) : zs_u (fun u => zs_u (fun v => g u v) k) k = 0 := by
  have a := zs_sw g k k
  have b : zs_u (fun u => zs_u (fun v => g u v) k) k = zs_u (fun u => 0 - zs_u (fun v => g v u) k) k := zs_cg fun u hu => by
    show zs_u (fun v => g u v) k = 0 - zs_u (fun v => g v u) k
    rw [← zs_0 k, ← zs_sub]
    exact zs_cg fun v hv => by rw [h u v hu hv]; omega
  rw [zs_sub, zs_0] at b
  omega
theorem fl_eq {κ ρ : Nat → Nat} {F : Int} (h : fl_I κ ρ F) {T : Nat → Bool} (h1 : T 15 = true) (h2 : T 16 = false) : fl_cut κ T = F + fl_cut ρ T := by
  have a : zs_u (fun u => if T u = true then zs_u (fun v => (κ (u * 17 + v) : Int) - (ρ (u * 17 + v) : Int)) 17 else 0) 17 = F := by
    rw [zs_one (q := 15) (by omega) (fun u hu ne => by
      show (if T u = true then zs_u (fun v => (κ (u * 17 + v) : Int) - (ρ (u * 17 + v) : Int)) 17 else 0) = 0
      by_cases z : T u = true
      · rw [if_pos z, zs_sub]
        have : u ≠ 16 := fun e => by rw [e, h2] at z; exact Bool.noConfusion z
        rw [h.2.1 u (by omega)]
        omega
      · rw [if_neg z]), if_pos h1, zs_sub]
    have := h.2.2
    omega
  have b : zs_u (fun u => if T u = true then zs_u (fun v => (κ (u * 17 + v) : Int) - (ρ (u * 17 + v) : Int)) 17 else 0) 17 = zs_u (fun u => (zs_u (fun v => if T u = true ∧ T v = false then (κ (u * 17 + v) : Int) else 0) 17 - zs_u (fun v => if T u = true ∧ T v = false then (ρ (u * 17 + v) : Int) else 0) 17) + zs_u (fun v => if T u = true ∧ T v = true then (κ (u * 17 + v) : Int) - (ρ (u * 17 + v) : Int) else 0) 17) 17 := zs_cg fun u _ => by
    show (if T u = true then zs_u (fun v => (κ (u * 17 + v) : Int) - (ρ (u * 17 + v) : Int)) 17 else 0) = (zs_u (fun v => if T u = true ∧ T v = false then (κ (u * 17 + v) : Int) else 0) 17 - zs_u (fun v => if T u = true ∧ T v = false then (ρ (u * 17 + v) : Int) else 0) 17) + zs_u (fun v => if T u = true ∧ T v = true then (κ (u * 17 + v) : Int) - (ρ (u * 17 + v) : Int) else 0) 17
    rw [← zs_sub, ← zs_add]
    by_cases z : T u = true
    · rw [if_pos z]
      apply zs_cg
      intro v _
      cases hv : T v
      · rw [if_pos ⟨z, rfl⟩, if_pos ⟨z, rfl⟩, if_neg (fun y => Bool.noConfusion y.2)]
        omega
      · rw [if_neg (fun y => Bool.noConfusion y.2), if_neg (fun y => Bool.noConfusion y.2), if_pos ⟨z, rfl⟩]
        omega
    · rw [if_neg z]
      refine (zs_z fun v _ => ?_).symm
      rw [if_neg (fun y => z y.1), if_neg (fun y => z y.1), if_neg (fun y => z y.1)]
      rfl
  rw [zs_add, zs_sub] at b
  have c : zs_u (fun u => zs_u (fun v => if T u = true ∧ T v = true then (κ (u * 17 + v) : Int) - (ρ (u * 17 + v) : Int) else 0) 17) 17 = 0 := fl_anti (g := fun u v => if T u = true ∧ T v = true then (κ (u * 17 + v) : Int) - (ρ (u * 17 + v) : Int) else 0) fun u v hu hv => by
    show (if T u = true ∧ T v = true then (κ (u * 17 + v) : Int) - (ρ (u * 17 + v) : Int) else 0) = - (if T v = true ∧ T u = true then (κ (v * 17 + u) : Int) - (ρ (v * 17 + u) : Int) else 0)
    by_cases z : T u = true ∧ T v = true
    · rw [if_pos z, if_pos ⟨z.2, z.1⟩]
      have := h.1 u v hu hv
      omega
    · rw [if_neg z, if_neg (fun y => z ⟨y.2, y.1⟩)]
      rfl
  unfold fl_cut
  omega
theorem fl_nn (κ : Nat → Nat) (T : Nat → Bool) : 0 ≤ fl_cut κ T := zs_nn fun u _ => zs_nn fun v _ => by
  show 0 ≤ (if T u = true ∧ T v = false then (κ (u * 17 + v) : Int) else 0)
  split
  · exact Int.natCast_nonneg _
  · exact Int.le_refl _
theorem fl_mem (κ : Nat → Nat) (T : Nat → Bool) {u v : Nat} (hu : u < 17) (hv : v < 17) (h1 : T u = true) (h2 : T v = false) : (κ (u * 17 + v) : Int) ≤ fl_cut κ T := by
  have nn : ∀ u v, 0 ≤ (if T u = true ∧ T v = false then (κ (u * 17 + v) : Int) else 0) := fun u v => by
    split
    · exact Int.natCast_nonneg _
    · exact Int.le_refl _
  have a := zs_mem (f := fun v => if T u = true ∧ T v = false then (κ (u * 17 + v) : Int) else 0) (k := 17) (fun v _ => nn u v) hv
  have b := zs_mem (f := fun u => zs_u (fun v => if T u = true ∧ T v = false then (κ (u * 17 + v) : Int) else 0) 17) (k := 17) (fun u _ => zs_nn fun v _ => nn u v) hu
  have a' : (if T u = true ∧ T v = false then (κ (u * 17 + v) : Int) else 0) ≤ zs_u (fun v => if T u = true ∧ T v = false then (κ (u * 17 + v) : Int) else 0) 17 := a
  rw [if_pos ⟨h1, h2⟩] at a'
  exact Int.le_trans a' b
theorem fl_0 {ρ : Nat → Nat} {T : Nat → Bool} (h : ∀ u v, u < 17 → v < 17 → T u = true → T v = false → ρ (u * 17 + v) = 0) : fl_cut ρ T = 0 := zs_z fun u hu => zs_z fun v hv => by
  show (if T u = true ∧ T v = false then (ρ (u * 17 + v) : Int) else 0) = 0
  split
  · rename_i z
    rw [h u v hu hv z.1 z.2]
    rfl
  · rfl
/-- the search: P is parent + 1 (0: none), Q the queue -/
def fl_B (ρ P Q : Nat → Nat) (fil : Nat) : Prop :=
  1 ≤ fil ∧ Q 0 = 15 ∧ P 15 = 16 ∧ (∀ i, i < fil → Q i < 17) ∧ (∀ i j, i < fil → j < fil → Q i = Q j → i = j) ∧
  (∀ v, v < 17 → (P v ≠ 0 ↔ ∃ i, i < fil ∧ Q i = v)) ∧
  (∀ i, 0 < i → i < fil → ∃ j, j < i ∧ P (Q i) = Q j + 1 ∧ 0 < ρ (Q j * 17 + Q i))
def nu_u (f : Nat → Nat) (k x : Nat) : Nat → Nat := fun i => if i = k then x else f i
theorem nu_s {f : Nat → Nat} {k x : Nat} : nu_u f k x k = x := if_pos rfl
theorem nu_n {f : Nat → Nat} {k x i : Nat} (h : i ≠ k) : nu_u f k x i = f i := if_neg h
theorem fl_B0 {ρ P Q : Nat → Nat} (h : ∀ v, v < 17 → P v = 0) : fl_B ρ (nu_u P 15 16) (nu_u Q 0 15) 1 := by
  refine ⟨Nat.le_refl _, nu_s, nu_s, fun i hi => ?_, fun i j hi hj _ => by omega, fun v hv => ⟨fun z => ?_, fun ⟨i, hi, e⟩ => ?_⟩, fun i h1 h2 => by omega⟩
  · have : i = 0 := by omega
    subst this
    rw [nu_s]; omega
  · by_cases e : v = 15
    · exact ⟨0, by omega, by rw [nu_s, e]⟩
    · rw [nu_n e] at z
      exact absurd (h v hv) z
  · have : i = 0 := by omega
    subst this
    rw [nu_s] at e
    rw [← e, nu_s]; omega
theorem fl_B17 {ρ P Q : Nat → Nat} {fil : Nat} (h : fl_B ρ P Q fil) : fil ≤ 17 := ph_le fil 17 Q h.2.2.2.1 h.2.2.2.2.1
theorem fl_Bl {ρ P Q : Nat → Nat} {fil v : Nat} (h : fl_B ρ P Q fil) (hv : v < 17) (hP : P v = 0) : fil < 17 := by
  have ne : ∀ i, i < fil → Q i ≠ v := fun i hi e => (h.2.2.2.2.2.1 v hv).mpr ⟨i, hi, e⟩ hP
  have := ph_le (fil + 1) 17 (fun i => if i < fil then Q i else v)
    (fun i hi => by
      show (if i < fil then Q i else v) < 17
      split
      · exact h.2.2.2.1 i (by assumption)
      · exact hv)
    (fun i j hi hj e => by
      have e' : (if i < fil then Q i else v) = (if j < fil then Q j else v) := e
      split at e' <;> split at e'
      · exact h.2.2.2.2.1 i j (by assumption) (by assumption) e'
      · exact absurd e' (ne i (by assumption))
      · exact absurd e'.symm (ne j (by assumption))
      · omega)
  omega
theorem fl_Ba {ρ P Q : Nat → Nat} {fil v hd : Nat} (h : fl_B ρ P Q fil) (hh : hd < fil) (hv : v < 17) (hP : P v = 0) (hr : 0 < ρ (Q hd * 17 + v)) : fl_B ρ (nu_u P v (Q hd + 1)) (nu_u Q fil v) (fil + 1) := by
  obtain ⟨h1, h2, h3, h4, h5, h6, h7⟩ := h
  have ne : ∀ i, i < fil → Q i ≠ v := fun i hi e => (h6 v hv).mpr ⟨i, hi, e⟩ hP
  have v15 : v ≠ 15 := fun e => by rw [e] at hP; omega
  have qn : ∀ i, i < fil → nu_u Q fil v i = Q i := fun i hi => nu_n (by omega)
  refine ⟨by omega, by rw [qn 0 h1]; exact h2, by rw [nu_n (fun e => v15 e.symm)]; exact h3, fun i hi => ?_, fun i j hi hj e => ?_, fun x hx => ?_, fun i i1 i2 => ?_⟩
  · rcases Nat.lt_or_ge i fil with z | z
    · rw [qn i z]; exact h4 i z
    · have : i = fil := by omega
      rw [this, nu_s]; exact hv
  · rcases Nat.lt_or_ge i fil with z | z <;> rcases Nat.lt_or_ge j fil with y | y
    · rw [qn i z, qn j y] at e
      exact h5 i j z y e
    · have : j = fil := by omega
      rw [qn i z, this, nu_s] at e
      exact absurd e (ne i z)
    · have : i = fil := by omega
      rw [qn j y, this, nu_s] at e
      exact absurd e.symm (ne j y)
    · omega
  · by_cases e : x = v
    · rw [e, nu_s]
      exact ⟨fun _ => ⟨fil, by omega, nu_s⟩, fun _ => by omega⟩
    · rw [nu_n e, h6 x hx]
      constructor
      · rintro ⟨i, hi, ei⟩
        exact ⟨i, by omega, by rw [qn i hi]; exact ei⟩
      · rintro ⟨i, hi, ei⟩
        rcases Nat.lt_or_ge i fil with z | z
        · exact ⟨i, z, by rw [← qn i z]; exact ei⟩
        · have : i = fil := by omega
          rw [this, nu_s] at ei
          exact absurd ei.symm e
  · rcases Nat.lt_or_ge i fil with z | z
    · obtain ⟨j, j1, j2, j3⟩ := h7 i i1 z
      refine ⟨j, j1, ?_, ?_⟩
      · rw [qn i z, qn j (by omega), nu_n (ne i z)]; exact j2
      · rw [qn i z, qn j (by omega)]; exact j3
    · have e : i = fil := by omega
      refine ⟨hd, by omega, ?_, ?_⟩
      · rw [e, nu_s, nu_s, qn hd hh]
      · rw [e, nu_s, qn hd hh]; exact hr
/-- the path from a queued node back to 15 -/
def fl_pa (ρ P : Nat → Nat) (x L : Nat) (v : Nat → Nat) : Prop :=
  v 0 = x ∧ v L = 15 ∧ (∀ s, s < L → v s ≠ 15) ∧ (∀ s, s ≤ L → v s < 17) ∧ (∀ s, s < L → P (v s) = v (s + 1) + 1 ∧ 0 < ρ (v (s + 1) * 17 + v s)) ∧ (∀ s t, s < t → t ≤ L → v s ≠ v t)
theorem fl_pax {ρ P Q : Nat → Nat} {fil : Nat} (h : fl_B ρ P Q fil) : ∀ i, i < fil → ∃ L v, fl_pa ρ P (Q i) L v ∧ ∀ s, s ≤ L → ∃ k, k + s ≤ i ∧ v s = Q k := by
  have key : ∀ t i, i < t → i < fil → ∃ L v, fl_pa ρ P (Q i) L v ∧ ∀ s, s ≤ L → ∃ k, k + s ≤ i ∧ v s = Q k := by
    intro t
    induction t with
    | zero => intro i hi; omega
    | succ t ih =>
      intro i hit hi
      rcases Nat.eq_zero_or_pos i with z | z
      · subst z
        refine ⟨0, fun _ => 15, ⟨h.2.1.symm, rfl, fun s hs => by omega, fun s _ => by show 15 < 17; omega, fun s hs => by omega, fun s t _ _ => by omega⟩, fun s hs => ⟨0, by omega, h.2.1.symm⟩⟩
      · obtain ⟨j, j1, j2, j3⟩ := h.2.2.2.2.2.2 i z hi
        obtain ⟨L, v, ⟨p1, p2, p3, p4, p5, p6⟩, p7⟩ := ih j (by omega) (by omega)
        have n15 : Q i ≠ 15 := fun e => by
          have := h.2.2.2.2.1 i 0 hi (by omega) (e.trans h.2.1.symm)
          omega
        refine ⟨L + 1, fun s => if s = 0 then Q i else v (s - 1), ⟨rfl, ?_, fun s hs => ?_, fun s hs => ?_, fun s hs => ?_, fun s t st tl => ?_⟩, fun s hs => ?_⟩
        · show (if L + 1 = 0 then Q i else v (L + 1 - 1)) = 15
          rw [if_neg (by omega)]; exact p2
        · show (if s = 0 then Q i else v (s - 1)) ≠ 15
          by_cases e : s = 0
          · rw [if_pos e]; exact n15
          · rw [if_neg e]; exact p3 (s - 1) (by omega)
        · show (if s = 0 then Q i else v (s - 1)) < 17
          by_cases e : s = 0
          · rw [if_pos e]; exact h.2.2.2.1 i hi
          · rw [if_neg e]; exact p4 (s - 1) (by omega)
        · show P (if s = 0 then Q i else v (s - 1)) = (if s + 1 = 0 then Q i else v (s + 1 - 1)) + 1 ∧ 0 < ρ ((if s + 1 = 0 then Q i else v (s + 1 - 1)) * 17 + (if s = 0 then Q i else v (s - 1)))
          by_cases e : s = 0
          · subst e
            rw [if_pos rfl, if_neg (by omega), show 0 + 1 - 1 = 0 from rfl, p1]
            exact ⟨j2, j3⟩
          · rw [if_neg e, if_neg (by omega), Nat.add_sub_cancel]
            have := p5 (s - 1) (by omega)
            rw [Nat.sub_add_cancel (by omega)] at this
            exact this
        · show (if s = 0 then Q i else v (s - 1)) ≠ (if t = 0 then Q i else v (t - 1))
          rw [if_neg (show ¬ t = 0 by omega)]
          by_cases e : s = 0
          · rw [if_pos e]
            intro e2
            obtain ⟨k, k1, k2⟩ := p7 (t - 1) (by omega)
            have := h.2.2.2.2.1 i k hi (by omega) (e2.trans k2)
            omega
          · rw [if_neg e]; exact p6 (s - 1) (t - 1) (by omega) (by omega)
        · show ∃ k, k + s ≤ i ∧ (if s = 0 then Q i else v (s - 1)) = Q k
          by_cases e : s = 0
          · rw [if_pos e]; exact ⟨i, by omega, rfl⟩
          · rw [if_neg e]
            obtain ⟨k, k1, k2⟩ := p7 (s - 1) (by omega)
            exact ⟨k, by omega, k2⟩
  exact fun i hi => key (i + 1) i (by omega) hi
theorem fl_path {ρ P Q : Nat → Nat} {fil : Nat} (h : fl_B ρ P Q fil) (h16 : P 16 ≠ 0) : ∃ L v, L ≤ 16 ∧ fl_pa ρ P 16 L v := by
  obtain ⟨i, hi, e⟩ := (h.2.2.2.2.2.1 16 (by omega)).mp h16
  obtain ⟨L, v, p, p7⟩ := fl_pax h i hi
  rw [e] at p
  obtain ⟨k, k1, _⟩ := p7 L (Nat.le_refl _)
  have := fl_B17 h
  exact ⟨L, v, by omega, p⟩
/-- the push after s edges -/
def fl_ps (ρ ρ' : Nat → Nat) (L a : Nat) (v : Nat → Nat) (s : Nat) : Prop :=
  (∀ t, s ≤ t → t < L → ρ' (v (t + 1) * 17 + v t) = ρ (v (t + 1) * 17 + v t)) ∧
  (∀ x y, x < 17 → y < 17 → ρ' (x * 17 + y) + ρ' (y * 17 + x) = ρ (x * 17 + y) + ρ (y * 17 + x)) ∧
  (∀ x, x < 17 → zs_u (fun u => (ρ' (x * 17 + u) : Int)) 17 = zs_u (fun u => (ρ (x * 17 + u) : Int)) 17 + (if x = 16 then (a : Int) else 0) - (if x = v s then (a : Int) else 0))
theorem fl_ps0 {ρ : Nat → Nat} {L a : Nat} {v : Nat → Nat} (h : v 0 = 16) : fl_ps ρ ρ L a v 0 := ⟨fun _ _ _ => rfl, fun _ _ _ _ => rfl, fun x _ => by rw [h]; omega⟩
theorem fl_ix {a b c d : Nat} (hb : b < 17) (hd : d < 17) (h : a * 17 + b = c * 17 + d) : a = c ∧ b = d := by omega
theorem fl_psS {ρ ρ' P : Nat → Nat} {L a : Nat} {v : Nat → Nat} {s : Nat} (p : fl_pa ρ P 16 L v) (h : fl_ps ρ ρ' L a v s) (hs : s < L) (ha : a ≤ ρ (v (s + 1) * 17 + v s)) :
    fl_ps ρ (nu_u (nu_u ρ' (v (s + 1) * 17 + v s) (ρ' (v (s + 1) * 17 + v s) - a)) (v s * 17 + v (s + 1)) (nu_u ρ' (v (s + 1) * 17 + v s) (ρ' (v (s + 1) * 17 + v s) - a) (v s * 17 + v (s + 1)) + a)) L a v (s + 1) := by
  obtain ⟨p1, p2, p3, p4, p5, p6⟩ := p
  obtain ⟨h1, h2, h3⟩ := h
  have lu := p4 (s + 1) (by omega)
  have lv := p4 s (by omega)
  have ne : v s ≠ v (s + 1) := p6 s (s + 1) (by omega) (by omega)
  have e0 := h1 s (Nat.le_refl _) hs
  generalize hx : v (s + 1) = x at *
  generalize hy : v s = y at *
  have nn : y * 17 + x ≠ x * 17 + y := fun z => ne (fl_ix lu lv z).1
  rw [nu_n nn]
  have at1 : nu_u (nu_u ρ' (x * 17 + y) (ρ' (x * 17 + y) - a)) (y * 17 + x) (ρ' (y * 17 + x) + a) (x * 17 + y) = ρ' (x * 17 + y) - a := by rw [nu_n (fun z => nn z.symm), nu_s]
  have at2 : nu_u (nu_u ρ' (x * 17 + y) (ρ' (x * 17 + y) - a)) (y * 17 + x) (ρ' (y * 17 + x) + a) (y * 17 + x) = ρ' (y * 17 + x) + a := nu_s
  have at3 : ∀ i, i ≠ x * 17 + y → i ≠ y * 17 + x → nu_u (nu_u ρ' (x * 17 + y) (ρ' (x * 17 + y) - a)) (y * 17 + x) (ρ' (y * 17 + x) + a) i = ρ' i := fun i i1 i2 => by rw [nu_n i2, nu_n i1]
  generalize nu_u (nu_u ρ' (x * 17 + y) (ρ' (x * 17 + y) - a)) (y * 17 + x) (ρ' (y * 17 + x) + a) = ρ'' at at1 at2 at3
  refine ⟨fun t t1 t2 => ?_, fun c d hc hd => ?_, fun c hc => ?_⟩
  · have l1 := p4 t (by omega)
    have l2 := p4 (t + 1) (by omega)
    have n1 : y ≠ v t := by rw [← hy]; exact p6 s t (by omega) (by omega)
    have n2 : y ≠ v (t + 1) := by rw [← hy]; exact p6 s (t + 1) (by omega) (by omega)
    rw [at3 _ (fun z => n1 (fl_ix l1 lv z).2.symm) (fun z => n2 (fl_ix l1 lu z).1.symm)]
    exact h1 t (by omega) t2
  · have b := h2 c d hc hd
    by_cases c1 : c = x ∧ d = y
    · rw [c1.1, c1.2] at b ⊢
      rw [at1, at2]
      omega
    · by_cases c2 : c = y ∧ d = x
      · rw [c2.1, c2.2] at b ⊢
        rw [at1, at2]
        omega
      · rw [at3 _ (fun z => c1 (fl_ix hd lv z)) (fun z => c2 (fl_ix hd lu z)), at3 _ (fun z => c2 ⟨(fl_ix hc lv z).2, (fl_ix hc lv z).1⟩) (fun z => c1 ⟨(fl_ix hc lu z).2, (fl_ix hc lu z).1⟩)]
        exact b
  · have b := h3 c hc
    rw [hx]
    by_cases c1 : c = x
    · have q := zs_1 (k := 17) (q := y) (f := fun u => (ρ'' (c * 17 + u) : Int)) (g := fun u => (ρ' (c * 17 + u) : Int)) (d := - (a : Int)) lv
        (fun u hu nu => by
          show (ρ'' (c * 17 + u) : Int) = (ρ' (c * 17 + u) : Int)
          rw [at3 _ (fun z => nu (fl_ix hu lv z).2) (fun z => ne ((fl_ix hu lu z).1.symm.trans c1))])
        (by
          show (ρ'' (c * 17 + y) : Int) = (ρ' (c * 17 + y) : Int) + - (a : Int)
          rw [c1, at1]
          omega)
      rw [q, b, if_pos c1, if_neg (show ¬ c = y from fun z => ne (z.symm.trans c1))]
      omega
    · by_cases c2 : c = y
      · have q := zs_1 (k := 17) (q := x) (f := fun u => (ρ'' (c * 17 + u) : Int)) (g := fun u => (ρ' (c * 17 + u) : Int)) (d := (a : Int)) lu
          (fun u hu nu => by
            show (ρ'' (c * 17 + u) : Int) = (ρ' (c * 17 + u) : Int)
            rw [at3 _ (fun z => c1 (fl_ix hu lv z).1) (fun z => nu (fl_ix hu lu z).2)])
          (by
            show (ρ'' (c * 17 + x) : Int) = (ρ' (c * 17 + x) : Int) + (a : Int)
            rw [c2, at2]
            omega)
        rw [q, b, if_neg c1, if_pos c2]
        omega
      · rw [if_neg c2] at b
        rw [if_neg c1, ← b]
        apply zs_cg
        intro u hu
        rw [at3 _ (fun z => c1 (fl_ix hu lv z).1) (fun z => c2 (fl_ix hu lu z).1)]
theorem fl_psE {κ ρ ρ' P : Nat → Nat} {F : Int} {L a : Nat} {v : Nat → Nat} (p : fl_pa ρ P 16 L v) (h : fl_ps ρ ρ' L a v L) (hI : fl_I κ ρ F) : fl_I κ ρ' (F + a) := by
  obtain ⟨_, h2, h3⟩ := h
  refine ⟨fun u w hu hw => (h2 u w hu hw).trans (hI.1 u w hu hw), fun x hx => ?_, ?_⟩
  · rw [h3 x (by omega), p.2.1, if_neg (by omega), if_neg (by omega), ← hI.2.1 x hx]
    omega
  · rw [h3 15 (by omega), p.2.1, if_neg (by omega), if_pos rfl, ← hI.2.2]
    omega
/-- the end: no path -/
theorem fl_end {κ ρ P Q : Nat → Nat} {F : Int} {fil : Nat} (hI : fl_I κ ρ F) (hB : fl_B ρ P Q fil) (hs : ∀ i, i < fil → ∀ v, v < 17 → 0 < ρ (Q i * 17 + v) → P v ≠ 0) (h16 : P 16 = 0) :
    fl_cut κ (fun v => !(P v == 0)) = F ∧ ∀ T : Nat → Bool, T 15 = true → T 16 = false → F ≤ fl_cut κ T ∧ (fl_cut κ T ≤ F → ∀ v, v < 17 → P v ≠ 0 → T v = true) := by
  have bT : ∀ v, (!(P v == 0)) = true ↔ P v ≠ 0 := fun v => by simp
  have bF : ∀ v, (!(P v == 0)) = false ↔ P v = 0 := fun v => by simp
  refine ⟨?_, fun T t1 t2 => ⟨?_, fun le v hv hP => ?_⟩⟩
  · rw [fl_eq hI ((bT 15).mpr (by rw [hB.2.2.1]; omega)) ((bF 16).mpr h16), fl_0 (ρ := ρ) (fun u v hu hv z1 z2 => ?_)]
    · omega
    · obtain ⟨i, hi, e⟩ := (hB.2.2.2.2.2.1 u hu).mp ((bT u).mp z1)
      rcases Nat.eq_zero_or_pos (ρ (u * 17 + v)) with z | z
      · exact z
      · rw [← e] at z
        exact absurd ((bF v).mp z2) (hs i hi v hv z)
  · have a := fl_eq hI t1 t2
    have b := fl_nn ρ T
    omega
  · have a := fl_eq hI t1 t2
    have key : ∀ t i, i < t → i < fil → T (Q i) = true := by
      intro t
      induction t with
      | zero => intro i hi; omega
      | succ t ih =>
        intro i hit hi
        rcases Nat.eq_zero_or_pos i with z | z
        · rw [z, hB.2.1]; exact t1
        · obtain ⟨j, j1, _, j3⟩ := hB.2.2.2.2.2.2 i z hi
          have tj := ih j (by omega) (by omega)
          cases hT : T (Q i)
          · have := fl_mem ρ T (hB.2.2.2.1 j (by omega)) (hB.2.2.2.1 i hi) tj hT
            omega
          · rfl
    obtain ⟨i, hi, e⟩ := (hB.2.2.2.2.2.1 v hv).mp hP
    rw [← e]
    exact key (i + 1) i (by omega) hi
end
section
/-! row codes, the enumeration of stable rows, at most 720 of them -/
def en_c (n : Nat) (M : Nat → Nat) : Nat → Nat
  | 0 => 0
  | j + 1 => en_c n M j * n + M j
theorem en_cg {n : Nat} {M N : Nat → Nat} : ∀ {j : Nat}, (∀ i, i < j → M i = N i) → en_c n M j = en_c n N j
  | 0, _ => rfl
  | j + 1, h => by
    show en_c n M j * n + M j = en_c n N j * n + N j
    rw [en_cg (j := j) (fun i hi => h i (by omega)), h j (by omega)]
theorem en_lt {n : Nat} {M : Nat → Nat} : ∀ {j : Nat}, (∀ i, i < j → M i < n) → en_c n M j < n ^ j
  | 0, _ => by simp [en_c]
  | j + 1, h => by
    show en_c n M j * n + M j < n ^ (j + 1)
    have a := en_lt (n := n) (M := M) (j := j) (fun i hi => h i (by omega))
    have b := h j (by omega)
    have c : (en_c n M j + 1) * n ≤ n ^ j * n := Nat.mul_le_mul_right n a
    rw [Nat.pow_succ]
    rw [Nat.add_mul, Nat.one_mul] at c
    omega
theorem en_dm {n a x b y : Nat} (hx : x < n) (hy : y < n) (h : a * n + x = b * n + y) : a = b ∧ x = y := by
  have e1 : (a * n + x) / n = a := by
    rw [Nat.mul_comm, Nat.mul_add_div (by omega), Nat.div_eq_of_lt hx, Nat.add_zero]
  have e2 : (b * n + y) / n = b := by
    rw [Nat.mul_comm, Nat.mul_add_div (by omega), Nat.div_eq_of_lt hy, Nat.add_zero]
  have e3 : a = b := by rw [← e1, ← e2, h]
  subst e3
  exact ⟨rfl, by omega⟩
theorem en_inj {n : Nat} {M N : Nat → Nat} : ∀ {j : Nat}, (∀ i, i < j → M i < n) → (∀ i, i < j → N i < n) → en_c n M j = en_c n N j → ∀ i, i < j → M i = N i
  | 0, _, _, _, i, hi => by omega
  | j + 1, h1, h2, e, i, hi => by
    have e' : en_c n M j * n + M j = en_c n N j * n + N j := e
    obtain ⟨a, b⟩ := en_dm (h1 j (by omega)) (h2 j (by omega)) e'
    rcases Nat.lt_or_ge i j with z | z
    · exact en_inj (j := j) (fun i hi => h1 i (by omega)) (fun i hi => h2 i (by omega)) a i z
    · have : i = j := by omega
      rw [this]; exact b
theorem en_mono {n : Nat} {M N : Nat → Nat} : ∀ {j : Nat}, (∀ i, i < j → M i ≤ N i) → en_c n M j ≤ en_c n N j
  | 0, _ => Nat.le_refl _
  | j + 1, h => by
    show en_c n M j * n + M j ≤ en_c n N j * n + N j
    have a := Nat.mul_le_mul_right n (en_mono (n := n) (M := M) (N := N) (j := j) (fun i hi => h i (by omega)))
    have b := h j (by omega)
    omega
/-- the next row -/
theorem en_next {n p : Nat} {M N : Nat → Nat} (h1 : ∀ i, i < p → N i = M i) (h2 : N p = M p + 1) (h3 : ∀ i, p < i → N i = 0 ∧ M i + 1 = n) : ∀ d, en_c n N (p + 1 + d) = en_c n M (p + 1 + d) + 1
  | 0 => by
    show en_c n N p * n + N p = en_c n M p * n + M p + 1
    rw [en_cg (j := p) h1, h2]
    omega
  | d + 1 => by
    show en_c n N (p + 1 + d) * n + N (p + 1 + d) = en_c n M (p + 1 + d) * n + M (p + 1 + d) + 1
    have a := h3 (p + 1 + d) (by omega)
    rw [en_next h1 h2 h3 d, a.1, Nat.add_mul, Nat.one_mul]
    omega
theorem en_full {n : Nat} {M : Nat → Nat} : ∀ {j : Nat}, (∀ i, i < j → M i + 1 = n) → en_c n M j + 1 = n ^ j
  | 0, _ => rfl
  | j + 1, h => by
    show en_c n M j * n + M j + 1 = n ^ (j + 1)
    have a := en_full (j := j) (fun i hi => h i (by omega))
    have b := h j (by omega)
    rw [Nat.pow_succ, ← a, Nat.add_mul, Nat.one_mul]
    omega
theorem en_z {n : Nat} {M : Nat → Nat} : ∀ {j : Nat}, (∀ i, i < j → M i = 0) → en_c n M j = 0
  | 0, _ => rfl
  | j + 1, h => by
    show en_c n M j * n + M j = 0
    rw [en_z (j := j) (fun i hi => h i (by omega)), h j (by omega)]
    omega
/-- distinct digits, from the right -/
def en_ok (n : Nat) : Nat → Nat → List Nat → Bool
  | 0, _, _ => true
  | k + 1, c, s => (!(s.elem (c % n))) && en_ok n k (c / n) ((c % n) :: s)
theorem en_okT {n : Nat} {M : Nat → Nat} : ∀ (k : Nat) (s : List Nat), (∀ i, i < k → M i < n) → (∀ i, i < k → M i ∉ s) → (∀ i j, i < k → j < k → M i = M j → i = j) → en_ok n k (en_c n M k) s = true
  | 0, _, _, _, _ => rfl
  | k + 1, s, h1, h2, h3 => by
    have hk := h1 k (by omega)
    have e1 : (en_c n M k * n + M k) % n = M k := by
      rw [Nat.mul_comm, Nat.mul_add_mod, Nat.mod_eq_of_lt hk]
    have e2 : (en_c n M k * n + M k) / n = en_c n M k := by
      rw [Nat.mul_comm, Nat.mul_add_div (by omega), Nat.div_eq_of_lt hk, Nat.add_zero]
    show ((!(s.elem ((en_c n M k * n + M k) % n))) && en_ok n k ((en_c n M k * n + M k) / n) (((en_c n M k * n + M k) % n) :: s)) = true
    rw [e1, e2, en_okT k (M k :: s) (fun i hi => h1 i (by omega)) (fun i hi hm => by
      rcases List.mem_cons.mp hm with z | z
      · have := h3 i k (by omega) (by omega) z
        omega
      · exact h2 i (by omega) z) (fun i j hi hj e => h3 i j (by omega) (by omega) e), Bool.and_true]
    have : s.elem (M k) = false := by
      cases hc : s.elem (M k)
      · rfl
      · exact absurd (List.elem_iff.mp hc) (h2 k (by omega))
    rw [this]
    rfl
def en_n (P : Nat → Bool) : Nat → Nat
  | 0 => 0
  | c + 1 => en_n P c + (P c).toNat
theorem en_nm {P : Nat → Bool} {a : Nat} : ∀ {b : Nat}, a ≤ b → en_n P a ≤ en_n P b
  | 0, h => by
    have : a = 0 := by omega
    rw [this]; exact Nat.le_refl _
  | b + 1, h => by
    rcases Nat.lt_or_ge a (b + 1) with z | z
    · exact Nat.le_trans (en_nm (b := b) (by omega)) (Nat.le_add_right _ _)
    · have : a = b + 1 := by omega
      rw [this]; exact Nat.le_refl _
theorem en_ns {P : Nat → Bool} {a b : Nat} (h : a < b) (hP : P a = true) : en_n P a < en_n P b := by
  have h1 := en_nm (P := P) (a := a + 1) (b := b) h
  have h2 : en_n P (a + 1) = en_n P a + 1 := by
    show en_n P a + (P a).toNat = en_n P a + 1
    rw [hP]; rfl
  omega
def en_b (P : Nat → Bool) : Nat → Nat → Nat
  | 0, a => (P a).toNat
  | k + 1, a => en_b P k a + en_b P k (a + 2 ^ k)
theorem en_be (P : Nat → Bool) : ∀ k a, en_n P (a + 2 ^ k) = en_n P a + en_b P k a
  | 0, a => rfl
  | k + 1, a => by
    show en_n P (a + 2 ^ (k + 1)) = en_n P a + (en_b P k a + en_b P k (a + 2 ^ k))
    rw [Nat.pow_succ, Nat.mul_two, ← Nat.add_assoc, en_be P k (a + 2 ^ k), en_be P k a, Nat.add_assoc]
def en_P (n c : Nat) : Bool := Nat.blt c (n ^ n) && en_ok n n c []
set_option maxRecDepth 100000 in
theorem en_t6 : en_b (en_P 6) 16 0 = 720 := by decide +kernel
theorem en_t5 : en_b (en_P 5) 12 0 = 120 := by decide +kernel
theorem en_t4 : en_b (en_P 4) 8 0 = 24 := by decide +kernel
theorem en_t3 : en_b (en_P 3) 5 0 = 6 := by decide +kernel
theorem en_t2 : en_b (en_P 2) 2 0 = 2 := by decide +kernel
theorem en_t1 : en_b (en_P 1) 0 0 = 1 := by decide +kernel
theorem en_top {n k t : Nat} (ht : en_b (en_P n) k 0 = t) (hk : n ^ n ≤ 2 ^ k) : en_n (en_P n) (n ^ n) ≤ t := by
  have a := en_be (en_P n) k 0
  have b := en_nm (P := en_P n) hk
  rw [Nat.zero_add, ht] at a
  have c : en_n (en_P n) 0 = 0 := rfl
  omega
theorem en_720 {n : Nat} (h1 : 1 ≤ n) (h6 : n ≤ 6) : en_n (en_P n) (n ^ n) ≤ 720 := by
  have : n = 1 ∨ n = 2 ∨ n = 3 ∨ n = 4 ∨ n = 5 ∨ n = 6 := by omega
  rcases this with e | e | e | e | e | e <;> subst e
  · exact Nat.le_trans (en_top en_t1 (by decide)) (by decide)
  · exact Nat.le_trans (en_top en_t2 (by decide)) (by decide)
  · exact Nat.le_trans (en_top en_t3 (by decide)) (by decide)
  · exact Nat.le_trans (en_top en_t4 (by decide)) (by decide)
  · exact Nat.le_trans (en_top en_t5 (by decide)) (by decide)
  · exact en_top en_t6 (by decide)
/-- stable rows with different codes are at most 720 -/
theorem en_cnt {m : sm_M} (o : sm_ok m) {k : Nat} {F : Nat → Nat → Nat} (hF : ∀ i, i < k → sm_St m (F i)) (hd : ∀ i j, i < k → j < k → (∀ q, q < m.1 → F i q = F j q) → i = j) : k ≤ 720 := by
  have hl : ∀ i, i < k → ∀ q, q < m.1 → sm_h m (F i) q < m.1 := fun i hi q hq => sm_hl o hq ((hF i hi).1 q hq)
  have c1 : ∀ i, i < k → en_c m.1 (sm_h m (F i)) m.1 < m.1 ^ m.1 := fun i hi => en_lt (hl i hi)
  have cp : ∀ i, i < k → en_P m.1 (en_c m.1 (sm_h m (F i)) m.1) = true := fun i hi => by
    unfold en_P
    rw [en_okT m.1 [] (hl i hi) (fun _ _ z => by cases z) (fun a b ha hb e => (hF i hi).2.1 a b ha hb e), Bool.and_true]
    exact Nat.blt_eq.mpr (c1 i hi)
  refine ph_le k 720 (fun i => en_n (en_P m.1) (en_c m.1 (sm_h m (F i)) m.1)) (fun i hi => ?_) (fun i j hi hj e => ?_)
  · exact Nat.lt_of_lt_of_le (en_ns (c1 i hi) (cp i hi)) (en_720 o.1.1 o.1.2)
  · have ec : en_c m.1 (sm_h m (F i)) m.1 = en_c m.1 (sm_h m (F j)) m.1 := by
      rcases Nat.lt_trichotomy (en_c m.1 (sm_h m (F i)) m.1) (en_c m.1 (sm_h m (F j)) m.1) with z | z | z
      · have := en_ns z (cp i hi)
        have e' : en_n (en_P m.1) (en_c m.1 (sm_h m (F i)) m.1) = en_n (en_P m.1) (en_c m.1 (sm_h m (F j)) m.1) := e
        omega
      · exact z
      · have := en_ns z (cp j hj)
        have e' : en_n (en_P m.1) (en_c m.1 (sm_h m (F i)) m.1) = en_n (en_P m.1) (en_c m.1 (sm_h m (F j)) m.1) := e
        omega
    apply hd i j hi hj
    intro q hq
    have := en_inj (hl i hi) (hl j hj) ec q hq
    exact sm_li o hq ((hF i hi).1 q hq) ((hF j hj).1 q hq) this
/-- the table of the stable rows with codes below c -/
def en_F (m : sm_M) (c cnt : Nat) (F : Nat → Nat → Nat) : Prop :=
  (∀ i, i < cnt → sm_St m (F i) ∧ en_c m.1 (F i) m.1 < c) ∧ (∀ i j, i < j → j < cnt → en_c m.1 (F i) m.1 < en_c m.1 (F j) m.1) ∧
  (∀ M, sm_St m M → en_c m.1 M m.1 < c → ∃ i, i < cnt ∧ ∀ q, q < m.1 → F i q = M q)
theorem en_F0 {m : sm_M} {F : Nat → Nat → Nat} : en_F m 0 0 F := ⟨fun i hi => by omega, fun i j _ hj => by omega, fun M _ h => by omega⟩
theorem en_Fs {m : sm_M} {c cnt : Nat} {F : Nat → Nat → Nat} (h : en_F m c cnt F) {R : Nat → Nat} (hR : ∀ q, q < m.1 → R q < m.1) (hc : en_c m.1 R m.1 = c) (hn : ¬ sm_St m R) : en_F m (c + 1) cnt F :=
  ⟨fun i hi => ⟨(h.1 i hi).1, by have := (h.1 i hi).2; omega⟩, h.2.1, fun M hM hl => by
    rcases Nat.lt_or_ge (en_c m.1 M m.1) c with z | z
    · exact h.2.2 M hM z
    · exact absurd (sm_cg (en_inj hM.1 hR (by omega)) hM) hn⟩
theorem en_Fn {m : sm_M} {c cnt : Nat} {F : Nat → Nat → Nat} (h : en_F m c cnt F) {R : Nat → Nat} (hc : en_c m.1 R m.1 = c) (hR : sm_St m R) {G : Nat → Nat → Nat} (g1 : ∀ i, i < cnt → ∀ q, q < m.1 → G i q = F i q) (g2 : ∀ q, q < m.1 → G cnt q = R q) : en_F m (c + 1) (cnt + 1) G := by
  have e1 : ∀ i, i < cnt → en_c m.1 (G i) m.1 = en_c m.1 (F i) m.1 := fun i hi => en_cg (g1 i hi)
  have e2 : en_c m.1 (G cnt) m.1 = c := (en_cg g2).trans hc
  refine ⟨fun i hi => ?_, fun i j hij hj => ?_, fun M hM hl => ?_⟩
  · rcases Nat.lt_or_ge i cnt with z | z
    · exact ⟨sm_cg (fun q hq => (g1 i z q hq).symm) (h.1 i z).1, by rw [e1 i z]; have := (h.1 i z).2; omega⟩
    · have : i = cnt := by omega
      subst this
      exact ⟨sm_cg (fun q hq => (g2 q hq).symm) hR, by omega⟩
  · rcases Nat.lt_or_ge j cnt with z | z
    · rw [e1 i (by omega), e1 j z]; exact h.2.1 i j hij z
    · have : j = cnt := by omega
      subst this
      rw [e1 i hij, e2]; exact (h.1 i hij).2
  · rcases Nat.lt_or_ge (en_c m.1 M m.1) c with z | z
    · obtain ⟨i, hi, e⟩ := h.2.2 M hM z
      exact ⟨i, by omega, fun q hq => (g1 i hi q hq).trans (e q hq)⟩
    · exact ⟨cnt, by omega, fun q hq => by rw [g2 q hq]; exact (en_inj hM.1 hR.1 (by omega) q hq).symm⟩
theorem en_Fi {m : sm_M} {c cnt : Nat} {F : Nat → Nat → Nat} (h : en_F m c cnt F) {i j : Nat} (hi : i < cnt) (hj : j < cnt) (e : ∀ q, q < m.1 → F i q = F j q) : i = j := by
  have ec := en_cg (n := m.1) (j := m.1) e
  rcases Nat.lt_trichotomy i j with z | z | z
  · have := h.2.1 i j z hj; omega
  · exact z
  · have := h.2.1 j i z hi; omega
theorem en_Fc {m : sm_M} (o : sm_ok m) {c cnt : Nat} {F : Nat → Nat → Nat} (h : en_F m c cnt F) : cnt ≤ 720 := en_cnt o (fun i hi => (h.1 i hi).1) fun _ _ hi hj e => en_Fi h hi hj e
theorem en_Fl {m : sm_M} (o : sm_ok m) {c cnt : Nat} {F : Nat → Nat → Nat} (h : en_F m c cnt F) {R : Nat → Nat} (hc : en_c m.1 R m.1 = c) (hR : sm_St m R) : cnt < 720 := by
  have := en_Fc o (en_Fn h hc hR (G := fun i => if i = cnt then R else F i) (fun i hi q _ => by show (if i = cnt then R else F i) q = F i q; rw [if_neg (by omega)]) (fun q _ => by show (if cnt = cnt then R else F cnt) q = R q; rw [if_pos rfl]))
  omega
/-- the least entry at q among the rows of the table with K at most at p -/
def en_lw (n : Nat) (F : Nat → Nat → Nat) (p K q : Nat) : Nat → Nat
  | 0 => n
  | c + 1 => if K ≤ F c p ∧ F c q < en_lw n F p K q c then F c q else en_lw n F p K q c
theorem en_lwS {m : sm_M} (o : sm_ok m) {F : Nat → Nat → Nat} {p K : Nat} (hp : p < m.1) : ∀ (c : Nat), (∀ i, i < c → sm_St m (F i)) →
    ((∀ i, i < c → F i p < K) ∧ ∀ q, q < m.1 → en_lw m.1 F p K q c = m.1) ∨ (sm_St m (fun q => en_lw m.1 F p K q c) ∧ K ≤ en_lw m.1 F p K p c ∧ ∀ i, i < c → K ≤ F i p → ∀ q, q < m.1 → en_lw m.1 F p K q c ≤ F i q)
  | 0, _ => Or.inl ⟨fun i hi => by omega, fun _ _ => rfl⟩
  | c + 1, hF => by
    have hS := hF c (by omega)
    have st : ∀ q, en_lw m.1 F p K q (c + 1) = if K ≤ F c p ∧ F c q < en_lw m.1 F p K q c then F c q else en_lw m.1 F p K q c := fun q => rfl
    rcases Nat.lt_or_ge (F c p) K with z | z
    · have e : ∀ q, en_lw m.1 F p K q (c + 1) = en_lw m.1 F p K q c := fun q => by rw [st q, if_neg (fun y => by omega)]
      rcases en_lwS o hp c (fun i hi => hF i (by omega)) with h | h
      · exact Or.inl ⟨fun i hi => by
          rcases Nat.lt_or_ge i c with y | y
          · exact h.1 i y
          · have : i = c := by omega
            rw [this]; exact z, fun q hq => by rw [e q]; exact h.2 q hq⟩
      · refine Or.inr ⟨sm_cg (fun q _ => (e q).symm) h.1, by rw [e p]; exact h.2.1, fun i hi hK q hq => ?_⟩
        rw [e q]
        rcases Nat.lt_or_ge i c with y | y
        · exact h.2.2 i y hK q hq
        · have : i = c := by omega
          rw [this] at hK; omega
    · right
      rcases en_lwS o hp c (fun i hi => hF i (by omega)) with h | h
      · have e : ∀ q, q < m.1 → en_lw m.1 F p K q (c + 1) = F c q := fun q hq => by
          rw [st q, if_pos ⟨z, by rw [h.2 q hq]; exact hS.1 q hq⟩]
        refine ⟨sm_cg (fun q hq => (e q hq).symm) hS, by rw [e p hp]; exact z, fun i hi hK q hq => ?_⟩
        rw [e q hq]
        rcases Nat.lt_or_ge i c with y | y
        · have := h.1 i y; omega
        · have : i = c := by omega
          rw [this]; exact Nat.le_refl _
      · have e : ∀ q, en_lw m.1 F p K q (c + 1) = min (en_lw m.1 F p K q c) (F c q) := fun q => by
          rw [st q]
          by_cases y : F c q < en_lw m.1 F p K q c
          · rw [if_pos ⟨z, y⟩]; omega
          · rw [if_neg (fun x => y x.2)]; omega
        refine ⟨sm_cg (fun q _ => (e q).symm) (sm_meet o h.1 hS), by rw [e p]; have := h.2.1; omega, fun i hi hK q hq => ?_⟩
        rw [e q]
        rcases Nat.lt_or_ge i c with y | y
        · have := h.2.2 i y hK q hq; omega
        · have : i = c := by omega
          rw [this]; omega
/-- over the whole table it is the least row -/
theorem en_lwB {m : sm_M} (o : sm_ok m) {cnt : Nat} {F : Nat → Nat → Nat} (h : en_F m (m.1 ^ m.1) cnt F) {p K q : Nat} (hp : p < m.1) (hq : q < m.1) : en_lw m.1 F p K q cnt = sm_br m p K q := by
  have all : ∀ M, sm_St m M → ∃ i, i < cnt ∧ ∀ q, q < m.1 → F i q = M q := fun M hM => h.2.2 M hM (en_lt hM.1)
  rcases en_lwS o hp cnt (K := K) (fun i hi => (h.1 i hi).1) with g | g
  · rw [g.2 q hq]
    exact (sm_brn o hp (fun M hM => by
      obtain ⟨i, hi, e⟩ := all M hM
      rw [← e p hp]
      exact g.1 i hi) q).symm
  · refine sm_LBu (p := p) (K := K) (B := fun q => en_lw m.1 F p K q cnt) ⟨g.1, g.2.1, fun M hM hK x hx => ?_⟩ (sm_brl o hp g.1 g.2.1) q hq
    obtain ⟨i, hi, e⟩ := all M hM
    show en_lw m.1 F p K x cnt ≤ M x
    rw [← e x hx]
    exact g.2.2 i hi (by rw [e p hp]; exact hK) x hx
end
section
/-! the network's cuts and the first least row -/
def op_K (c : Nat) (D : Nat → Int) (od : Nat → Nat → Prop) (κ : Nat → Nat) : Prop :=
  (∀ r, r < c → (κ (15 * 17 + r) : Int) = if D r < 0 then - D r else 0) ∧ (∀ r, r < c → (κ (r * 17 + 16) : Int) = if D r < 0 then 0 else D r) ∧
  (∀ s r, s < c → r < c → s ≠ r → (od r s → κ (s * 17 + r) = 1000000) ∧ (¬ od r s → κ (s * 17 + r) = 0)) ∧
  (∀ u v, u < 17 → v < 17 → ¬ (u = 15 ∧ v < c) → ¬ (v = 16 ∧ u < c) → ¬ (u < c ∧ v < c ∧ u ≠ v) → κ (u * 17 + v) = 0)
theorem op_cut {c : Nat} {D : Nat → Int} {od : Nat → Nat → Prop} {κ : Nat → Nat} (h : op_K c D od κ) (hc : c ≤ 15) {T : Nat → Bool} (h15 : T 15 = true) (h16 : T 16 = false) (hcl : ∀ s r, s < c → r < c → T s = true → T r = false → ¬ od r s) :
    fl_cut κ T = zs_u (fun r => if D r < 0 then - D r else 0) c + zs_u (fun r => if T r = true then D r else 0) c := by
  obtain ⟨k1, k2, k3, k4⟩ := h
  have z1 : κ (15 * 17 + 16) = 0 := k4 15 16 (by omega) (by omega) (by omega) (by omega) (by omega)
  have pt : fl_cut κ T = zs_u (fun u => zs_u (fun v => (if u = 15 then (if T v = false then (κ (15 * 17 + v) : Int) else 0) else 0) + (if v = 16 then (if T u = true then (κ (u * 17 + 16) : Int) else 0) else 0)) 17) 17 := zs_cg fun u hu => zs_cg fun v hv => by
    show (if T u = true ∧ T v = false then (κ (u * 17 + v) : Int) else 0) = (if u = 15 then (if T v = false then (κ (15 * 17 + v) : Int) else 0) else 0) + (if v = 16 then (if T u = true then (κ (u * 17 + 16) : Int) else 0) else 0)
    by_cases e1 : u = 15
    · subst e1
      rw [if_pos rfl]
      by_cases e2 : v = 16
      · subst e2
        rw [if_pos rfl, if_pos ⟨h15, h16⟩, if_pos h16, if_pos h15, z1]
        rfl
      · rw [if_neg e2]
        by_cases z : T v = false
        · rw [if_pos ⟨h15, z⟩, if_pos z]; omega
        · rw [if_neg (fun y => z y.2), if_neg z]; rfl
    · rw [if_neg e1]
      by_cases e2 : v = 16
      · subst e2
        rw [if_pos rfl]
        by_cases z : T u = true
        · rw [if_pos ⟨z, h16⟩, if_pos z]; omega
        · rw [if_neg (fun y => z y.1), if_neg z]; rfl
      · rw [if_neg e2]
        by_cases z : T u = true ∧ T v = false
        · rw [if_pos z]
          have : κ (u * 17 + v) = 0 := by
            by_cases y : u < c ∧ v < c ∧ u ≠ v
            · exact (k3 u v y.1 y.2.1 y.2.2).2 (hcl u v y.1 y.2.1 z.1 z.2)
            · exact k4 u v hu hv (fun x => e1 x.1) (fun x => e2 x.1) y
          rw [this]; rfl
        · rw [if_neg z]; rfl
  have sp : zs_u (fun u => zs_u (fun v => (if u = 15 then (if T v = false then (κ (15 * 17 + v) : Int) else 0) else 0) + (if v = 16 then (if T u = true then (κ (u * 17 + 16) : Int) else 0) else 0)) 17) 17 = zs_u (fun u => zs_u (fun v => (if u = 15 then (if T v = false then (κ (15 * 17 + v) : Int) else 0) else 0)) 17 + zs_u (fun v => (if v = 16 then (if T u = true then (κ (u * 17 + 16) : Int) else 0) else 0)) 17) 17 := zs_cg fun u _ => zs_add _ _ 17
  have s1 : zs_u (fun u => zs_u (fun v => (if u = 15 then (if T v = false then (κ (15 * 17 + v) : Int) else 0) else 0)) 17) 17 = zs_u (fun v => if T v = false then (κ (15 * 17 + v) : Int) else 0) 17 := by
    rw [zs_one (q := 15) (by omega) (fun u _ ne => zs_z fun v _ => if_neg ne)]
    exact zs_cg fun v _ => if_pos rfl
  have s2 : zs_u (fun u => zs_u (fun v => (if v = 16 then (if T u = true then (κ (u * 17 + 16) : Int) else 0) else 0)) 17) 17 = zs_u (fun u => if T u = true then (κ (u * 17 + 16) : Int) else 0) 17 := zs_cg fun u _ => by
    show zs_u (fun v => (if v = 16 then (if T u = true then (κ (u * 17 + 16) : Int) else 0) else 0)) 17 = _
    rw [zs_one (q := 16) (by omega) (fun v _ ne => if_neg ne), if_pos rfl]
  have t1 : zs_u (fun v => if T v = false then (κ (15 * 17 + v) : Int) else 0) 17 = zs_u (fun v => if T v = false then (κ (15 * 17 + v) : Int) else 0) c := zs_ex (by omega) fun v v1 v2 => by
    show (if T v = false then (κ (15 * 17 + v) : Int) else 0) = 0
    rw [k4 15 v (by omega) v2 (by omega) (by omega) (by omega)]
    split <;> rfl
  have t2 : zs_u (fun u => if T u = true then (κ (u * 17 + 16) : Int) else 0) 17 = zs_u (fun u => if T u = true then (κ (u * 17 + 16) : Int) else 0) c := zs_ex (by omega) fun u u1 u2 => by
    show (if T u = true then (κ (u * 17 + 16) : Int) else 0) = 0
    rw [k4 u 16 u2 (by omega) (by omega) (by omega) (by omega)]
    split <;> rfl
  rw [pt, sp, zs_add, s1, s2, t1, t2, ← zs_add, ← zs_add]
  apply zs_cg
  intro r hr
  show (if T r = false then (κ (15 * 17 + r) : Int) else 0) + (if T r = true then (κ (r * 17 + 16) : Int) else 0) = (if D r < 0 then - D r else 0) + (if T r = true then D r else 0)
  rw [k1 r hr, k2 r hr]
  cases T r
  · rw [if_pos rfl, if_neg (show ¬ (false = true) by decide), if_neg (show ¬ (false = true) by decide)]
  · rw [if_neg (show ¬ (true = false) by decide), if_pos rfl, if_pos rfl]
    split <;> omega
theorem op_F {c : Nat} {D : Nat → Int} {od : Nat → Nat → Prop} {κ ρ : Nat → Nat} {F : Int} (h : op_K c D od κ) (hc : c ≤ 15) (h600 : zs_u (fun r => if D r < 0 then - D r else 0) c ≤ 600) (hI : fl_I κ ρ F) : F ≤ 600 := by
  have a := op_cut h hc (T := fun v => v == 15) (by decide) (by decide) (fun s r hs hr z _ => by
    have : s = 15 := by simpa using z
    omega)
  have b := fl_eq hI (T := fun v => v == 15) (by decide) (by decide)
  have d := fl_nn ρ (fun v => v == 15)
  have e : zs_u (fun r => if (r == 15) = true then D r else 0) c = 0 := zs_z fun r hr => by
    have : ¬ (r == 15) = true := fun z => by
      have : r = 15 := by simpa using z
      omega
    exact if_neg this
  rw [e] at a
  omega
theorem op_main {m : sm_M} (o : sm_ok m) {c : Nat} {ld : Nat → Nat} {lv : Nat → Nat → Nat} (h : sm_RL m 36 c ld) (hv : sm_LV m 36 c ld lv) (w : Nat → Nat → Int) {κ P : Nat → Nat} {F : Int}
    (hK : op_K c (sm_ch m w (fun r => sm_bj m (ld r)) lv) (fun r s => sm_le m (sm_bj m (ld r)) (sm_bj m (ld s))) κ) (hF6 : F ≤ 600) (h15 : P 15 ≠ 0) (h16 : P 16 = 0)
    (hcut : fl_cut κ (fun v => !(P v == 0)) = F) (hmin : ∀ T : Nat → Bool, T 15 = true → T 16 = false → F ≤ fl_cut κ T ∧ (fl_cut κ T ≤ F → ∀ v, v < 17 → P v ≠ 0 → T v = true))
    {cnt b : Nat} {G : Nat → Nat → Nat} (hG : en_F m (m.1 ^ m.1) cnt G) (hb : b < cnt)
    (hbest : ∀ i, i < cnt → zs_u (fun q => w q (G b q)) m.1 ≤ zs_u (fun q => w q (G i q)) m.1 ∧ (i < b → zs_u (fun q => w q (G b q)) m.1 < zs_u (fun q => w q (G i q)) m.1)) :
    ∀ r, r < c → (P r ≠ 0 ↔ ld r % 6 < G b (ld r / 6)) := by
  have c15 := sm_RL15 o h
  have bT : ∀ v, (!(P v == 0)) = true ↔ P v ≠ 0 := fun v => by simp
  have bF : ∀ v, (!(P v == 0)) = false ↔ P v = 0 := fun v => by simp
  have cl : ∀ s r, s < c → r < c → P s ≠ 0 → P r = 0 → ¬ sm_le m (sm_bj m (ld r)) (sm_bj m (ld s)) := fun s r hs hr z1 z2 z3 => by
    have ne : s ≠ r := fun e => z1 (by rw [e]; exact z2)
    have k := (hK.2.2.1 s r hs hr ne).1 z3
    have f := fl_mem κ (fun v => !(P v == 0)) (u := s) (v := r) (by omega) (by omega) ((bT s).mpr z1) ((bF r).mpr z2)
    omega
  have cl' : sm_cl m c ld (fun r => P r ≠ 0) := fun r s hr hs z1 z2 z3 => cl s r hs hr z1 z3 z2
  obtain ⟨M, m1, m2, m3⟩ := sm_jr o h cl'
  obtain ⟨j, hj, ej⟩ := hG.2.2 M m1 (en_lt m1.1)
  have gb := (hG.1 b hb).1
  have cutR := op_cut hK c15 (T := fun v => !(P v == 0)) ((bT 15).mpr h15) ((bF 16).mpr h16) (fun s r hs hr z1 z2 => cl s r hs hr ((bT s).mp z1) ((bF r).mp z2))
  have dT : ∀ v, (v == 15 || (decide (v < c) && decide (ld v % 6 < G b (ld v / 6)))) = true ↔ (v = 15 ∨ (v < c ∧ ld v % 6 < G b (ld v / 6))) := fun v => by simp
  have cutB := op_cut hK c15 (T := fun v => v == 15 || (decide (v < c) && decide (ld v % 6 < G b (ld v / 6)))) ((dT 15).mpr (Or.inl rfl))
    (by
      have : ¬ (16 == 15 || (decide (16 < c) && decide (ld 16 % 6 < G b (ld 16 / 6)))) = true := fun z => by
        rcases (dT 16).mp z with y | y <;> omega
      exact Bool.eq_false_iff.mpr this)
    (fun s r hs hr z1 z2 z3 => by
      rcases (dT s).mp z1 with y | y
      · omega
      · have l1 := (sm_Sle o h hs gb).mp y.2
        have l2 := (sm_Sle o h hr gb).mpr fun q hq => Nat.le_trans (z3 q hq) (l1 q hq)
        have := (dT r).mpr (Or.inr ⟨hr, l2⟩)
        have z2' : (r == 15 || (decide (r < c) && decide (ld r % 6 < G b (ld r / 6)))) = false := z2
        rw [this] at z2'
        exact Bool.noConfusion z2')
  have mn := hmin (fun v => v == 15 || (decide (v < c) && decide (ld v % 6 < G b (ld v / 6)))) ((dT 15).mpr (Or.inl rfl))
    (by
      have : ¬ (16 == 15 || (decide (16 < c) && decide (ld 16 % 6 < G b (ld 16 / 6)))) = true := fun z => by
        rcases (dT 16).mp z with y | y <;> omega
      exact Bool.eq_false_iff.mpr this)
  have tR := sm_tot o h hv w m1
  have tB := sm_tot o h hv w gb
  have sR : zs_u (fun r => if (!(P r == 0)) = true then sm_ch m w (fun r => sm_bj m (ld r)) lv r else 0) c = zs_u (fun r => if ld r % 6 < M (ld r / 6) then sm_ch m w (fun r => sm_bj m (ld r)) lv r else 0) c := zs_cg fun r hr => by
    show (if (!(P r == 0)) = true then sm_ch m w (fun r => sm_bj m (ld r)) lv r else 0) = (if ld r % 6 < M (ld r / 6) then sm_ch m w (fun r => sm_bj m (ld r)) lv r else 0)
    by_cases z : P r ≠ 0
    · rw [if_pos ((bT r).mpr z), if_pos ((m2 r hr).mpr z)]
    · rw [if_neg (fun y => z ((bT r).mp y)), if_neg (fun y => z ((m2 r hr).mp y))]
  have sB : zs_u (fun r => if (r == 15 || (decide (r < c) && decide (ld r % 6 < G b (ld r / 6)))) = true then sm_ch m w (fun r => sm_bj m (ld r)) lv r else 0) c = zs_u (fun r => if ld r % 6 < G b (ld r / 6) then sm_ch m w (fun r => sm_bj m (ld r)) lv r else 0) c := zs_cg fun r hr => by
    show (if (r == 15 || (decide (r < c) && decide (ld r % 6 < G b (ld r / 6)))) = true then sm_ch m w (fun r => sm_bj m (ld r)) lv r else 0) = (if ld r % 6 < G b (ld r / 6) then sm_ch m w (fun r => sm_bj m (ld r)) lv r else 0)
    by_cases z : ld r % 6 < G b (ld r / 6)
    · rw [if_pos ((dT r).mpr (Or.inr ⟨hr, z⟩)), if_pos z]
    · rw [if_neg (fun y => by
        rcases (dT r).mp y with x | x
        · omega
        · exact z x.2), if_neg z]
  have tj : zs_u (fun q => w q (G j q)) m.1 = zs_u (fun q => w q (M q)) m.1 := zs_cg fun q hq => by rw [ej q hq]
  have b1 := (hbest j hj).1
  have b2 := (hbest j hj).2
  have sub := mn.2 (by omega)
  have le : sm_le m M (G b) := m3 _ gb fun r hr hP => (sm_Sle o h hr gb).mp (by
    rcases (dT r).mp (sub r (by omega) hP) with y | y
    · omega
    · exact y.2)
  have cj : en_c m.1 (G j) m.1 ≤ en_c m.1 (G b) m.1 := by
    rw [en_cg ej]
    exact en_mono le
  have mn1 := mn.1
  have jb : j = b := by
    rcases Nat.lt_trichotomy j b with z | z | z
    · have := b2 z
      omega
    · exact z
    · have := hG.2.1 b j z hj
      omega
  intro r hr
  rw [← m2 r hr, ← jb, ej _ (h.1 r hr).2.1.1]
end
section
/-! X: primitives, outbidding, settling -/
theorem rd_c {A : Nat → Int32} {x : Int32} {v : Int32} (k : Nat) (h : A k = v) (hx : x = nI k := by rfl) (hk : k < 2 ^ 31 := by omega) : A x.toNatClampNeg = v := by
  subst hx
  rw [nI_clamp hk]
  exact h
theorem rd_u {A : Nat → Int32} {x : Int32} {v : Int32} (k : Nat) (hx : x = nI k := by rfl) (hk : k < 2 ^ 31 := by omega) : upd A x.toNatClampNeg v = upd A k v := by
  subst hx
  rw [nI_clamp hk]
section
variable {m : sm_M} {f_solved f_shownSet f_rotationCount f_source f_sink f_nodes f_unlimited f_greatestFlow : Int32} {a_list a_rank a_weights a_top a_bar a_leave a_ideal a_filter a_row a_residual a_parent a_queue : Nat → Int32}
theorem xs_0 {post : Int32 → Prop} {v2 v3 : Int32} (x k : Nat) (h : post (nI (x * 6 + k))) (hx : v2 = nI x := by rfl) (hk : v3 = nI k := by rfl) : wpX_slot post ((nI m.1), f_solved, f_shownSet, f_rotationCount, f_source, f_sink, f_nodes, f_unlimited, f_greatestFlow, a_list, a_rank, a_weights, a_top, a_bar, a_leave, a_ideal, a_filter, a_row, a_residual, a_parent, a_queue) 0 v2 v3 := by
  subst hx hk
  have e : (0 : Int32) * 36 + nI x * 6 + nI k = nI (x * 6 + k) := by
    rw [← nI_add, ← pk_mul, Int32.zero_mul, Int32.zero_add]
    rfl
  show post ((0 : Int32) * 36 + nI x * 6 + nI k)
  rw [e]
  exact h
theorem xs_1 {post : Int32 → Prop} {v2 v3 : Int32} (x k : Nat) (h : post (nI (36 + x * 6 + k))) (hx : v2 = nI x := by rfl) (hk : v3 = nI k := by rfl) : wpX_slot post ((nI m.1), f_solved, f_shownSet, f_rotationCount, f_source, f_sink, f_nodes, f_unlimited, f_greatestFlow, a_list, a_rank, a_weights, a_top, a_bar, a_leave, a_ideal, a_filter, a_row, a_residual, a_parent, a_queue) 1 v2 v3 := by
  subst hx hk
  have e : (1 : Int32) * 36 + nI x * 6 + nI k = nI (36 + x * 6 + k) := by
    rw [← nI_add, ← nI_add, ← pk_mul, Int32.one_mul]
    rfl
  show post ((1 : Int32) * 36 + nI x * 6 + nI k)
  rw [e]
  exact h
theorem xo_34 (o : sm_ok m) (hr : ∀ i, a_rank i = nI (m.2.2 i)) {R : Nat → Nat} (hw : ∀ q, q < m.1 → a_row q = nI (R q)) (hR : ∀ q, q < m.1 → R q < m.1) {a own : Nat} (ha : a < m.1) (hown : own < m.1) {post : Int32 → Prop}
    (h1 : ∀ x, x < m.1 → sm_r m x a ≤ R x → sm_ar m a x < own → post 1) (h0 : (∀ x, x < m.1 → sm_r m x a ≤ R x → ¬ sm_ar m a x < own) → post 0) :
    ∀ f i, i ≤ m.1 → m.1 - i < f → (∀ x, x < i → sm_r m x a ≤ R x → ¬ sm_ar m a x < own) → wX_isOutbid_34 post (nI a) (nI own) (nI m.1) f_solved f_shownSet f_rotationCount f_source f_sink f_nodes f_unlimited f_greatestFlow a_list a_rank a_weights a_top a_bar a_leave a_ideal a_filter a_row a_residual a_parent a_queue f (nI i) := by
  have o6 := o.1.2
  intro f
  induction f with
  | zero => intro i _ h; omega
  | succ f ih =>
    intro i hi hf hno
    refine pk_le m.1 i (fun h => h0 fun x hx => hno x (by omega)) (fun h => ?_)
    have ri := (o.2.2.1 i a h ha).1
    have ai := (o.2.2.2.2 a i ha h).1
    have hRi := hR i h
    refine xs_0 i a ⟨pk_in (i * 6 + a) 72 (by omega), pk_in i 6 (by omega), ?_⟩
    refine pk_lt (R i) (sm_r m i a) (fun z => ?_) (fun z => ?_) (rd_c i (hw i h)) (rd_c (i * 6 + a) (hr _))
    · exact br_t rfl (nm_r (nI_1 i) (ih (i + 1) (by omega) (by omega) (fun x hx => by
        rcases Nat.lt_or_ge x i with y | y
        · exact hno x y
        · have : x = i := by omega
          subst this
          intro w; omega)))
    · refine br_f (by decide) (xs_1 a i ⟨pk_in (36 + a * 6 + i) 72 (by omega), ?_⟩)
      refine pk_le own (sm_ar m a i) (fun y => ?_) (fun y => h1 i h z y) rfl (rd_c (36 + a * 6 + i) (hr _))
      exact nm_r (nI_1 i) (ih (i + 1) (by omega) (by omega) (fun x hx => by
        rcases Nat.lt_or_ge x i with y | y
        · exact hno x y
        · have : x = i := by omega
          subst this
          intro _; omega))
theorem xo_o (o : sm_ok m) (hl : ∀ i, a_list i = nI (m.2.1 i)) (hr : ∀ i, a_rank i = nI (m.2.2 i)) {R : Nat → Nat} (hw : ∀ q, q < m.1 → a_row q = nI (R q)) (hR : ∀ q, q < m.1 → R q < m.1) {q : Nat} (hq : q < m.1) {post : Int32 → Prop}
    (h1 : sm_out m R q → post 1) (h0 : ¬ sm_out m R q → post 0) : wpX_isOutbid post ((nI m.1), f_solved, f_shownSet, f_rotationCount, f_source, f_sink, f_nodes, f_unlimited, f_greatestFlow, a_list, a_rank, a_weights, a_top, a_bar, a_leave, a_ideal, a_filter, a_row, a_residual, a_parent, a_queue) (nI q) := by
  have o6 := o.1.2
  have hRq := hR q hq
  have ha : sm_h m R q < m.1 := sm_hl o hq (hR q hq)
  have hown := (o.2.2.2.2 (sm_h m R q) q ha hq).1
  refine And.intro (pk_in q 6 (by omega)) (xs_0 q (R q) ⟨pk_in (q * 6 + R q) 72 (by omega), nm_r (e' := nI (sm_h m R q)) (rd_c (q * 6 + R q) (hl _)) ?_⟩ rfl (rd_c q (hw q hq)))
  refine xs_1 (sm_h m R q) q ⟨pk_in (36 + sm_h m R q * 6 + q) 72 (by omega), nm_r (e' := nI (sm_ar m (sm_h m R q) q)) (rd_c (36 + sm_h m R q * 6 + q) (hr _)) ?_⟩
  exact ⟨m.1 + 1, xo_34 o hr hw hR ha hown (fun x hx z1 z2 => h1 ⟨x, hx, z1, z2⟩) (fun hn => h0 fun ⟨x, hx, z1, z2⟩ => hn x hx z1 z2) (m.1 + 1) 0 (by omega) (by omega) (fun x hx => by omega)⟩
theorem xr_2 (o : sm_ok m) (hl : ∀ i, a_list i = nI (m.2.1 i)) (hr : ∀ i, a_rank i = nI (m.2.2 i)) {R : Nat → Nat} (hw : ∀ q, q < m.1 → a_row q = nI (R q)) (hR : ∀ q, q < m.1 → R q < m.1) {post : Int32 → Prop}
    (h1 : ∀ q, q < m.1 → sm_out m R q → post (nI q)) (h0 : (∀ q, q < m.1 → ¬ sm_out m R q) → post (-1)) :
    ∀ f i, i ≤ m.1 → m.1 - i < f → (∀ q, q < i → ¬ sm_out m R q) → wX_rejectedProposer_2 post (nI m.1) f_solved f_shownSet f_rotationCount f_source f_sink f_nodes f_unlimited f_greatestFlow a_list a_rank a_weights a_top a_bar a_leave a_ideal a_filter a_row a_residual a_parent a_queue f (nI i) := by
  have o6 := o.1.2
  intro f
  induction f with
  | zero => intro i _ h; omega
  | succ f ih =>
    intro i hi hf hno
    refine pk_le m.1 i (fun h => h0 fun x hx => hno x (by omega)) (fun h => ?_)
    refine xo_o o hl hr hw hR h (fun z => br_f (by decide) (h1 i h z)) (fun z => br_t rfl (nm_r (nI_1 i) (ih (i + 1) (by omega) (by omega) (fun x hx => ?_))))
    rcases Nat.lt_or_ge x i with y | y
    · exact hno x y
    · have : x = i := by omega
      subst this
      exact z
theorem xr_r (o : sm_ok m) (hl : ∀ i, a_list i = nI (m.2.1 i)) (hr : ∀ i, a_rank i = nI (m.2.2 i)) {R : Nat → Nat} (hw : ∀ q, q < m.1 → a_row q = nI (R q)) (hR : ∀ q, q < m.1 → R q < m.1) {post : Int32 → Prop}
    (h1 : ∀ q, q < m.1 → sm_out m R q → post (nI q)) (h0 : (∀ q, q < m.1 → ¬ sm_out m R q) → post (-1)) : wpX_rejectedProposer post ((nI m.1), f_solved, f_shownSet, f_rotationCount, f_source, f_sink, f_nodes, f_unlimited, f_greatestFlow, a_list, a_rank, a_weights, a_top, a_bar, a_leave, a_ideal, a_filter, a_row, a_residual, a_parent, a_queue) :=
  Exists.intro (m.1 + 1) (xr_2 o hl hr hw hR h1 h0 (m.1 + 1) 0 (by omega) (by omega) (fun x hx => by omega))
theorem xs_30 {m : sm_M} (o : sm_ok m) {R : Nat → Nat} (hR : ∀ q, q < m.1 → R q < m.1) : ns_u R m.1 ≤ 30 := by
  have o6 := o.1.2
  have a := sm_sumB hR
  have b : m.1 * (m.1 - 1) ≤ 6 * 5 := Nat.mul_le_mul (by omega) (by omega)
  omega
theorem xs_2 (o : sm_ok m) (hl : ∀ i, a_list i = nI (m.2.1 i)) (hr : ∀ i, a_rank i = nI (m.2.2 i)) {R0 : Nat → Nat} {post : Int32 → SX → Prop}
    (h1 : ∀ (row' : Nat → Int32) (R' : Nat → Nat), (∀ q, q < m.1 → row' q = nI (R' q)) → sm_St m R' → sm_le m R0 R' → (∀ M, sm_St m M → sm_le m R0 M → sm_le m R' M) → post 1 ((nI m.1), f_solved, f_shownSet, f_rotationCount, f_source, f_sink, f_nodes, f_unlimited, f_greatestFlow, a_list, a_rank, a_weights, a_top, a_bar, a_leave, a_ideal, a_filter, row', a_residual, a_parent, a_queue))
    (h0 : (∀ M, sm_St m M → ¬ sm_le m R0 M) → ∀ row' : Nat → Int32, post 0 ((nI m.1), f_solved, f_shownSet, f_rotationCount, f_source, f_sink, f_nodes, f_unlimited, f_greatestFlow, a_list, a_rank, a_weights, a_top, a_bar, a_leave, a_ideal, a_filter, row', a_residual, a_parent, a_queue)) :
    ∀ f i (row : Nat → Int32) (R : Nat → Nat), 36 - i < f → (∀ q, q < m.1 → row q = nI (R q)) → (∀ q, q < m.1 → R q < m.1) → sm_le m R0 R → (∀ M, sm_St m M → sm_le m R0 M → sm_le m R M) → i ≤ ns_u R m.1 → wX_settle_2 post (nI m.1) f_solved f_shownSet f_rotationCount f_source f_sink f_nodes f_unlimited f_greatestFlow f (nI i) a_list a_rank a_weights a_top a_bar a_leave a_ideal a_filter row a_residual a_parent a_queue := by
  have o6 := o.1.2
  intro f
  induction f with
  | zero => intro i _ _ h; omega
  | succ f ih =>
    intro i row R hf hw hR hl0 hM hi
    have s30 := xs_30 o hR
    refine pk_le 36 i (fun h => by omega) (fun h => ?_)
    refine xr_r o hl hr hw hR (fun q hq z => ?_) (fun z => ?_)
    · refine br_t (nI_pos' (by omega)) ⟨pk_in q 6 (by omega), pk_in q 6 (by omega), nm_r (e' := upd row q (nI (R q + 1))) ?_ ⟨pk_in q 6 (by omega), ?_⟩⟩
      · rw [nI_clamp (by omega), hw q hq, nI_1]
      · have hRq := hR q hq
        have rd : ∀ x, x < m.1 → upd row q (nI (R q + 1)) x = nI (sm_up R q x) := fun x hx => by
          by_cases e : x = q
          · subst e; rw [pk_us, sm_up_s]
          · rw [pk_un e, sm_up_n e]; exact hw x hx
        refine pk_lt (R q + 1) m.1 (fun y => ?_) (fun y => ?_) (rd_c q pk_us)
        · refine nm_r (nI_1 i) (ih (i + 1) _ (sm_up R q) (by omega) rd (fun x hx => ?_) (fun x hx => Nat.le_trans (hl0 x hx) (sm_up_le x)) (fun M hS hle => sm_upM (hM M hS hle) (sm_raise o hS (hM M hS hle) hq z)) (by rw [sm_up_sum hq]; omega))
          by_cases e : x = q
          · subst e; rw [sm_up_s]; exact y
          · rw [sm_up_n e]; exact hR x hx
        · refine h0 (fun M hS hle => ?_) _
          have a := sm_raise o hS (hM M hS hle) hq z
          have b := hS.1 q hq
          omega
    · exact br_f (by decide) (h1 row R hw (sm_noout o hR z) hl0 hM)
theorem xs_s (o : sm_ok m) (hl : ∀ i, a_list i = nI (m.2.1 i)) (hr : ∀ i, a_rank i = nI (m.2.2 i)) {R : Nat → Nat} {post : Int32 → SX → Prop} (hw : ∀ q, q < m.1 → a_row q = nI (R q)) (hR : ∀ q, q < m.1 → R q < m.1)
    (h1 : ∀ (row' : Nat → Int32) (R' : Nat → Nat), (∀ q, q < m.1 → row' q = nI (R' q)) → sm_St m R' → sm_le m R R' → (∀ M, sm_St m M → sm_le m R M → sm_le m R' M) → post 1 ((nI m.1), f_solved, f_shownSet, f_rotationCount, f_source, f_sink, f_nodes, f_unlimited, f_greatestFlow, a_list, a_rank, a_weights, a_top, a_bar, a_leave, a_ideal, a_filter, row', a_residual, a_parent, a_queue))
    (h0 : (∀ M, sm_St m M → ¬ sm_le m R M) → ∀ row' : Nat → Int32, post 0 ((nI m.1), f_solved, f_shownSet, f_rotationCount, f_source, f_sink, f_nodes, f_unlimited, f_greatestFlow, a_list, a_rank, a_weights, a_top, a_bar, a_leave, a_ideal, a_filter, row', a_residual, a_parent, a_queue)) : wpX_settle post ((nI m.1), f_solved, f_shownSet, f_rotationCount, f_source, f_sink, f_nodes, f_unlimited, f_greatestFlow, a_list, a_rank, a_weights, a_top, a_bar, a_leave, a_ideal, a_filter, a_row, a_residual, a_parent, a_queue) :=
  Exists.intro 37 (xs_2 o hl hr h1 h0 37 0 a_row R (by omega) hw hR (fun _ _ => Nat.le_refl _) (fun _ _ h => h) (by omega))
theorem xt_30 {R : Nat → Nat} (o : sm_ok m) (hw : ∀ q, q < m.1 → a_row q = nI (R q)) {post : SX → Prop}
    (h : ∀ top' : Nat → Int32, (∀ q, q < m.1 → top' q = nI (R q)) → post ((nI m.1), f_solved, f_shownSet, f_rotationCount, f_source, f_sink, f_nodes, f_unlimited, f_greatestFlow, a_list, a_rank, a_weights, top', a_bar, a_leave, a_ideal, a_filter, a_row, a_residual, a_parent, a_queue)) :
    ∀ f i (top : Nat → Int32), i ≤ m.1 → m.1 - i < f → (∀ q, q < i → top q = nI (R q)) → wX_findTop_30 post (nI m.1) f_solved f_shownSet f_rotationCount f_source f_sink f_nodes f_unlimited f_greatestFlow f (nI i) a_list a_rank a_weights top a_bar a_leave a_ideal a_filter a_row a_residual a_parent a_queue := by
  have o6 := o.1.2
  intro f
  induction f with
  | zero => intro i _ _ h; omega
  | succ f ih =>
    intro i top hi hf ht
    refine pk_le m.1 i (fun z => h top fun q hq => ht q (by omega)) (fun z => ?_)
    refine ⟨pk_in i 6 (by omega), pk_in i 6 (by omega), nm_r (e' := upd top i (nI (R i))) (by rw [nI_clamp (by omega), hw i z]) (nm_r (nI_1 i) (ih (i + 1) _ (by omega) (by omega) fun q hq => ?_))⟩
    by_cases e : q = i
    · subst e; exact pk_us
    · rw [pk_un e]; exact ht q (by omega)
theorem xt_2 (o : sm_ok m) (hl : ∀ i, a_list i = nI (m.2.1 i)) (hr : ∀ i, a_rank i = nI (m.2.2 i)) {post : SX → Prop}
    (h : ∀ row' top' : Nat → Int32, (∀ q, q < m.1 → row' q = nI (sm_tp m q)) → (∀ q, q < m.1 → top' q = nI (sm_tp m q)) → post ((nI m.1), f_solved, f_shownSet, f_rotationCount, f_source, f_sink, f_nodes, f_unlimited, f_greatestFlow, a_list, a_rank, a_weights, top', a_bar, a_leave, a_ideal, a_filter, row', a_residual, a_parent, a_queue)) :
    ∀ f i (row : Nat → Int32), i ≤ m.1 → m.1 - i < f → (∀ q, q < i → row q = nI 0) → wX_findTop_2 post (nI m.1) f_solved f_shownSet f_rotationCount f_source f_sink f_nodes f_unlimited f_greatestFlow f (nI i) a_list a_rank a_weights a_top a_bar a_leave a_ideal a_filter row a_residual a_parent a_queue := by
  have o6 := o.1
  intro f
  induction f with
  | zero => intro i _ _ h; omega
  | succ f ih =>
    intro i row hi hf ht
    refine pk_le m.1 i (fun z => ?_) (fun z => ?_)
    · refine xs_s o hl hr (R := fun _ => 0) (fun q hq => ht q (by omega)) (fun _ _ => by omega) (fun row' R' g1 g2 g3 g4 => ?_) (fun g => ?_)
      · have e : ∀ q, q < m.1 → R' q = sm_tp m q := fun q hq => Nat.le_antisymm (g4 _ (sm_tpS o).1 (fun _ _ => Nat.zero_le _) q hq) ((sm_tpS o).2 R' g2 q hq)
        have g1' : ∀ q, q < m.1 → row' q = nI (sm_tp m q) := fun q hq => by rw [g1 q hq, e q hq]
        exact ⟨m.1 + 1, xt_30 o g1' (fun top' ht' => h row' top' g1' ht') (m.1 + 1) 0 a_top (by omega) (by omega) (fun q hq => by omega)⟩
      · exact (g _ (sm_tpS o).1 (fun _ _ => Nat.zero_le _)).elim
    · refine ⟨pk_in i 6 (by omega), nm_r (e' := upd row i (nI 0)) (by rw [nI_clamp (by omega)]; rfl) (nm_r (nI_1 i) (ih (i + 1) _ (by omega) (by omega) fun q hq => ?_))⟩
      by_cases e : q = i
      · subst e; exact pk_us
      · rw [pk_un e]; exact ht q (by omega)
theorem xt_t (o : sm_ok m) (hl : ∀ i, a_list i = nI (m.2.1 i)) (hr : ∀ i, a_rank i = nI (m.2.2 i)) {post : SX → Prop}
    (h : ∀ row' top' : Nat → Int32, (∀ q, q < m.1 → row' q = nI (sm_tp m q)) → (∀ q, q < m.1 → top' q = nI (sm_tp m q)) → post ((nI m.1), f_solved, f_shownSet, f_rotationCount, f_source, f_sink, f_nodes, f_unlimited, f_greatestFlow, a_list, a_rank, a_weights, top', a_bar, a_leave, a_ideal, a_filter, row', a_residual, a_parent, a_queue)) : wpX_findTop post ((nI m.1), f_solved, f_shownSet, f_rotationCount, f_source, f_sink, f_nodes, f_unlimited, f_greatestFlow, a_list, a_rank, a_weights, a_top, a_bar, a_leave, a_ideal, a_filter, a_row, a_residual, a_parent, a_queue) :=
  Exists.intro (m.1 + 1) (xt_2 o hl hr h (m.1 + 1) 0 a_row (by omega) (by omega) (fun q hq => by omega))
end
end
section
/-! X: the rotations' table, tracing -/
/-- extension over codes without movers -/
theorem lv_ext {m : sm_M} {i i' c : Nat} {ld : Nat → Nat} {lv : Nat → Nat → Nat} (h : sm_LV m i c ld lv) (hi : i ≤ i') (hn : ∀ j, i ≤ j → j < i' → ¬ sm_mj m j) (o : sm_ok m) : sm_LV m i' c ld lv := fun r q k hr hq => by
  rw [h r q k hr hq]
  constructor
  · rintro ⟨h1, h2, h3⟩
    exact ⟨by omega, h2, h3⟩
  · rintro ⟨h1, h2, h3⟩
    refine ⟨?_, h2, h3⟩
    have k6 := sm_mvk h2
    have o6 := o.1.2
    rcases Nat.lt_or_ge (q * 6 + k) i with z | z
    · exact z
    · exact absurd ((sm_mjc (by omega)).mpr h2) (hn _ z h1)
def lv_u (lv : Nat → Nat → Nat) (r0 p x : Nat) : Nat → Nat → Nat := fun r q => if r = r0 ∧ q = p then x else lv r q
theorem lv_us {lv : Nat → Nat → Nat} {r0 p x : Nat} : lv_u lv r0 p x r0 p = x := if_pos ⟨rfl, rfl⟩
theorem lv_un {lv : Nat → Nat → Nat} {r0 p x r q : Nat} (h : ¬ (r = r0 ∧ q = p)) : lv_u lv r0 p x r q = lv r q := if_neg h
/-- the mover's bar is known -/
theorem lv_old {m : sm_M} (o : sm_ok m) {p k c : Nat} {ld : Nat → Nat} {lv : Nat → Nat → Nat} (hR : sm_RL m (p * 6 + k) c ld) (h : sm_LV m (p * 6 + k) c ld lv) (hm : sm_mv m p k) {r0 : Nat} (hr0 : r0 < c) (e0 : ∀ x, x < m.1 → sm_br m p (k + 1) x = sm_bj m (ld r0) x) :
    sm_LV m (p * 6 + k + 1) c ld (lv_u lv r0 p (k + 1)) := fun r q kk hr hq => by
  have k6 := sm_mvk hm
  have o6 := o.1.2
  by_cases c1 : r = r0 ∧ q = p
  · rw [c1.1, c1.2, lv_us]
    constructor
    · intro e
      have : kk = k := by omega
      rw [this]
      exact ⟨by omega, hm, e0⟩
    · rintro ⟨_, h2, h3⟩
      have := sm_uni o h2 hm (by rw [h3 p hm.1, e0 p hm.1])
      omega
  · rw [lv_un c1, h r q kk hr hq]
    constructor
    · rintro ⟨h1, h2, h3⟩
      exact ⟨by omega, h2, h3⟩
    · rintro ⟨h1, h2, h3⟩
      refine ⟨?_, h2, h3⟩
      have kk6 := sm_mvk h2
      rcases Nat.lt_or_ge (q * 6 + kk) (p * 6 + k) with z | z
      · exact z
      · have e1 : q = p := by omega
        have e2 : kk = k := by omega
        subst e1 e2
        exact absurd ⟨sm_RLd hR hr hr0 fun x hx => (h3 x hx).symm.trans (e0 x hx), rfl⟩ c1
theorem lv_new {m : sm_M} (o : sm_ok m) {p k c : Nat} {ld ld' : Nat → Nat} {lv : Nat → Nat → Nat} (h : sm_LV m (p * 6 + k) c ld lv) (hm : sm_mv m p k) (hf : sm_fm m (p * 6 + k)) (l1 : ∀ r, r < c → ld' r = ld r) (l2 : ld' c = p * 6 + k) (hz : ∀ q, lv c q = 0)
    (hne : ∀ r, r < c → ¬ sm_sb m (ld r) (p * 6 + k)) : sm_LV m (p * 6 + k + 1) (c + 1) ld' (lv_u lv c p (k + 1)) := fun r q kk hr hq => by
  have k6 := sm_mvk hm
  have o6 := o.1.2
  have kl : k < 6 := by omega
  by_cases c1 : r = c ∧ q = p
  · rw [c1.1, c1.2, lv_us, l2, sm_bjc kl]
    constructor
    · intro e
      have : kk = k := by omega
      rw [this]
      exact ⟨by omega, hm, fun _ _ => rfl⟩
    · rintro ⟨_, h2, h3⟩
      have := sm_uni o h2 hm (h3 p hm.1)
      omega
  · rw [lv_un c1]
    rcases Nat.lt_or_ge r c with z | z
    · rw [h r q kk z hq, l1 r z]
      constructor
      · rintro ⟨h1, h2, h3⟩
        exact ⟨by omega, h2, h3⟩
      · rintro ⟨h1, h2, h3⟩
        refine ⟨?_, h2, h3⟩
        have kk6 := sm_mvk h2
        rcases Nat.lt_or_ge (q * 6 + kk) (p * 6 + k) with y | y
        · exact y
        · have e1 : q = p := by omega
          have e2 : kk = k := by omega
          subst e1 e2
          exact absurd (fun x hx => by rw [sm_bjc kl]; exact (h3 x hx).symm) (hne r z)
    · have rc : r = c := by omega
      subst rc
      rw [hz q, l2, sm_bjc kl]
      constructor
      · intro e; omega
      · rintro ⟨h1, h2, h3⟩
        have kk6 := sm_mvk h2
        have kkl : kk < 6 := by omega
        have qp : q ≠ p := fun e => c1 ⟨rfl, e⟩
        exact absurd (fun x hx => by rw [sm_bjc kl, sm_bjc kkl]; exact h3 x hx) (hf.2 (q * 6 + kk) (by omega) ((sm_mjc kkl).mpr h2))
/-- X's table against the picture -/
def xa_I (m : sm_M) (i c : Nat) (ld : Nat → Nat) (lv : Nat → Nat → Nat) (bar leave : Nat → Int32) : Prop :=
  sm_RL m i c ld ∧ sm_LV m i c ld lv ∧ (∀ r q, r < c → q < m.1 → bar (r * 6 + q) = nI (sm_bj m (ld r) q)) ∧ (∀ r q, r < 15 → q < m.1 → leave (r * 6 + q) = nI (lv r q) - 1) ∧ (∀ r q, c ≤ r → lv r q = 0)
theorem xa_ext {m : sm_M} (o : sm_ok m) {i i' c : Nat} {ld : Nat → Nat} {lv : Nat → Nat → Nat} {bar leave : Nat → Int32} (h : xa_I m i c ld lv bar leave) (hi : i ≤ i') (hn : ∀ j, i ≤ j → j < i' → ¬ sm_mj m j) : xa_I m i' c ld lv bar leave :=
  ⟨sm_RLs h.1 hi (fun j h1 h2 hf => hn j h1 h2 hf.1), lv_ext h.2.1 hi hn o, h.2.2⟩
section
variable {m : sm_M} {f_solved f_shownSet f_rotationCount f_source f_sink f_nodes f_unlimited f_greatestFlow : Int32} {a_list a_rank a_weights a_top a_bar a_leave a_ideal a_filter a_row a_residual a_parent a_queue : Nat → Int32}
theorem xb_2 {r : Nat} {b R : Nat → Nat} (o : sm_ok m) (hr : r < 15) (hb : ∀ q, q < m.1 → a_bar (r * 6 + q) = nI (b q)) (hw : ∀ q, q < m.1 → a_row q = nI (R q)) (hbl : ∀ q, q < m.1 → b q < 2 ^ 31) (hRl : ∀ q, q < m.1 → R q < 2 ^ 31) {post : Int32 → Prop}
    (h1 : (∀ q, q < m.1 → b q = R q) → post 1) (h0 : (¬ ∀ q, q < m.1 → b q = R q) → post 0) :
    ∀ f i, i ≤ m.1 → m.1 - i < f → (∀ q, q < i → b q = R q) → wX_barIsRow_2 post (nI r) (nI m.1) f_solved f_shownSet f_rotationCount f_source f_sink f_nodes f_unlimited f_greatestFlow a_list a_rank a_weights a_top a_bar a_leave a_ideal a_filter a_row a_residual a_parent a_queue f (nI i) := by
  have o6 := o.1.2
  intro f
  induction f with
  | zero => intro i _ h; omega
  | succ f ih =>
    intro i hi hf hs
    refine pk_le m.1 i (fun z => h1 fun q hq => hs q (by omega)) (fun z => ?_)
    have e : nI r * 6 + nI i = nI (r * 6 + i) := by rw [← nI_add, ← pk_mul]; rfl
    refine ⟨pk_in (r * 6 + i) 90 (by omega) e, pk_in i 6 (by omega), ?_⟩
    refine pk_eq (b i) (R i) (fun y => ?_) (fun y => h0 fun g => y (g i z)) (rd_c (r * 6 + i) (hb i z) e) (rd_c i (hw i z)) (hbl i z) (hRl i z)
    exact nm_r (nI_1 i) (ih (i + 1) (by omega) (by omega) fun q hq => by
      rcases Nat.lt_or_ge q i with x | x
      · exact hs q x
      · have : q = i := by omega
        subst this
        exact y)
theorem xb_33 {c : Nat} {R : Nat → Nat} (o : sm_ok m) (hc : c < 15) (hw : ∀ q, q < m.1 → a_row q = nI (R q)) {bar0 : Nat → Int32} {post : Int32 → SX → Prop}
    (h : ∀ bar' : Nat → Int32, (∀ j, j < c * 6 → bar' j = bar0 j) → (∀ q, q < m.1 → bar' (c * 6 + q) = nI (R q)) → post (nI c) ((nI m.1), f_solved, f_shownSet, (nI (c + 1)), f_source, f_sink, f_nodes, f_unlimited, f_greatestFlow, a_list, a_rank, a_weights, a_top, bar', a_leave, a_ideal, a_filter, a_row, a_residual, a_parent, a_queue)) :
    ∀ f i (bar : Nat → Int32), i ≤ m.1 → m.1 - i < f → (∀ j, j < c * 6 → bar j = bar0 j) → (∀ q, q < i → bar (c * 6 + q) = nI (R q)) → wX_rotationOfRow_33 post (nI c) (nI m.1) f_solved f_shownSet (nI c) f_source f_sink f_nodes f_unlimited f_greatestFlow f (nI i) a_list a_rank a_weights a_top bar a_leave a_ideal a_filter a_row a_residual a_parent a_queue := by
  have o6 := o.1.2
  intro f
  induction f with
  | zero => intro i _ _ h; omega
  | succ f ih =>
    intro i bar hi hf h2 hs
    refine pk_le m.1 i (fun z => nm_r (nI_1 c) (h bar h2 fun q hq => hs q (by omega))) (fun z => ?_)
    have e : nI c * 6 + nI i = nI (c * 6 + i) := by rw [← nI_add, ← pk_mul]; rfl
    refine ⟨pk_in i 6 (by omega), pk_in (c * 6 + i) 90 (by omega) e, nm_r (e' := upd bar (c * 6 + i) (nI (R i))) ?_ (nm_r (nI_1 i) (ih (i + 1) _ (by omega) (by omega) (fun j hj => ?_) fun q hq => ?_))⟩
    · rw [e, nI_clamp (by omega), nI_clamp (by omega), hw i z]
    · rw [pk_un (by omega)]; exact h2 j hj
    · by_cases y : q = i
      · subst y; exact pk_us
      · rw [pk_un (by omega)]; exact hs q (by omega)
theorem xb_r {c : Nat} {R : Nat → Nat} {b : Nat → Nat → Nat} (o : sm_ok m) (hc : c ≤ 15) (hw : ∀ q, q < m.1 → a_row q = nI (R q)) (hb : ∀ r q, r < c → q < m.1 → a_bar (r * 6 + q) = nI (b r q)) (hbl : ∀ r q, r < c → q < m.1 → b r q < 2 ^ 31) (hRl : ∀ q, q < m.1 → R q < 2 ^ 31) {post : Int32 → SX → Prop}
    (h1 : ∀ r, r < c → (∀ q, q < m.1 → b r q = R q) → post (nI r) ((nI m.1), f_solved, f_shownSet, (nI c), f_source, f_sink, f_nodes, f_unlimited, f_greatestFlow, a_list, a_rank, a_weights, a_top, a_bar, a_leave, a_ideal, a_filter, a_row, a_residual, a_parent, a_queue))
    (h0 : (∀ r, r < c → ¬ ∀ q, q < m.1 → b r q = R q) → c < 15 ∧ ∀ bar' : Nat → Int32, (∀ j, j < c * 6 → bar' j = a_bar j) → (∀ q, q < m.1 → bar' (c * 6 + q) = nI (R q)) → post (nI c) ((nI m.1), f_solved, f_shownSet, (nI (c + 1)), f_source, f_sink, f_nodes, f_unlimited, f_greatestFlow, a_list, a_rank, a_weights, a_top, bar', a_leave, a_ideal, a_filter, a_row, a_residual, a_parent, a_queue)) :
    ∀ f i, i ≤ c → c - i < f → (∀ r, r < i → ¬ ∀ q, q < m.1 → b r q = R q) → wX_rotationOfRow_2 post (nI m.1) f_solved f_shownSet (nI c) f_source f_sink f_nodes f_unlimited f_greatestFlow a_list a_rank a_weights a_top a_bar a_leave a_ideal a_filter a_row a_residual a_parent a_queue f (nI i) := by
  have o6 := o.1.2
  intro f
  induction f with
  | zero => intro i _ h; omega
  | succ f ih =>
    intro i hi hf hs
    refine pk_le c i (fun z => ?_) (fun z => ?_)
    · obtain ⟨g1, g2⟩ := h0 fun r hr => hs r (by omega)
      exact ⟨m.1 + 1, xb_33 o g1 hw g2 (m.1 + 1) 0 a_bar (by omega) (by omega) (fun _ _ => rfl) (fun q hq => by omega)⟩
    · exact Exists.intro (m.1 + 1) (xb_2 o (by omega) (fun q hq => hb i q z hq) hw (fun q hq => hbl i q z hq) hRl (fun g => br_f (by decide) (h1 i z g)) (fun g => br_t rfl (nm_r (nI_1 i) (ih (i + 1) (by omega) (by omega) (fun r hr => by
        rcases Nat.lt_or_ge r i with x | x
        · exact hs r x
        · have : r = i := by omega
          subst this
          exact g)))) (m.1 + 1) 0 (by omega) (by omega) (fun q hq => by omega))
end
end
section
/-! X: one proposer's trace -/
section
variable {m : sm_M} {f_solved f_shownSet f_rotationCount f_source f_sink f_nodes f_unlimited f_greatestFlow : Int32} {a_list a_rank a_weights a_top a_bar a_leave a_ideal a_filter a_row a_residual a_parent a_queue : Nat → Int32}
theorem xl_32 (o : sm_ok m) (hl : ∀ i, a_list i = nI (m.2.1 i)) (hr : ∀ i, a_rank i = nI (m.2.2 i)) {p : Nat} (hp : p < m.1) {post : SX → Prop}
    (h : ∀ (c : Nat) (ld : Nat → Nat) (lv : Nat → Nat → Nat) (row' bar' leave' : Nat → Int32), xa_I m (p * 6 + 6) c ld lv bar' leave' → post ((nI m.1), f_solved, f_shownSet, (nI c), f_source, f_sink, f_nodes, f_unlimited, f_greatestFlow, a_list, a_rank, a_weights, a_top, bar', leave', a_ideal, a_filter, row', a_residual, a_parent, a_queue)) :
    ∀ f s (x2 : Int32) (c : Nat) (ld : Nat → Nat) (lv : Nat → Nat → Nat) (row bar leave : Nat → Int32), m.1 - s < f → s ≤ m.1 →
      ((x2 = 0 ∧ xa_I m (p * 6 + 6) c ld lv bar leave) ∨ (x2 = 1 ∧ ∃ R : Nat → Nat, (∀ q, q < m.1 → row q = nI (R q)) ∧ sm_LB m p (R p) R ∧ s ≤ R p ∧ xa_I m (p * 6 + R p) c ld lv bar leave)) →
      wX_traceProposer_32 post (nI p) f x2 (nI s) (nI m.1) f_solved f_shownSet (nI c) f_source f_sink f_nodes f_unlimited f_greatestFlow a_list a_rank a_weights a_top bar leave a_ideal a_filter row a_residual a_parent a_queue := by
  have o6 := o.1.2
  intro f
  induction f with
  | zero => intro s _ _ _ _ _ _ _ h; omega
  | succ f ih =>
    intro s x2 c ld lv row bar leave hf hs hI
    refine pk_le m.1 s (fun z => ?_) (fun z => ?_)
    · rcases hI with ⟨_, g⟩ | ⟨_, R, _, g2, g3, _⟩
      · exact h c ld lv row bar leave g
      · have := g2.1.1 p hp
        omega
    · rcases hI with ⟨e2, g⟩ | ⟨e2, R, g1, g2, g3, g4⟩
      · exact br_t e2 (h c ld lv row bar leave g)
      · subst e2
        have hRp := g2.1.1 p hp
        have k6 : R p < 6 := by omega
        have rd : ∀ x, x < m.1 → upd row p (nI (R p + 1)) x = nI (sm_up R p x) := fun x hx => by
          by_cases e : x = p
          · subst e; rw [pk_us, sm_up_s]
          · rw [pk_un e, sm_up_n e]; exact g1 x hx
        have stop : (∀ M, sm_St m M → ¬ R p < M p) → xa_I m (p * 6 + 6) c ld lv bar leave := fun hn =>
          xa_ext o g4 (by omega) fun j j1 j2 hj => by
            obtain ⟨_, _, M, hM, hk⟩ := hj
            have e : j / 6 = p := by omega
            rw [e] at hk
            exact hn M hM (by omega)
        refine br_f (by decide) ⟨pk_in p 6 (by omega), nm_r (e' := nI (R p)) (rd_c p (g1 p hp)) ⟨pk_in p 6 (by omega), pk_in p 6 (by omega), nm_r (e' := upd row p (nI (R p + 1))) (by rw [nI_clamp (by omega), g1 p hp, nI_1]) ⟨pk_in p 6 (by omega), ?_⟩⟩⟩
        refine pk_le m.1 (R p + 1) (fun y => ?_) (fun y => ?_) rfl (rd_c p pk_us)
        · refine br_t rfl (nm_r (nI_1 s) (ih (s + 1) 0 c ld lv _ bar leave (by omega) (by omega) (Or.inl ⟨rfl, stop fun M hM w => ?_⟩)))
          have := hM.1 p hp
          omega
        · refine xs_s o hl hr (R := sm_up R p) rd (fun x hx => ?_) (fun row' R' w1 w2 w3 w4 => ?_) (fun hno row' => ?_)
          · by_cases e : x = p
            · subst e; rw [sm_up_s]; exact y
            · rw [sm_up_n e]; exact g2.1.1 x hx
          · have up : R p + 1 ≤ R' p := by have := w3 p hp; rw [sm_up_s] at this; exact this
            have mv : sm_mv m p (R p) := ⟨hp, ⟨R, g2.1, rfl⟩, ⟨R', w2, up⟩⟩
            have lb : sm_LB m p (R p + 1) R' := ⟨w2, up, fun M hM hK => w4 M hM (sm_upM (g2.2.2 M hM (by omega)) hK)⟩
            have eb : ∀ x, x < m.1 → sm_br m p (R p + 1) x = R' x := sm_LBu (sm_mvL o mv) lb
            have hR'p := w2.1 p hp
            have lb' : sm_LB m p (R' p) R' := ⟨w2, Nat.le_refl _, fun M hM hK => lb.2.2 M hM (by omega)⟩
            have gap : ∀ j, p * 6 + R p + 1 ≤ j → j < p * 6 + R' p → ¬ sm_mj m j := fun j j1 j2 hj => by
              obtain ⟨_, ⟨M, hM, eM⟩, _⟩ := hj
              have e : j / 6 = p := by omega
              rw [e] at eM
              have := lb.2.2 M hM (by omega) p hp
              omega
            have c15 := sm_RL15 o g4.1
            have jm : sm_mj m (p * 6 + R p) := (sm_mjc k6).mpr mv
            have lvl : nI (R p) = nI (R p + 1) - 1 := (nI_pred (R p)).symm
            refine br_f (by decide) (br_f (by decide) (Exists.intro (c + 1) (xb_r o c15 w1 g4.2.2.1 (fun r q hr hq => ?_) (fun q hq => ?_) (fun r hrc hb => ?_) (fun hb => ?_) (c + 1) 0 (by omega) (by omega) (fun r hr => by omega))))
            · have := (sm_bS o g4.1 hr).1.1 q hq
              omega
            · have := w2.1 q hq
              omega
            · have e0 : ∀ x, x < m.1 → sm_br m p (R p + 1) x = sm_bj m (ld r) x := fun x hx => (eb x hx).trans (hb x hx).symm
              have sb : sm_sb m (ld r) (p * 6 + R p) := fun x hx => by rw [sm_bjc k6]; exact (e0 x hx).symm
              have ei : nI r * 6 + nI p = nI (r * 6 + p) := by rw [← nI_add, ← pk_mul]; rfl
              refine ⟨pk_in (r * 6 + p) 90 (by omega) ei, nm_r (e' := upd leave (r * 6 + p) (nI (R p))) (by rw [ei, nI_clamp (by omega)]) (nm_r (nI_1 s) (ih (s + 1) 1 c ld (lv_u lv r p (R p + 1)) row' bar _ (by omega) (by omega) (Or.inr ⟨rfl, R', w1, lb', by omega, ?_⟩)))⟩
              refine xa_ext o (i := p * 6 + R p + 1) ⟨sm_RLs g4.1 (by omega) (fun j j1 j2 => ?_), lv_old o g4.1 g4.2.1 mv hrc e0, g4.2.2.1, fun r' q hr' hq => ?_, fun r' q hr' => ?_⟩ (by omega) gap
              · have : j = p * 6 + R p := by omega
                rw [this]
                exact sm_RLg g4.1 hrc sb
              · by_cases e : r' = r ∧ q = p
                · rw [e.1, e.2, pk_us, lv_us]; exact lvl
                · rw [pk_un (by omega), lv_un e]; exact g4.2.2.2.1 r' q hr' hq
              · rw [lv_un (by omega)]; exact g4.2.2.2.2 r' q hr'
            · have nsb : ∀ r, r < c → ¬ sm_sb m (ld r) (p * 6 + R p) := fun r hr sb => hb r hr fun q hq => by
                have := sb q hq
                rw [sm_bjc k6, eb q hq] at this
                exact this
              have fm := sm_RLf g4.1 jm nsb
              have l1 : ∀ r, r < c → nu_u ld c (p * 6 + R p) r = ld r := fun r hr => nu_n (by omega)
              have l2 : nu_u ld c (p * 6 + R p) c = p * 6 + R p := nu_s
              have RL' := sm_RLn g4.1 fm l1 l2
              have c15' := sm_RL15 o RL'
              refine ⟨by omega, fun bar' b1 b2 => ?_⟩
              have ei : nI c * 6 + nI p = nI (c * 6 + p) := by rw [← nI_add, ← pk_mul]; rfl
              refine ⟨pk_in (c * 6 + p) 90 (by omega) ei, nm_r (e' := upd leave (c * 6 + p) (nI (R p))) (by rw [ei, nI_clamp (by omega)]) (nm_r (nI_1 s) (ih (s + 1) 1 (c + 1) (nu_u ld c (p * 6 + R p)) (lv_u lv c p (R p + 1)) row' bar' _ (by omega) (by omega) (Or.inr ⟨rfl, R', w1, lb', by omega, ?_⟩)))⟩
              refine xa_ext o (i := p * 6 + R p + 1) ⟨RL', lv_new o g4.2.1 mv fm l1 l2 (fun q => g4.2.2.2.2 c q (Nat.le_refl _)) nsb, fun r' q hr' hq => ?_, fun r' q hr' hq => ?_, fun r' q hr' => ?_⟩ (by omega) gap
              · rcases Nat.lt_or_ge r' c with x | x
                · rw [b1 _ (by omega), g4.2.2.1 r' q x hq, l1 r' x]
                · have : r' = c := by omega
                  rw [this, b2 q hq, l2, sm_bjc k6, eb q hq]
              · by_cases e : r' = c ∧ q = p
                · rw [e.1, e.2, pk_us, lv_us]; exact lvl
                · rw [pk_un (by omega), lv_un e]; exact g4.2.2.2.1 r' q hr' hq
              · rw [lv_un (by omega)]; exact g4.2.2.2.2 r' q (by omega)
          · refine br_t rfl (br_t rfl (nm_r (nI_1 s) (ih (s + 1) 0 c ld lv _ bar leave (by omega) (by omega) (Or.inl ⟨rfl, stop fun M hM w => ?_⟩))))
            exact hno M hM (sm_upM (g2.2.2 M hM (by omega)) w)
theorem xl_2 (o : sm_ok m) (hl : ∀ i, a_list i = nI (m.2.1 i)) (hr : ∀ i, a_rank i = nI (m.2.2 i)) {p : Nat} (hp : p < m.1) {c : Nat} {ld : Nat → Nat} {lv : Nat → Nat → Nat} (ht : ∀ q, q < m.1 → a_top q = nI (sm_tp m q)) (hI : xa_I m (p * 6) c ld lv a_bar a_leave) {post : SX → Prop}
    (h : ∀ (c : Nat) (ld : Nat → Nat) (lv : Nat → Nat → Nat) (row' bar' leave' : Nat → Int32), xa_I m (p * 6 + 6) c ld lv bar' leave' → post ((nI m.1), f_solved, f_shownSet, (nI c), f_source, f_sink, f_nodes, f_unlimited, f_greatestFlow, a_list, a_rank, a_weights, a_top, bar', leave', a_ideal, a_filter, row', a_residual, a_parent, a_queue)) :
    ∀ f i (row : Nat → Int32), i ≤ m.1 → m.1 - i < f → (∀ q, q < i → row q = nI (sm_tp m q)) → wX_traceProposer_2 post (nI p) (nI m.1) f_solved f_shownSet (nI c) f_source f_sink f_nodes f_unlimited f_greatestFlow f (nI i) a_list a_rank a_weights a_top a_bar a_leave a_ideal a_filter row a_residual a_parent a_queue := by
  have o6 := o.1.2
  intro f
  induction f with
  | zero => intro i _ _ h; omega
  | succ f ih =>
    intro i row hi hf hs
    have tS := sm_tpS o
    refine pk_le m.1 i (fun z => ?_) (fun z => ?_)
    · refine ⟨m.1 + 1, xl_32 o hl hr hp h (m.1 + 1) 0 1 c ld lv row a_bar a_leave (by omega) (by omega) (Or.inr ⟨rfl, sm_tp m, fun q hq => hs q (by omega), ⟨tS.1, Nat.le_refl _, fun M hM _ => tS.2 M hM⟩, by omega, ?_⟩)⟩
      refine xa_ext o hI (by omega) fun j j1 j2 hj => ?_
      obtain ⟨_, ⟨M, hM, eM⟩, _⟩ := hj
      have := tS.1.1 p hp
      have e : j / 6 = p := by omega
      rw [e] at eM
      have := tS.2 M hM p hp
      omega
    · refine ⟨pk_in i 6 (by omega), pk_in i 6 (by omega), nm_r (e' := upd row i (nI (sm_tp m i))) (by rw [nI_clamp (by omega), ht i z]) (nm_r (nI_1 i) (ih (i + 1) _ (by omega) (by omega) fun q hq => ?_))⟩
      by_cases e : q = i
      · subst e; exact pk_us
      · rw [pk_un e]; exact hs q (by omega)
theorem xl_t (o : sm_ok m) (hl : ∀ i, a_list i = nI (m.2.1 i)) (hr : ∀ i, a_rank i = nI (m.2.2 i)) {p : Nat} (hp : p < m.1) {c : Nat} {ld : Nat → Nat} {lv : Nat → Nat → Nat} (ht : ∀ q, q < m.1 → a_top q = nI (sm_tp m q)) (hI : xa_I m (p * 6) c ld lv a_bar a_leave) {post : SX → Prop}
    (h : ∀ (c : Nat) (ld : Nat → Nat) (lv : Nat → Nat → Nat) (row' bar' leave' : Nat → Int32), xa_I m (p * 6 + 6) c ld lv bar' leave' → post ((nI m.1), f_solved, f_shownSet, (nI c), f_source, f_sink, f_nodes, f_unlimited, f_greatestFlow, a_list, a_rank, a_weights, a_top, bar', leave', a_ideal, a_filter, row', a_residual, a_parent, a_queue)) : wpX_traceProposer post ((nI m.1), f_solved, f_shownSet, (nI c), f_source, f_sink, f_nodes, f_unlimited, f_greatestFlow, a_list, a_rank, a_weights, a_top, a_bar, a_leave, a_ideal, a_filter, a_row, a_residual, a_parent, a_queue) (nI p) :=
  Exists.intro (m.1 + 1) (xl_2 o hl hr hp ht hI h (m.1 + 1) 0 a_row (by omega) (by omega) (fun q hq => by omega))
end
end
section
/-! X: bits, the order's masks, analyse -/
theorem bw_1 : ∀ i, i < 32 → bt (1 : Int32) i = decide (i = 0) := by decide
theorem bw_sh {r i : Nat} (hr : r < 32) (hi : i < 32) : bt ((1 : Int32) <<< (nI r &&& 31)) i = decide (i = r) := by
  rw [b_shl r hr 1 hi, bw_1 (i - r) (by omega)]
  by_cases h : r ≤ i
  · by_cases e : i = r
    · subst e; simp
    · have : ¬ i - r = 0 := by omega
      rw [decide_eq_false this, decide_eq_false e, Bool.and_false]
  · have e : ¬ i = r := by omega
    rw [decide_eq_false h, decide_eq_false e, Bool.false_and]
theorem bw_or {x : Int32} {r i : Nat} (hr : r < 32) (hi : i < 32) : bt (x ||| ((1 : Int32) <<< (nI r &&& 31))) i = true ↔ (bt x i = true ∨ i = r) := by
  rw [b_or, bw_sh hr hi, Bool.or_eq_true, decide_eq_true_iff]
theorem bw_c {x : Int32} {r : Nat} (hr : r < 31) : ∀ i, i < 32 → bt ((x >>> (nI r &&& 31)) &&& 1) i = (decide (i = 0) && bt x r) := fun i hi => by
  rw [b_and, b_sshr r (by omega) x hi, bw_1 i hi, Bool.and_comm]
  by_cases e : i = 0
  · subst e
    rw [if_pos (by omega), Nat.add_zero]
  · rw [decide_eq_false e, Bool.false_and, Bool.false_and]
theorem bw_t {x : Int32} {r : Nat} (hr : r < 31) (h : bt x r = true) : (x >>> (nI r &&& 31)) &&& 1 = 1 := b_ext fun i hi => by
  rw [bw_c hr i hi, h, bw_1 i hi, Bool.and_true]
theorem bw_f {x : Int32} {r : Nat} (hr : r < 31) (h : bt x r = false) : (x >>> (nI r &&& 31)) &&& 1 = 0 := b_ext fun i hi => by
  rw [bw_c hr i hi, h, b_0, Bool.and_false]
section
variable {m : sm_M} {f_solved f_shownSet f_rotationCount f_source f_sink f_nodes f_unlimited f_greatestFlow : Int32} {a_list a_rank a_weights a_top a_bar a_leave a_ideal a_filter a_row a_residual a_parent a_queue : Nat → Int32}
theorem xc_c {x : Int32} {r : Nat} (hr : r < 31) {post : Int32 → Prop} (h1 : bt x r = true → post 1) (h0 : bt x r = false → post 0) : wpX_contains post ((nI m.1), f_solved, f_shownSet, f_rotationCount, f_source, f_sink, f_nodes, f_unlimited, f_greatestFlow, a_list, a_rank, a_weights, a_top, a_bar, a_leave, a_ideal, a_filter, a_row, a_residual, a_parent, a_queue) x (nI r) := by
  cases h : bt x r
  · exact br_f (by rw [bw_f hr h]; decide) (h0 h)
  · exact br_t (bw_t hr h) (h1 h)
theorem xq_2 {r s : Nat} {b : Nat → Nat → Nat} (o : sm_ok m) (hr : r < 15) (hs : s < 15) (hbr : ∀ q, q < m.1 → a_bar (r * 6 + q) = nI (b r q)) (hbs : ∀ q, q < m.1 → a_bar (s * 6 + q) = nI (b s q)) (hlr : ∀ q, q < m.1 → b r q < 2 ^ 31) (hls : ∀ q, q < m.1 → b s q < 2 ^ 31) {post : Int32 → Prop}
    (h1 : (∀ q, q < m.1 → b r q ≤ b s q) → post 1) (h0 : (¬ ∀ q, q < m.1 → b r q ≤ b s q) → post 0) :
    ∀ f i, i ≤ m.1 → m.1 - i < f → (∀ q, q < i → b r q ≤ b s q) → wX_barsOrdered_2 post (nI r) (nI s) (nI m.1) f_solved f_shownSet f_rotationCount f_source f_sink f_nodes f_unlimited f_greatestFlow a_list a_rank a_weights a_top a_bar a_leave a_ideal a_filter a_row a_residual a_parent a_queue f (nI i) := by
  have o6 := o.1.2
  intro f
  induction f with
  | zero => intro i _ h; omega
  | succ f ih =>
    intro i hi hf hh
    refine pk_le m.1 i (fun z => h1 fun q hq => hh q (by omega)) (fun z => ?_)
    have e1 : nI r * 6 + nI i = nI (r * 6 + i) := by rw [← nI_add, ← pk_mul]; rfl
    have e2 : nI s * 6 + nI i = nI (s * 6 + i) := by rw [← nI_add, ← pk_mul]; rfl
    refine ⟨pk_in (r * 6 + i) 90 (by omega) e1, pk_in (s * 6 + i) 90 (by omega) e2, ?_⟩
    refine pk_le (b r i) (b s i) (fun y => ?_) (fun y => h0 fun g => by have := g i z; omega) (rd_c (r * 6 + i) (hbr i z) e1) (rd_c (s * 6 + i) (hbs i z) e2) (hlr i z) (hls i z)
    exact nm_r (nI_1 i) (ih (i + 1) (by omega) (by omega) fun q hq => by
      rcases Nat.lt_or_ge q i with x | x
      · exact hh q x
      · have : q = i := by omega
        subst this
        exact y)
end
def xq_V (od : Nat → Nat → Prop) (c r s : Nat) (idl fil : Nat → Int32) : Prop :=
  (∀ s' i, s' < c → i < 32 → (bt (idl s') i = true ↔ (i < c ∧ od i s' ∧ (i < r ∨ (i = r ∧ s' < s))))) ∧
  (∀ r' i, r' < c → i < 32 → (bt (fil r') i = true ↔ (i < c ∧ od r' i ∧ (r' < r ∨ (r' = r ∧ i < s)))))
theorem xq_V0 {od : Nat → Nat → Prop} {c : Nat} {idl fil : Nat → Int32} (h1 : ∀ s, s < c → idl s = 0) (h2 : ∀ s, s < c → fil s = 0) : xq_V od c 0 0 idl fil :=
  ⟨fun s i hs hi => by
    rw [h1 s hs, b_0]
    exact ⟨fun z => Bool.noConfusion z, fun z => by omega⟩, fun s i hs hi => by
    rw [h2 s hs, b_0]
    exact ⟨fun z => Bool.noConfusion z, fun z => by omega⟩⟩
theorem xq_Vr {od : Nat → Nat → Prop} {c r : Nat} {idl fil : Nat → Int32} (h : xq_V od c r c idl fil) : xq_V od c (r + 1) 0 idl fil :=
  ⟨fun s i hs hi => by
    rw [h.1 s i hs hi]
    have e : (i < r ∨ (i = r ∧ s < c)) ↔ (i < r + 1 ∨ (i = r + 1 ∧ s < 0)) := by omega
    rw [e], fun s i hs hi => by
    rw [h.2 s i hs hi]
    constructor
    · rintro ⟨a, b, d⟩
      exact ⟨a, b, by omega⟩
    · rintro ⟨a, b, d⟩
      exact ⟨a, b, by omega⟩⟩
theorem xq_Vn {od : Nat → Nat → Prop} {c r s : Nat} {idl fil : Nat → Int32} (h : xq_V od c r s idl fil) (hn : ¬ od r s) : xq_V od c r (s + 1) idl fil :=
  ⟨fun s' i hs hi => by
    rw [h.1 s' i hs hi]
    constructor
    · rintro ⟨a, b, d⟩
      exact ⟨a, b, by omega⟩
    · rintro ⟨a, b, d⟩
      refine ⟨a, b, ?_⟩
      by_cases e : i = r ∧ s' = s
      · rw [e.1, e.2] at b
        exact absurd b hn
      · omega, fun r' i hs hi => by
    rw [h.2 r' i hs hi]
    constructor
    · rintro ⟨a, b, d⟩
      exact ⟨a, b, by omega⟩
    · rintro ⟨a, b, d⟩
      refine ⟨a, b, ?_⟩
      by_cases e : r' = r ∧ i = s
      · rw [e.1, e.2] at b
        exact absurd b hn
      · omega⟩
theorem xq_Vy {od : Nat → Nat → Prop} {c r s : Nat} {idl fil : Nat → Int32} (hc : c ≤ 15) (hr : r < c) (hs : s < c) (h : xq_V od c r s idl fil) (hn : od r s) : xq_V od c r (s + 1) (upd idl s (idl s ||| ((1 : Int32) <<< (nI r &&& 31)))) (upd fil r (fil r ||| ((1 : Int32) <<< (nI s &&& 31)))) :=
  ⟨fun s' i hs' hi => by
    by_cases e : s' = s
    · subst e
      rw [pk_us, bw_or (by omega) hi, h.1 s' i hs' hi]
      constructor
      · rintro (⟨a, b, d⟩ | d)
        · exact ⟨a, b, by omega⟩
        · subst d
          exact ⟨hr, hn, by omega⟩
      · rintro ⟨a, b, d⟩
        by_cases e2 : i = r
        · exact Or.inr e2
        · exact Or.inl ⟨a, b, by omega⟩
    · rw [pk_un e, h.1 s' i hs' hi]
      have e2 : (i < r ∨ (i = r ∧ s' < s)) ↔ (i < r ∨ (i = r ∧ s' < s + 1)) := by omega
      rw [e2], fun r' i hs' hi => by
    by_cases e : r' = r
    · subst e
      rw [pk_us, bw_or (by omega) hi, h.2 r' i hs' hi]
      constructor
      · rintro (⟨a, b, d⟩ | d)
        · exact ⟨a, b, by omega⟩
        · subst d
          exact ⟨hs, hn, by omega⟩
      · rintro ⟨a, b, d⟩
        by_cases e2 : i = s
        · exact Or.inr e2
        · exact Or.inl ⟨a, b, by omega⟩
    · rw [pk_un e, h.2 r' i hs' hi]
      have e2 : (r' < r ∨ (r' = r ∧ i < s)) ↔ (r' < r ∨ (r' = r ∧ i < s + 1)) := by omega
      rw [e2]⟩
section
variable {m : sm_M} {f_solved f_shownSet f_rotationCount f_source f_sink f_nodes f_unlimited f_greatestFlow : Int32} {a_list a_rank a_weights a_top a_bar a_leave a_ideal a_filter a_row a_residual a_parent a_queue : Nat → Int32}
theorem xq_40 {c r : Nat} {b : Nat → Nat → Nat} (o : sm_ok m) (hc : c ≤ 15) (hr : r < c) (hb : ∀ r q, r < c → q < m.1 → a_bar (r * 6 + q) = nI (b r q)) (hbl : ∀ r q, r < c → q < m.1 → b r q < 2 ^ 31) {post : SX → Prop} {J : Int32 → (Nat → Int32) → (Nat → Int32) → (Nat → Int32) → (Nat → Int32) → (Nat → Int32) → (Nat → Int32) → (Nat → Int32) → (Nat → Int32) → (Nat → Int32) → (Nat → Int32) → (Nat → Int32) → (Nat → Int32) → Prop}
    (h : ∀ idl fil : Nat → Int32, xq_V (fun r s => ∀ q, q < m.1 → b r q ≤ b s q) c r c idl fil → J (nI (r + 1)) a_list a_rank a_weights a_top a_bar a_leave idl fil a_row a_residual a_parent a_queue) :
    ∀ f s (idl fil : Nat → Int32), s ≤ c → c - s < f → xq_V (fun r s => ∀ q, q < m.1 → b r q ≤ b s q) c r s idl fil → wX_relateRotations_40 post J (nI r) (nI m.1) f_solved f_shownSet (nI c) f_source f_sink f_nodes f_unlimited f_greatestFlow f (nI s) a_list a_rank a_weights a_top a_bar a_leave idl fil a_row a_residual a_parent a_queue := by
  intro f
  induction f with
  | zero => intro i _ _ _ h; omega
  | succ f ih =>
    intro s idl fil hs hf hV
    refine pk_le c s (fun z => nm_r (nI_1 r) (h idl fil ?_)) (fun z => ?_)
    · have : s = c := by omega
      rw [this] at hV
      exact hV
    · refine Exists.intro (m.1 + 1) (xq_2 o (by omega) (by omega) (fun q hq => hb r q hr hq) (fun q hq => hb s q z hq) (fun q hq => hbl r q hr hq) (fun q hq => hbl s q z hq) (fun g => ?_) (fun g => ?_) (m.1 + 1) 0 (by omega) (by omega) (fun q hq => by omega))
      · refine br_f (by decide) ⟨pk_in s 15 (by omega), pk_in s 15 (by omega), nm_r (e' := upd idl s (idl s ||| ((1 : Int32) <<< (nI r &&& 31)))) (by rw [nI_clamp (by omega)]) ⟨pk_in r 15 (by omega), pk_in r 15 (by omega), nm_r (e' := upd fil r (fil r ||| ((1 : Int32) <<< (nI s &&& 31)))) (by rw [nI_clamp (by omega)]) (nm_r (nI_1 s) (ih (s + 1) _ _ (by omega) (by omega) (xq_Vy hc hr z hV g)))⟩⟩
      · exact br_t rfl (nm_r (nI_1 s) (ih (s + 1) _ _ (by omega) (by omega) (xq_Vn hV g)))
theorem xq_30 {c : Nat} {b : Nat → Nat → Nat} (o : sm_ok m) (hc : c ≤ 15) (hb : ∀ r q, r < c → q < m.1 → a_bar (r * 6 + q) = nI (b r q)) (hbl : ∀ r q, r < c → q < m.1 → b r q < 2 ^ 31) {post : SX → Prop}
    (h : ∀ idl fil : Nat → Int32, xq_V (fun r s => ∀ q, q < m.1 → b r q ≤ b s q) c c 0 idl fil → post ((nI m.1), f_solved, f_shownSet, (nI c), f_source, f_sink, f_nodes, f_unlimited, f_greatestFlow, a_list, a_rank, a_weights, a_top, a_bar, a_leave, idl, fil, a_row, a_residual, a_parent, a_queue)) :
    ∀ f r (idl fil : Nat → Int32), r ≤ c → c - r < f → xq_V (fun r s => ∀ q, q < m.1 → b r q ≤ b s q) c r 0 idl fil → wX_relateRotations_30 post (nI m.1) f_solved f_shownSet (nI c) f_source f_sink f_nodes f_unlimited f_greatestFlow f (nI r) a_list a_rank a_weights a_top a_bar a_leave idl fil a_row a_residual a_parent a_queue := by
  intro f
  induction f with
  | zero => intro i _ _ _ h; omega
  | succ f ih =>
    intro r idl fil hr hf hV
    refine pk_le c r (fun z => h idl fil ?_) (fun z => ?_)
    · have : r = c := by omega
      rw [this] at hV
      exact hV
    · exact ⟨c + 1, xq_40 o hc z hb hbl (fun idl' fil' hV' => ih (r + 1) idl' fil' (by omega) (by omega) (xq_Vr hV')) (c + 1) 0 idl fil (by omega) (by omega) hV⟩
theorem xq_00 {c : Nat} {b : Nat → Nat → Nat} (o : sm_ok m) (hc : c ≤ 15) (hb : ∀ r q, r < c → q < m.1 → a_bar (r * 6 + q) = nI (b r q)) (hbl : ∀ r q, r < c → q < m.1 → b r q < 2 ^ 31) {post : SX → Prop}
    (h : ∀ idl fil : Nat → Int32, xq_V (fun r s => ∀ q, q < m.1 → b r q ≤ b s q) c c 0 idl fil → post ((nI m.1), f_solved, f_shownSet, (nI c), f_source, f_sink, f_nodes, f_unlimited, f_greatestFlow, a_list, a_rank, a_weights, a_top, a_bar, a_leave, idl, fil, a_row, a_residual, a_parent, a_queue)) :
    ∀ f i (idl fil : Nat → Int32), i ≤ 15 → 15 - i < f → (∀ s, s < i → idl s = 0) → (∀ s, s < i → fil s = 0) → wX_relateRotations_2 post (nI m.1) f_solved f_shownSet (nI c) f_source f_sink f_nodes f_unlimited f_greatestFlow f (nI i) a_list a_rank a_weights a_top a_bar a_leave idl fil a_row a_residual a_parent a_queue := by
  intro f
  induction f with
  | zero => intro i _ _ _ h; omega
  | succ f ih =>
    intro i idl fil hi hf h1 h2
    refine pk_le 15 i (fun z => ?_) (fun z => ?_)
    · exact ⟨c + 1, xq_30 o hc hb hbl h (c + 1) 0 idl fil (by omega) (by omega) (xq_V0 (fun s hs => h1 s (by omega)) (fun s hs => h2 s (by omega)))⟩
    · refine ⟨pk_in i 15 (by omega), nm_r (e' := upd idl i 0) (by rw [nI_clamp (by omega)]) ⟨pk_in i 15 (by omega), nm_r (e' := upd fil i 0) (by rw [nI_clamp (by omega)]) (nm_r (nI_1 i) (ih (i + 1) _ _ (by omega) (by omega) (fun s hs => ?_) (fun s hs => ?_)))⟩⟩
      · by_cases e : s = i
        · subst e; exact pk_us
        · rw [pk_un e]; exact h1 s (by omega)
      · by_cases e : s = i
        · subst e; exact pk_us
        · rw [pk_un e]; exact h2 s (by omega)
end
/-- X's solved tables -/
def xv_S (m : sm_M) (c : Nat) (ld : Nat → Nat) (lv : Nat → Nat → Nat) (top bar leave idl fil : Nat → Int32) : Prop :=
  xa_I m 36 c ld lv bar leave ∧ (∀ q, q < m.1 → top q = nI (sm_tp m q)) ∧
  (∀ s i, s < c → i < 32 → (bt (idl s) i = true ↔ (i < c ∧ sm_le m (sm_bj m (ld i)) (sm_bj m (ld s))))) ∧
  (∀ r i, r < c → i < 32 → (bt (fil r) i = true ↔ (i < c ∧ sm_le m (sm_bj m (ld r)) (sm_bj m (ld i)))))
section
variable {m : sm_M} {f_solved f_shownSet f_rotationCount f_source f_sink f_nodes f_unlimited f_greatestFlow : Int32} {a_list a_rank a_weights a_top a_bar a_leave a_ideal a_filter a_row a_residual a_parent a_queue : Nat → Int32}
theorem xn_32 (o : sm_ok m) (hl : ∀ i, a_list i = nI (m.2.1 i)) (hr : ∀ i, a_rank i = nI (m.2.2 i)) (ht : ∀ q, q < m.1 → a_top q = nI (sm_tp m q)) {post : SX → Prop}
    (h : ∀ (c : Nat) (ld : Nat → Nat) (lv : Nat → Nat → Nat) (row' bar' leave' idl fil : Nat → Int32), xv_S m c ld lv a_top bar' leave' idl fil → post ((nI m.1), f_solved, f_shownSet, (nI c), f_source, f_sink, f_nodes, f_unlimited, f_greatestFlow, a_list, a_rank, a_weights, a_top, bar', leave', idl, fil, row', a_residual, a_parent, a_queue)) :
    ∀ f p (c : Nat) (ld : Nat → Nat) (lv : Nat → Nat → Nat) (row bar leave : Nat → Int32), p ≤ m.1 → m.1 - p < f → xa_I m (p * 6) c ld lv bar leave → wX_analyse_32 post f (nI p) (nI m.1) f_solved f_shownSet (nI c) f_source f_sink f_nodes f_unlimited f_greatestFlow a_list a_rank a_weights a_top bar leave a_ideal a_filter row a_residual a_parent a_queue := by
  have o6 := o.1.2
  intro f
  induction f with
  | zero => intro p _ _ _ _ _ _ _ h; omega
  | succ f ih =>
    intro p c ld lv row bar leave hp hf hI
    refine pk_le m.1 p (fun z => ?_) (fun z => ?_)
    · have hI' : xa_I m 36 c ld lv bar leave := xa_ext o hI (by omega) fun j j1 j2 hj => by
        have := hj.1
        omega
      have c15 := sm_RL15 o hI'.1
      refine Exists.intro 16 (xq_00 o c15 (b := fun r => sm_bj m (ld r)) hI'.2.2.1 (fun r q hr hq => ?_) (fun idl fil hV => h c ld lv row bar leave idl fil ⟨hI', ht, fun s i hs hi => ?_, fun r i hr hi => ?_⟩) 16 0 a_ideal a_filter (by omega) (by omega) (fun s hs => by omega) (fun s hs => by omega))
      · have := (sm_bS o hI'.1 hr).1.1 q hq
        show sm_bj m (ld r) q < 2 ^ 31
        omega
      · rw [hV.1 s i hs hi]
        exact ⟨fun ⟨a, b, _⟩ => ⟨a, b⟩, fun ⟨a, b⟩ => ⟨a, b, Or.inl a⟩⟩
      · rw [hV.2 r i hr hi]
        exact ⟨fun ⟨a, b, _⟩ => ⟨a, b⟩, fun ⟨a, b⟩ => ⟨a, b, Or.inl hr⟩⟩
    · refine xl_t o hl hr z ht hI (fun c' ld' lv' row' bar' leave' hI' => nm_r (nI_1 p) (ih (p + 1) c' ld' lv' row' bar' leave' (by omega) (by omega) ?_))
      rw [Nat.add_mul, Nat.one_mul]
      exact hI'
theorem xn_11 (o : sm_ok m) (hl : ∀ i, a_list i = nI (m.2.1 i)) (hr : ∀ i, a_rank i = nI (m.2.2 i)) (ht : ∀ q, q < m.1 → a_top q = nI (sm_tp m q)) {post : SX → Prop}
    (h : ∀ (c : Nat) (ld : Nat → Nat) (lv : Nat → Nat → Nat) (row' bar' leave' idl fil : Nat → Int32), xv_S m c ld lv a_top bar' leave' idl fil → post ((nI m.1), f_solved, f_shownSet, (nI c), f_source, f_sink, f_nodes, f_unlimited, f_greatestFlow, a_list, a_rank, a_weights, a_top, bar', leave', idl, fil, row', a_residual, a_parent, a_queue)) :
    ∀ f i (leave : Nat → Int32), i ≤ 90 → 90 - i < f → (∀ j, j < i → leave j = nI 0 - 1) → wX_analyse_11 post (nI m.1) f_solved f_shownSet (nI 0) f_source f_sink f_nodes f_unlimited f_greatestFlow f (nI i) a_list a_rank a_weights a_top a_bar leave a_ideal a_filter a_row a_residual a_parent a_queue := by
  have o6 := o.1.2
  intro f
  induction f with
  | zero => intro p _ _ h; omega
  | succ f ih =>
    intro i leave hi hf hv
    refine pk_le 90 i (fun z => ?_) (fun z => ?_)
    · exact ⟨m.1 + 1, xn_32 o hl hr ht h (m.1 + 1) 0 0 (fun _ => 0) (fun _ _ => 0) a_row a_bar leave (by omega) (by omega) ⟨sm_RL0, fun r q k hr => by omega, fun r q hr => by omega, fun r q hr hq => hv _ (by omega), fun _ _ _ => rfl⟩⟩
    · refine ⟨pk_in i 90 (by omega), nm_r (e' := upd leave i (nI 0 - 1)) (by rw [nI_clamp (by omega)]; rfl) (nm_r (nI_1 i) (ih (i + 1) _ (by omega) (by omega) (fun s hs => ?_)))⟩
      by_cases e : s = i
      · subst e; exact pk_us
      · rw [pk_un e]; exact hv s (by omega)
theorem xn_a (o : sm_ok m) (hl : ∀ i, a_list i = nI (m.2.1 i)) (hr : ∀ i, a_rank i = nI (m.2.2 i)) {post : SX → Prop}
    (h : ∀ (c : Nat) (ld : Nat → Nat) (lv : Nat → Nat → Nat) (row' top' bar' leave' idl fil : Nat → Int32), xv_S m c ld lv top' bar' leave' idl fil → post ((nI m.1), f_solved, f_shownSet, (nI c), f_source, f_sink, f_nodes, f_unlimited, f_greatestFlow, a_list, a_rank, a_weights, top', bar', leave', idl, fil, row', a_residual, a_parent, a_queue)) : wpX_analyse post ((nI m.1), f_solved, f_shownSet, f_rotationCount, f_source, f_sink, f_nodes, f_unlimited, f_greatestFlow, a_list, a_rank, a_weights, a_top, a_bar, a_leave, a_ideal, a_filter, a_row, a_residual, a_parent, a_queue) := by
  unfold wpX_analyse
  refine xt_t o hl hr (fun row' top' h1 h2 => ?_)
  exact ⟨91, xn_11 o hl hr h2 (fun c ld lv row'' bar' leave' idl fil hS => h c ld lv row'' top' bar' leave' idl fil hS) 91 0 a_leave (by omega) (by omega) (fun j hj => by omega)⟩
theorem xn_s (o : sm_ok m) (hl : ∀ i, a_list i = nI (m.2.1 i)) (hr : ∀ i, a_rank i = nI (m.2.2 i)) (hs : f_solved = 0) {post : Int32 → SX → Prop}
    (h : ∀ (c : Nat) (ld : Nat → Nat) (lv : Nat → Nat → Nat) (row' top' bar' leave' idl fil : Nat → Int32), xv_S m c ld lv top' bar' leave' idl fil → post (nI c) ((nI m.1), 1, 0, (nI c), f_source, f_sink, f_nodes, f_unlimited, f_greatestFlow, a_list, a_rank, a_weights, top', bar', leave', idl, fil, row', a_residual, a_parent, a_queue)) : wpX_solve post ((nI m.1), f_solved, f_shownSet, f_rotationCount, f_source, f_sink, f_nodes, f_unlimited, f_greatestFlow, a_list, a_rank, a_weights, a_top, a_bar, a_leave, a_ideal, a_filter, a_row, a_residual, a_parent, a_queue) :=
  br_t hs (xn_a o hl hr (fun c ld lv row' top' bar' leave' idl fil hS => h c ld lv row' top' bar' leave' idl fil hS))
end
end
section
/-! X: costs, the network -/
def zi_I (z : Int) : Int32 := Int32.ofInt z
theorem zi_n (n : Nat) : zi_I (n : Int) = nI n := Int32.ofInt_eq_ofNat
theorem zi_t {z : Int} (h1 : -2147483648 ≤ z) (h2 : z < 2147483648) : (zi_I z).toInt = z := Int32.toInt_ofInt_of_le (by omega) (by omega)
theorem zi_le {A B : Prop} {z : Int} (h1 : -2147483648 ≤ z) (h2 : z < 2147483648) (f : 0 ≤ z → A) (g : z < 0 → B) : (0 ≤ zi_I z → A) ∧ (¬ 0 ≤ zi_I z → B) := by
  have e : (0 : Int32).toInt = 0 := by decide
  rw [Int32.le_iff_toInt_le, zi_t h1 h2, e]
  exact ⟨f, fun y => g (by omega)⟩
theorem zi_p {z : Int} (h : 0 ≤ z) : zi_I z = nI z.toNat := by
  rw [← zi_n, Int.toNat_of_nonneg h]
theorem zi_m {z : Int} (h : z < 0) : - zi_I z = nI (-z).toNat := by
  rw [← zi_p (by omega)]
  exact Int32.neg_ofInt
theorem pk_n1 {p : Nat} (h : p < 2 ^ 31) : (nI p - 1 < 0 ↔ p = 0) ∧ (0 ≤ nI p - 1 ↔ p ≠ 0) := by
  rcases Nat.eq_zero_or_pos p with z | z
  · subst z
    exact ⟨⟨fun _ => rfl, fun _ => by decide⟩, ⟨fun y => absurd y (by decide), fun y => absurd rfl y⟩⟩
  · obtain ⟨k, rfl⟩ : ∃ k, p = k + 1 := ⟨p - 1, by omega⟩
    rw [nI_pred]
    exact ⟨⟨fun y => absurd y (nI_pos (by omega)), fun y => by omega⟩, ⟨fun _ => by omega, fun _ => nI_pos' (by omega)⟩⟩
theorem pk_pl {x : Int32} {A B : Prop} (p : Nat) (hx : x = nI p - 1) (hp : p < 2 ^ 31) (f : p = 0 → A) (g : p ≠ 0 → B) : (x < 0 → A) ∧ (¬ x < 0 → B) := by
  subst hx
  rw [(pk_n1 hp).1]
  exact ⟨f, g⟩
theorem pk_pg {x : Int32} {A B : Prop} (p : Nat) (hx : x = nI p - 1) (hp : p < 2 ^ 31) (f : p ≠ 0 → A) (g : p = 0 → B) : (0 ≤ x → A) ∧ (¬ 0 ≤ x → B) := by
  subst hx
  rw [(pk_n1 hp).2]
  exact ⟨f, fun y => g (Classical.byContradiction fun z => y z)⟩
/-- X's cost as a number -/
def xk_w (m : sm_M) (w : Nat → Nat) : Nat → Nat → Int := sm_wf m w (fun a => w (6 + a))
theorem xk_wb {m : sm_M} (o : sm_ok m) {w : Nat → Nat} (hw : ∀ i, w i ≤ 20) {q k : Nat} (hq : q < m.1) (hk : k < m.1) : 0 ≤ xk_w m w q k ∧ xk_w m w q k ≤ 200 := by
  have o6 := o.1.2
  have a1 := hw q
  have a2 := hw (6 + sm_l m q k)
  have a3 := (o.2.2.2.2 (sm_l m q k) q (o.2.1 q k hq hk).1 hq).1
  have b1 : w q * k ≤ 20 * 5 := Nat.mul_le_mul a1 (by omega)
  have b2 : w (6 + sm_l m q k) * sm_ar m (sm_l m q k) q ≤ 20 * 5 := Nat.mul_le_mul a2 (by omega)
  have e : xk_w m w q k = ((w q * k + w (6 + sm_l m q k) * sm_ar m (sm_l m q k) q : Nat) : Int) := rfl
  rw [e]
  omega
theorem xk_chb {m : sm_M} (o : sm_ok m) {w : Nat → Nat} (hw : ∀ i, w i ≤ 20) {b lv : Nat → Nat → Nat} {r : Nat} (hb : ∀ q, q < m.1 → b r q < m.1) (hlv : ∀ q, q < m.1 → lv r q ≤ m.1) : -1200 ≤ sm_ch m (xk_w m w) b lv r ∧ sm_ch m (xk_w m w) b lv r ≤ 1200 := by
  have o6 := o.1.2
  have bd : ∀ q, q < m.1 → -200 ≤ (if lv r q ≠ 0 then xk_w m w q (b r q) - xk_w m w q (lv r q - 1) else 0) ∧ (if lv r q ≠ 0 then xk_w m w q (b r q) - xk_w m w q (lv r q - 1) else 0) ≤ 200 := fun q hq => by
    by_cases z : lv r q ≠ 0
    · rw [if_pos z]
      have a := xk_wb o hw hq (hb q hq)
      have b := xk_wb o hw (k := lv r q - 1) hq (by have := hlv q hq; omega)
      omega
    · rw [if_neg z]
      omega
  have u := zs_b (f := fun q => if lv r q ≠ 0 then xk_w m w q (b r q) - xk_w m w q (lv r q - 1) else 0) (c := 200) (k := m.1) (fun q hq => (bd q hq).2)
  have l := zs_b (f := fun q => 0 - (if lv r q ≠ 0 then xk_w m w q (b r q) - xk_w m w q (lv r q - 1) else 0)) (c := 200) (k := m.1) (fun q hq => by
    have := (bd q hq).1
    show 0 - (if lv r q ≠ 0 then xk_w m w q (b r q) - xk_w m w q (lv r q - 1) else 0) ≤ 200
    omega)
  rw [zs_sub, zs_0] at l
  have e : sm_ch m (xk_w m w) b lv r = zs_u (fun q => if lv r q ≠ 0 then xk_w m w q (b r q) - xk_w m w q (lv r q - 1) else 0) m.1 := rfl
  rw [e]
  omega
section
variable {m : sm_M} {f_solved f_shownSet f_rotationCount f_source f_sink f_nodes f_unlimited f_greatestFlow : Int32} {a_list a_rank a_weights a_top a_bar a_leave a_ideal a_filter a_row a_residual a_parent a_queue : Nat → Int32}
theorem xk_c (o : sm_ok m) (hl : ∀ i, a_list i = nI (m.2.1 i)) (hr : ∀ i, a_rank i = nI (m.2.2 i)) {w : Nat → Nat} (hwt : ∀ i, a_weights i = nI (w i)) {p k : Nat} (hp : p < m.1) (hk : k < m.1) {post : Int32 → Prop}
    (h : post (zi_I (xk_w m w p k))) {v : Int32} (hv : v = nI k := by rfl) : wpX_cost post ((nI m.1), f_solved, f_shownSet, f_rotationCount, f_source, f_sink, f_nodes, f_unlimited, f_greatestFlow, a_list, a_rank, a_weights, a_top, a_bar, a_leave, a_ideal, a_filter, a_row, a_residual, a_parent, a_queue) (nI p) v := by
  subst hv
  have o6 := o.1.2
  have ha := (o.2.1 p k hp hk).1
  have e6 : 6 + nI (sm_l m p k) = nI (6 + sm_l m p k) := by rw [← nI_add]; rfl
  unfold wpX_cost
  refine xs_0 p k ⟨pk_in (p * 6 + k) 72 (by omega), nm_r (e' := nI (sm_l m p k)) (rd_c (p * 6 + k) (hl _)) ⟨pk_in p 12 (by omega), pk_in (6 + sm_l m p k) 12 (by omega) e6, ?_⟩⟩
  refine xs_1 (sm_l m p k) p ⟨pk_in (36 + sm_l m p k * 6 + p) 72 (by omega), ?_⟩
  rw [nI_clamp (n := p) (by omega), e6, nI_clamp (n := 6 + sm_l m p k) (by omega), nI_clamp (n := 36 + sm_l m p k * 6 + p) (by omega), hwt, hwt, hr, pk_mul, pk_mul, nI_add, ← zi_n]
  exact h
theorem xk_4 (o : sm_ok m) (hl : ∀ i, a_list i = nI (m.2.1 i)) (hr : ∀ i, a_rank i = nI (m.2.2 i)) {w : Nat → Nat} (hwt : ∀ i, a_weights i = nI (w i)) {r : Nat} (hr15 : r < 15) {b lv : Nat → Nat → Nat} (hb : ∀ q, q < m.1 → a_bar (r * 6 + q) = nI (b r q)) (hbl : ∀ q, q < m.1 → b r q < m.1) (hv : ∀ q, q < m.1 → a_leave (r * 6 + q) = nI (lv r q) - 1) (hvl : ∀ q, q < m.1 → lv r q ≤ m.1) {post : Int32 → Prop}
    (h : post (zi_I (sm_ch m (xk_w m w) b lv r))) :
    ∀ f i, i ≤ m.1 → m.1 - i < f → wX_costChange_4 post (nI r) (nI m.1) f_solved f_shownSet f_rotationCount f_source f_sink f_nodes f_unlimited f_greatestFlow a_list a_rank a_weights a_top a_bar a_leave a_ideal a_filter a_row a_residual a_parent a_queue f (zi_I (zs_u (fun q => if lv r q ≠ 0 then xk_w m w q (b r q) - xk_w m w q (lv r q - 1) else 0) i)) (nI i) := by
  have o6 := o.1.2
  intro f
  induction f with
  | zero => intro i _ h; omega
  | succ f ih =>
    intro i hi hf
    refine pk_le m.1 i (fun z => ?_) (fun z => ?_)
    · have : i = m.1 := by omega
      subst this
      exact h
    · have e : nI r * 6 + nI i = nI (r * 6 + i) := by rw [← nI_add, ← pk_mul]; rfl
      have hvi := hvl i z
      have step : zs_u (fun q => if lv r q ≠ 0 then xk_w m w q (b r q) - xk_w m w q (lv r q - 1) else 0) (i + 1) = zs_u (fun q => if lv r q ≠ 0 then xk_w m w q (b r q) - xk_w m w q (lv r q - 1) else 0) i + (if lv r i ≠ 0 then xk_w m w i (b r i) - xk_w m w i (lv r i - 1) else 0) := rfl
      have ihs := ih (i + 1) (by omega) (by omega)
      refine nm_r e ⟨pk_in (r * 6 + i) 90 (by omega), ?_⟩
      refine pk_pl (lv r i) (rd_c (r * 6 + i) (hv i z)) (by omega) (fun y => ?_) (fun y => ?_)
      · rw [step, if_neg (fun x => x y), Int.add_zero] at ihs
        exact nm_r (nI_1 i) ihs
      · have el : a_leave (nI (r * 6 + i)).toNatClampNeg = nI (lv r i - 1) := by
          rw [nI_clamp (by omega), hv i z]
          obtain ⟨k, ek⟩ : ∃ k, lv r i = k + 1 := ⟨lv r i - 1, by omega⟩
          rw [ek, nI_pred, Nat.add_sub_cancel]
        refine ⟨pk_in (r * 6 + i) 90 (by omega), xk_c o hl hr hwt z (hbl i z) ⟨pk_in (r * 6 + i) 90 (by omega), xk_c o hl hr hwt (k := lv r i - 1) z (by omega) ?_ el⟩ (rd_c (r * 6 + i) (hb i z))⟩
        rw [step, if_pos y] at ihs
        refine nm_r ?_ (nm_r (nI_1 i) ihs)
        show Int32.ofInt _ + (Int32.ofInt _ - Int32.ofInt _) = Int32.ofInt _
        rw [← Int32.ofInt_sub, ← Int32.ofInt_add]
end
def nk_K (c : Nat) (D : Nat → Int) (ib : Nat → Nat → Bool) (i : Nat) : Nat :=
  if i / 17 = 15 then (if i % 17 < c then (- D (i % 17)).toNat else 0) else
  if i % 17 = 16 then (if i / 17 < c then (D (i / 17)).toNat else 0) else
  if i / 17 < c ∧ i % 17 < c ∧ i / 17 ≠ i % 17 ∧ ib (i / 17) (i % 17) = true then 1000000 else 0
theorem nk_uv {u v : Nat} (h : v < 17) : (u * 17 + v) / 17 = u ∧ (u * 17 + v) % 17 = v := by omega
theorem nk_op {c : Nat} {D : Nat → Int} {ib : Nat → Nat → Bool} {od : Nat → Nat → Prop} (hc : c ≤ 15) (hib : ∀ s r, s < c → r < c → (ib s r = true ↔ od r s)) : op_K c D od (nk_K c D ib) := by
  refine ⟨fun r hr => ?_, fun r hr => ?_, fun s r hs hr ne => ?_, fun u v hu hv n1 n2 n3 => ?_⟩
  · unfold nk_K
    rw [(nk_uv (show r < 17 by omega)).1, (nk_uv (show r < 17 by omega)).2, if_pos rfl, if_pos hr]
    split <;> omega
  · unfold nk_K
    rw [(nk_uv (show 16 < 17 by omega)).1, (nk_uv (show 16 < 17 by omega)).2, if_neg (by omega), if_pos rfl, if_pos hr]
    split <;> omega
  · unfold nk_K
    rw [(nk_uv (show r < 17 by omega)).1, (nk_uv (show r < 17 by omega)).2, if_neg (by omega), if_neg (by omega)]
    refine ⟨fun z => if_pos ⟨hs, hr, ne, (hib s r hs hr).mpr z⟩, fun z => if_neg (fun y => z ((hib s r hs hr).mp y.2.2.2))⟩
  · unfold nk_K
    rw [(nk_uv hv).1, (nk_uv hv).2]
    by_cases e1 : u = 15
    · rw [if_pos e1, if_neg (fun z => n1 ⟨e1, z⟩)]
    · rw [if_neg e1]
      by_cases e2 : v = 16
      · rw [if_pos e2, if_neg (fun z => n2 ⟨e2, z⟩)]
      · rw [if_neg e2, if_neg (fun z => n3 ⟨z.1, z.2.1, z.2.2.1⟩)]
theorem nk_b {c : Nat} {D : Nat → Int} {ib : Nat → Nat → Bool} (hD : ∀ r, r < c → -1200 ≤ D r ∧ D r ≤ 1200) (i : Nat) : nk_K c D ib i ≤ 1000000 := by
  unfold nk_K
  by_cases e1 : i / 17 = 15
  · rw [if_pos e1]
    by_cases z : i % 17 < c
    · rw [if_pos z]
      have := hD _ z
      omega
    · rw [if_neg z]; omega
  · rw [if_neg e1]
    by_cases e2 : i % 17 = 16
    · rw [if_pos e2]
      by_cases z : i / 17 < c
      · rw [if_pos z]
        have := hD _ z
        omega
      · rw [if_neg z]; omega
    · rw [if_neg e2]
      split <;> omega
def nk_A (κ : Nat → Nat) (A : Nat → Prop) (res : Nat → Int32) : Prop := (∀ i, i < 289 → A i → res i = nI (κ i)) ∧ (∀ i, i < 289 → ¬ A i → res i = nI 0)
def nk_R (r t i : Nat) : Prop := (i / 17 = 15 ∧ i % 17 < r + 1) ∨ i / 17 < r ∨ (i / 17 = r ∧ (i % 17 = 16 ∨ i % 17 < t))
def nk_0 (r i : Nat) : Prop := (i / 17 = 15 ∧ i % 17 < r) ∨ i / 17 < r
theorem nk_set {κ : Nat → Nat} {r t : Nat} {res : Nat → Int32} (hr : r < 15) (ht : t < 15) (h : nk_A κ (nk_R r t) res) : nk_A κ (nk_R r (t + 1)) (upd res (r * 17 + t) (nI (κ (r * 17 + t)))) := by
  unfold nk_A nk_R at *
  refine ⟨fun i hi z => ?_, fun i hi z => ?_⟩
  · by_cases e : i = r * 17 + t
    · rw [e, pk_us]
    · rw [pk_un e]
      exact h.1 i hi (by omega)
  · have e : i ≠ r * 17 + t := by omega
    rw [pk_un e]
    exact h.2 i hi (by omega)
theorem nk_keep {κ : Nat → Nat} {r t : Nat} {res : Nat → Int32} (hr : r < 15) (ht : t < 15) (h : nk_A κ (nk_R r t) res) (h0 : κ (r * 17 + t) = 0) : nk_A κ (nk_R r (t + 1)) res := by
  unfold nk_A nk_R at *
  refine ⟨fun i hi z => ?_, fun i hi z => ?_⟩
  · by_cases e : i = r * 17 + t
    · rw [e, h0]
      exact h.2 _ (by omega) (by omega)
    · exact h.1 i hi (by omega)
  · exact h.2 i hi (by omega)
theorem nk_end {c : Nat} {D : Nat → Int} {ib : Nat → Nat → Bool} {r : Nat} {res : Nat → Int32} (hr : r < 15) (hc : c ≤ 15) (h : nk_A (nk_K c D ib) (nk_R r c) res) : nk_A (nk_K c D ib) (nk_0 (r + 1)) res := by
  have kz : ∀ i, i / 17 = r → i % 17 ≠ 16 → c ≤ i % 17 → nk_K c D ib i = 0 := fun i e1 e2 e3 => by
    unfold nk_K
    rw [if_neg (by omega), if_neg e2, if_neg (by omega)]
  refine ⟨fun i hi z => ?_, fun i hi z => ?_⟩
  · by_cases y : nk_R r c i
    · exact h.1 i hi y
    · have a := h.2 i hi y
      unfold nk_R at y
      unfold nk_0 at z
      rw [kz i (by omega) (by omega) (by omega)]
      exact a
  · refine h.2 i hi fun y => ?_
    unfold nk_R at y
    unfold nk_0 at z
    omega
theorem nk_fin {c : Nat} {D : Nat → Int} {ib : Nat → Nat → Bool} {res : Nat → Int32} (hc : c ≤ 15) (h : nk_A (nk_K c D ib) (nk_0 c) res) : ∀ i, i < 289 → res i = nI (nk_K c D ib i) := fun i hi => by
  by_cases z : nk_0 c i
  · exact h.1 i hi z
  · rw [h.2 i hi z]
    unfold nk_0 at z
    have : nk_K c D ib i = 0 := by
      unfold nk_K
      by_cases e1 : i / 17 = 15
      · rw [if_pos e1, if_neg (by omega)]
      · rw [if_neg e1]
        by_cases e2 : i % 17 = 16
        · rw [if_pos e2, if_neg (by omega)]
        · rw [if_neg e2, if_neg (by omega)]
    rw [this]
theorem nk_pos {c : Nat} {D : Nat → Int} {ib : Nat → Nat → Bool} {r : Nat} {res : Nat → Int32} (hr : r < c) (hc : c ≤ 15) (h : nk_A (nk_K c D ib) (nk_0 r) res) (hD : 0 ≤ D r) : nk_A (nk_K c D ib) (nk_R r 0) (upd res (r * 17 + 16) (nI (D r).toNat)) := by
  have k1 : nk_K c D ib (r * 17 + 16) = (D r).toNat := by
    unfold nk_K
    rw [(nk_uv (show 16 < 17 by omega)).1, (nk_uv (show 16 < 17 by omega)).2, if_neg (by omega), if_pos rfl, if_pos hr]
  have k2 : nk_K c D ib (15 * 17 + r) = 0 := by
    unfold nk_K
    rw [(nk_uv (show r < 17 by omega)).1, (nk_uv (show r < 17 by omega)).2, if_pos rfl, if_pos hr]
    omega
  unfold nk_A nk_R nk_0 at *
  refine ⟨fun i hi z => ?_, fun i hi z => ?_⟩
  · by_cases e : i = r * 17 + 16
    · rw [e, pk_us, k1]
    · rw [pk_un e]
      by_cases e2 : i = 15 * 17 + r
      · rw [e2, k2]
        exact h.2 _ (by omega) (by omega)
      · exact h.1 i hi (by omega)
  · have e : i ≠ r * 17 + 16 := by omega
    rw [pk_un e]
    exact h.2 i hi (by omega)
theorem nk_neg {c : Nat} {D : Nat → Int} {ib : Nat → Nat → Bool} {r : Nat} {res : Nat → Int32} (hr : r < c) (hc : c ≤ 15) (h : nk_A (nk_K c D ib) (nk_0 r) res) (hD : D r < 0) : nk_A (nk_K c D ib) (nk_R r 0) (upd res (255 + r) (nI (- D r).toNat)) := by
  have k1 : nk_K c D ib (r * 17 + 16) = 0 := by
    unfold nk_K
    rw [(nk_uv (show 16 < 17 by omega)).1, (nk_uv (show 16 < 17 by omega)).2, if_neg (by omega), if_pos rfl, if_pos hr]
    omega
  have k2 : nk_K c D ib (15 * 17 + r) = (- D r).toNat := by
    unfold nk_K
    rw [(nk_uv (show r < 17 by omega)).1, (nk_uv (show r < 17 by omega)).2, if_pos rfl, if_pos hr]
  unfold nk_A nk_R nk_0 at *
  refine ⟨fun i hi z => ?_, fun i hi z => ?_⟩
  · by_cases e : i = 255 + r
    · rw [e, pk_us, ← k2]
    · rw [pk_un e]
      by_cases e2 : i = r * 17 + 16
      · rw [e2, k1]
        exact h.2 _ (by omega) (by omega)
      · exact h.1 i hi (by omega)
  · have e : i ≠ 255 + r := by omega
    rw [pk_un e]
    exact h.2 i hi (by omega)
section
variable {m : sm_M} {f_solved f_shownSet f_rotationCount f_source f_sink f_nodes f_unlimited f_greatestFlow : Int32} {a_list a_rank a_weights a_top a_bar a_leave a_ideal a_filter a_row a_residual a_parent a_queue : Nat → Int32}
theorem xk_l {c r : Nat} {D : Nat → Int} {ib : Nat → Nat → Bool} (hc : c ≤ 15) (hr : r < c) (hid : ∀ t, t < c → bt (a_ideal r) t = ib r t) {post : SX → Prop}
    (h : ∀ res : Nat → Int32, nk_A (nk_K c D ib) (nk_R r c) res → post ((nI m.1), f_solved, f_shownSet, (nI c), f_source, f_sink, f_nodes, f_unlimited, f_greatestFlow, a_list, a_rank, a_weights, a_top, a_bar, a_leave, a_ideal, a_filter, a_row, res, a_parent, a_queue)) :
    ∀ f t (res : Nat → Int32), t ≤ c → c - t < f → nk_A (nk_K c D ib) (nk_R r t) res → wX_linkPredecessors_2 post (nI r) (nI m.1) f_solved f_shownSet (nI c) f_source f_sink f_nodes f_unlimited f_greatestFlow f (nI t) a_list a_rank a_weights a_top a_bar a_leave a_ideal a_filter a_row res a_parent a_queue := by
  intro f
  induction f with
  | zero => intro i _ _ h; omega
  | succ f ih =>
    intro t res ht hf hA
    refine pk_le c t (fun z => h res ?_) (fun z => ?_)
    · have : t = c := by omega
      subst this
      exact hA
    · have kv : nk_K c D ib (r * 17 + t) = if r < c ∧ t < c ∧ r ≠ t ∧ ib r t = true then 1000000 else 0 := by
        unfold nk_K
        rw [(nk_uv (show t < 17 by omega)).1, (nk_uv (show t < 17 by omega)).2, if_neg (by omega), if_neg (by omega)]
      refine pk_eq t r (fun y => ?_) (fun y => ?_)
      · exact nm_r (nI_1 t) (ih (t + 1) res (by omega) (by omega) (nk_keep (by omega) (by omega) hA (by rw [kv, if_neg (fun x => x.2.2.1 y.symm)])))
      · refine ⟨pk_in r 15 (by omega), xc_c (by omega) (fun g => ?_) (fun g => ?_)⟩
        · rw [nI_clamp (by omega), hid t z] at g
          have e : nI r * 17 + nI t = nI (r * 17 + t) := by rw [← nI_add, ← pk_mul]; rfl
          have k1 : nk_K c D ib (r * 17 + t) = 1000000 := by rw [kv, if_pos ⟨hr, z, fun x => y x.symm, g⟩]
          have := nk_set (by omega) (by omega) hA (t := t)
          rw [k1] at this
          exact br_f (by decide) ⟨pk_in (r * 17 + t) 289 (by omega) e, nm_r (e' := upd res (r * 17 + t) (nI 1000000)) (by rw [e, nI_clamp (by omega)]; rfl) (nm_r (nI_1 t) (ih (t + 1) _ (by omega) (by omega) this))⟩
        · rw [nI_clamp (by omega), hid t z] at g
          exact br_t rfl (nm_r (nI_1 t) (ih (t + 1) res (by omega) (by omega) (nk_keep (by omega) (by omega) hA (by rw [kv, if_neg (fun x => by rw [g] at x; exact Bool.noConfusion x.2.2.2)]))))
theorem xk_24 {c : Nat} {w : Nat → Nat} {b lv : Nat → Nat → Nat} {ib : Nat → Nat → Bool} (o : sm_ok m) (hl : ∀ i, a_list i = nI (m.2.1 i)) (hr : ∀ i, a_rank i = nI (m.2.2 i)) (hwt : ∀ i, a_weights i = nI (w i)) (hw : ∀ i, w i ≤ 20) (hc : c ≤ 15)
    (hb : ∀ r q, r < c → q < m.1 → a_bar (r * 6 + q) = nI (b r q)) (hbl : ∀ r q, r < c → q < m.1 → b r q < m.1) (hv : ∀ r q, r < c → q < m.1 → a_leave (r * 6 + q) = nI (lv r q) - 1) (hvl : ∀ r q, r < c → q < m.1 → lv r q ≤ m.1) (hid : ∀ r t, r < c → t < c → bt (a_ideal r) t = ib r t) {post : SX → Prop}
    (h : ∀ res : Nat → Int32, (∀ i, i < 289 → res i = nI (nk_K c (sm_ch m (xk_w m w) b lv) ib i)) → post ((nI m.1), f_solved, f_shownSet, (nI c), f_source, f_sink, f_nodes, f_unlimited, f_greatestFlow, a_list, a_rank, a_weights, a_top, a_bar, a_leave, a_ideal, a_filter, a_row, res, a_parent, a_queue)) :
    ∀ f r (res : Nat → Int32), r ≤ c → c - r < f → nk_A (nk_K c (sm_ch m (xk_w m w) b lv) ib) (nk_0 r) res → wX_buildNetwork_24 post f (nI r) (nI m.1) f_solved f_shownSet (nI c) f_source f_sink f_nodes f_unlimited f_greatestFlow a_list a_rank a_weights a_top a_bar a_leave a_ideal a_filter a_row res a_parent a_queue := by
  have o6 := o.1.2
  intro f
  induction f with
  | zero => intro i _ _ h; omega
  | succ f ih =>
    intro r res hrc hf hA
    refine pk_le c r (fun z => h res ?_) (fun z => ?_)
    · have : r = c := by omega
      subst this
      exact nk_fin hc hA
    · have bd := xk_chb o hw (b := b) (lv := lv) (r := r) (fun q hq => hbl r q z hq) (fun q hq => hvl r q z hq)
      refine Exists.intro (m.1 + 1) (xk_4 o hl hr hwt (by omega) (fun q hq => hb r q z hq) (fun q hq => hbl r q z hq) (fun q hq => hv r q z hq) (fun q hq => hvl r q z hq) ?_ (m.1 + 1) 0 (by omega) (by omega))
      refine zi_le (by omega) (by omega) (fun y => ?_) (fun y => ?_)
      · have e : nI r * 17 + 16 = nI (r * 17 + 16) := by rw [← nI_add, ← pk_mul]; rfl
        refine ⟨pk_in (r * 17 + 16) 289 (by omega) e, nm_r (e' := upd res (r * 17 + 16) (nI (sm_ch m (xk_w m w) b lv r).toNat)) (by rw [e, nI_clamp (by omega), zi_p y]) ?_⟩
        exact Exists.intro (c + 1) (xk_l hc z (hid r · z) (fun res' hA' => nm_r (nI_1 r) (ih (r + 1) res' (by omega) (by omega) (nk_end (by omega) hc hA'))) (c + 1) 0 _ (by omega) (by omega) (nk_pos z hc hA y))
      · have e : 255 + nI r = nI (255 + r) := by rw [← nI_add]; rfl
        refine ⟨pk_in (255 + r) 289 (by omega) e, nm_r (e' := upd res (255 + r) (nI (- sm_ch m (xk_w m w) b lv r).toNat)) (by rw [e, nI_clamp (by omega), zi_m y]) ?_⟩
        exact Exists.intro (c + 1) (xk_l hc z (hid r · z) (fun res' hA' => nm_r (nI_1 r) (ih (r + 1) res' (by omega) (by omega) (nk_end (by omega) hc hA'))) (c + 1) 0 _ (by omega) (by omega) (nk_neg z hc hA y))
theorem xk_2 {c : Nat} {w : Nat → Nat} {b lv : Nat → Nat → Nat} {ib : Nat → Nat → Bool} (o : sm_ok m) (hl : ∀ i, a_list i = nI (m.2.1 i)) (hr : ∀ i, a_rank i = nI (m.2.2 i)) (hwt : ∀ i, a_weights i = nI (w i)) (hw : ∀ i, w i ≤ 20) (hc : c ≤ 15)
    (hb : ∀ r q, r < c → q < m.1 → a_bar (r * 6 + q) = nI (b r q)) (hbl : ∀ r q, r < c → q < m.1 → b r q < m.1) (hv : ∀ r q, r < c → q < m.1 → a_leave (r * 6 + q) = nI (lv r q) - 1) (hvl : ∀ r q, r < c → q < m.1 → lv r q ≤ m.1) (hid : ∀ r t, r < c → t < c → bt (a_ideal r) t = ib r t) {post : SX → Prop}
    (h : ∀ res : Nat → Int32, (∀ i, i < 289 → res i = nI (nk_K c (sm_ch m (xk_w m w) b lv) ib i)) → post ((nI m.1), f_solved, f_shownSet, (nI c), f_source, f_sink, f_nodes, f_unlimited, f_greatestFlow, a_list, a_rank, a_weights, a_top, a_bar, a_leave, a_ideal, a_filter, a_row, res, a_parent, a_queue)) :
    ∀ f i (res : Nat → Int32), i ≤ 289 → 289 - i < f → (∀ j, j < i → res j = nI 0) → wX_buildNetwork_2 post (nI m.1) f_solved f_shownSet (nI c) f_source f_sink f_nodes f_unlimited f_greatestFlow f (nI i) a_list a_rank a_weights a_top a_bar a_leave a_ideal a_filter a_row res a_parent a_queue := by
  intro f
  induction f with
  | zero => intro i _ _ h; omega
  | succ f ih =>
    intro i res hi hf hz
    refine pk_le 289 i (fun z => ?_) (fun z => ?_)
    · exact ⟨c + 1, xk_24 o hl hr hwt hw hc hb hbl hv hvl hid h (c + 1) 0 res (by omega) (by omega) ⟨fun i hi y => by unfold nk_0 at y; omega, fun i hi _ => hz i (by omega)⟩⟩
    · refine ⟨pk_in i 289 (by omega), nm_r (e' := upd res i (nI 0)) (by rw [nI_clamp (by omega)]; rfl) (nm_r (nI_1 i) (ih (i + 1) _ (by omega) (by omega) fun j hj => ?_))⟩
      by_cases e : j = i
      · subst e; exact pk_us
      · rw [pk_un e]; exact hz j (by omega)
theorem xk_b {c : Nat} {w : Nat → Nat} {b lv : Nat → Nat → Nat} {ib : Nat → Nat → Bool} (o : sm_ok m) (hl : ∀ i, a_list i = nI (m.2.1 i)) (hr : ∀ i, a_rank i = nI (m.2.2 i)) (hwt : ∀ i, a_weights i = nI (w i)) (hw : ∀ i, w i ≤ 20) (hc : c ≤ 15)
    (hb : ∀ r q, r < c → q < m.1 → a_bar (r * 6 + q) = nI (b r q)) (hbl : ∀ r q, r < c → q < m.1 → b r q < m.1) (hv : ∀ r q, r < c → q < m.1 → a_leave (r * 6 + q) = nI (lv r q) - 1) (hvl : ∀ r q, r < c → q < m.1 → lv r q ≤ m.1) (hid : ∀ r t, r < c → t < c → bt (a_ideal r) t = ib r t) {post : SX → Prop}
    (h : ∀ res : Nat → Int32, (∀ i, i < 289 → res i = nI (nk_K c (sm_ch m (xk_w m w) b lv) ib i)) → post ((nI m.1), f_solved, f_shownSet, (nI c), f_source, f_sink, f_nodes, f_unlimited, f_greatestFlow, a_list, a_rank, a_weights, a_top, a_bar, a_leave, a_ideal, a_filter, a_row, res, a_parent, a_queue)) : wpX_buildNetwork post ((nI m.1), f_solved, f_shownSet, (nI c), f_source, f_sink, f_nodes, f_unlimited, f_greatestFlow, a_list, a_rank, a_weights, a_top, a_bar, a_leave, a_ideal, a_filter, a_row, a_residual, a_parent, a_queue) :=
  Exists.intro 290 (xk_2 o hl hr hwt hw hc hb hbl hv hvl hid h 290 0 a_residual (by omega) (by omega) (fun j hj => by omega))
end
end
section
/-! X: the search, the push, the optimum -/
theorem fl_BP {ρ P Q : Nat → Nat} {fil : Nat} (h : fl_B ρ P Q fil) {v : Nat} (hv : v < 17) : P v ≤ 17 := by
  rcases Nat.eq_zero_or_pos (P v) with z | z
  · omega
  · obtain ⟨i, hi, e⟩ := (h.2.2.2.2.2.1 v hv).mp (by omega)
    rcases Nat.eq_zero_or_pos i with y | y
    · rw [y, h.2.1] at e
      rw [← e, h.2.2.1]
      omega
    · obtain ⟨j, j1, j2, _⟩ := h.2.2.2.2.2.2 i y hi
      have := h.2.2.2.1 j (by omega)
      rw [← e, j2]
      omega
section
variable {m : sm_M} {f_solved f_shownSet f_rotationCount f_source f_sink f_nodes f_unlimited f_greatestFlow : Int32} {a_list a_rank a_weights a_top a_bar a_leave a_ideal a_filter a_row a_residual a_parent a_queue : Nat → Int32}
theorem xg_5 {ρ : Nat → Nat} {hd fr : Nat} (hres : ∀ i, i < 289 → a_residual i = nI (ρ i)) (hρ : ∀ i, i < 289 → ρ i < 2 ^ 31) (hfr : fr < 17) {post : Int32 → SX → Prop}
    (h : ∀ (fil : Nat) (par que : Nat → Int32) (P Q : Nat → Nat), (∀ x, x < 17 → par x = nI (P x) - 1) → (∀ i, i < fil → que i = nI (Q i)) → fl_B ρ P Q fil → hd < fil → (∀ i, i < hd + 1 → ∀ v, v < 17 → 0 < ρ (Q i * 17 + v) → P v ≠ 0) → post (nI fil) ((nI m.1), f_solved, f_shownSet, f_rotationCount, f_source, f_sink, f_nodes, f_unlimited, f_greatestFlow, a_list, a_rank, a_weights, a_top, a_bar, a_leave, a_ideal, a_filter, a_row, a_residual, par, que)) :
    ∀ f v (fil : Nat) (par que : Nat → Int32) (P Q : Nat → Nat), v ≤ 17 → 17 - v < f → (∀ x, x < 17 → par x = nI (P x) - 1) → (∀ i, i < fil → que i = nI (Q i)) → fl_B ρ P Q fil → hd < fil → Q hd = fr → (∀ i, i < hd → ∀ v, v < 17 → 0 < ρ (Q i * 17 + v) → P v ≠ 0) → (∀ y, y < v → 0 < ρ (fr * 17 + y) → P y ≠ 0) → wX_spread_5 post (nI fr) (nI m.1) f_solved f_shownSet f_rotationCount f_source f_sink f_nodes f_unlimited f_greatestFlow f (nI fil) (nI v) a_list a_rank a_weights a_top a_bar a_leave a_ideal a_filter a_row a_residual par que := by
  intro f
  induction f with
  | zero => intro v _ _ _ _ _ _ h; omega
  | succ f ih =>
    intro v fil par que P Q hv hf hpar hque hB hhd hq hsc hpr
    have B17 := fl_B17 hB
    refine pk_le 17 v (fun z => h fil par que P Q hpar hque hB hhd fun i hi x hx hp => ?_) (fun z => ?_)
    · rcases Nat.lt_or_ge i hd with y | y
      · exact hsc i y x hx hp
      · have : i = hd := by omega
        rw [this, hq] at hp
        exact hpr x (by omega) hp
    · have hPv := fl_BP hB z
      refine ⟨pk_in v 17 z, pk_pg (P v) (rd_c v (hpar v z)) (by omega) (fun y => ?_) (fun y => ?_)⟩
      · exact nm_r (nI_1 v) (ih (v + 1) fil par que P Q (by omega) (by omega) hpar hque hB hhd hq hsc (fun x hx hp => by
          rcases Nat.lt_or_ge x v with w | w
          · exact hpr x w hp
          · have : x = v := by omega
            rw [this]; exact y))
      · have e : nI fr * 17 + nI v = nI (fr * 17 + v) := by rw [← nI_add, ← pk_mul]; rfl
        refine ⟨pk_in (fr * 17 + v) 289 (by omega) e, ?_⟩
        refine pk_le (ρ (fr * 17 + v)) 0 (fun w => ?_) (fun w => ?_) (rd_c (fr * 17 + v) (hres _ (by omega)) e) rfl (hρ _ (by omega))
        · exact nm_r (nI_1 v) (ih (v + 1) fil par que P Q (by omega) (by omega) hpar hque hB hhd hq hsc (fun x hx hp => by
            rcases Nat.lt_or_ge x v with w' | w'
            · exact hpr x w' hp
            · have : x = v := by omega
              rw [this] at hp
              omega))
        · have fl := fl_Bl hB z y
          have hB' := fl_Ba hB hhd z y (by rw [hq]; exact w)
          have mono : ∀ x, P x ≠ 0 → nu_u P v (Q hd + 1) x ≠ 0 := fun x hx => by
            by_cases e' : x = v
            · rw [e', nu_s]; omega
            · rw [nu_n e']; exact hx
          refine ⟨pk_in v 17 z, nm_r (e' := upd par v (nI fr)) (by rw [nI_clamp (by omega)]) ⟨pk_in fil 17 fl, nm_r (e' := upd que fil (nI v)) (by rw [nI_clamp (by omega)]) (nm_r (nI_1 fil) (nm_r (nI_1 v) (ih (v + 1) (fil + 1) _ _ (nu_u P v (Q hd + 1)) (nu_u Q fil v) (by omega) (by omega) (fun x hx => ?_) (fun i hi => ?_) hB' (by omega) (by rw [nu_n (by omega)]; exact hq) (fun i hi x hx hp => ?_) (fun x hx hp => ?_))))⟩⟩
          · by_cases e' : x = v
            · rw [e', pk_us, nu_s, hq, nI_pred]
            · rw [pk_un e', nu_n e']; exact hpar x hx
          · by_cases e' : i = fil
            · rw [e', pk_us, nu_s]
            · rw [pk_un e', nu_n e']; exact hque i (by omega)
          · rw [nu_n (by omega)] at hp
            exact mono x (hsc i hi x hx hp)
          · rcases Nat.lt_or_ge x v with w' | w'
            · exact mono x (hpr x w' hp)
            · have : x = v := by omega
              rw [this, nu_s]; omega
theorem xg_42 {ρ : Nat → Nat} (hres : ∀ i, i < 289 → a_residual i = nI (ρ i)) (hρ : ∀ i, i < 289 → ρ i < 2 ^ 31) {post : Int32 → SX → Prop}
    (h : ∀ (fil : Nat) (par que : Nat → Int32) (P Q : Nat → Nat), (∀ x, x < 17 → par x = nI (P x) - 1) → fl_B ρ P Q fil → (∀ i, i < fil → ∀ v, v < 17 → 0 < ρ (Q i * 17 + v) → P v ≠ 0) → (P 16 = 0 → post 0 ((nI m.1), f_solved, f_shownSet, f_rotationCount, f_source, f_sink, f_nodes, f_unlimited, f_greatestFlow, a_list, a_rank, a_weights, a_top, a_bar, a_leave, a_ideal, a_filter, a_row, a_residual, par, que)) ∧ (P 16 ≠ 0 → post 1 ((nI m.1), f_solved, f_shownSet, f_rotationCount, f_source, f_sink, f_nodes, f_unlimited, f_greatestFlow, a_list, a_rank, a_weights, a_top, a_bar, a_leave, a_ideal, a_filter, a_row, a_residual, par, que))) :
    ∀ f hd (fil : Nat) (par que : Nat → Int32) (P Q : Nat → Nat), 17 - hd < f → hd ≤ fil → (∀ x, x < 17 → par x = nI (P x) - 1) → (∀ i, i < fil → que i = nI (Q i)) → fl_B ρ P Q fil → (∀ i, i < hd → ∀ v, v < 17 → 0 < ρ (Q i * 17 + v) → P v ≠ 0) → wX_findPath_42 post f (nI fil) (nI hd) (nI m.1) f_solved f_shownSet f_rotationCount f_source f_sink f_nodes f_unlimited f_greatestFlow a_list a_rank a_weights a_top a_bar a_leave a_ideal a_filter a_row a_residual par que := by
  intro f
  induction f with
  | zero => intro v _ _ _ _ _ h; omega
  | succ f ih =>
    intro hd fil par que P Q hf hh hpar hque hB hsc
    have B17 := fl_B17 hB
    have fin : hd = fil → wX_findPath_71 post (nI m.1) f_solved f_shownSet f_rotationCount f_source f_sink f_nodes f_unlimited f_greatestFlow a_list a_rank a_weights a_top a_bar a_leave a_ideal a_filter a_row a_residual par que := fun e => by
      subst e
      have g := h hd par que P Q hpar hB hsc
      have h16 := fl_BP hB (v := 16) (by omega)
      exact pk_pl (P 16) (hpar 16 (by omega)) (by omega) g.1 g.2
    refine pk_le 17 hd (fun z => fin (by omega)) (fun z => ?_)
    refine pk_le fil hd (fun y => fin (by omega)) (fun y => ?_)
    refine ⟨pk_in hd 17 z, ?_⟩
    have hQ := hB.2.2.2.1 hd y
    have eq : que (nI hd).toNatClampNeg = nI (Q hd) := rd_c hd (hque hd y)
    rw [eq]
    exact Exists.intro 18 (xg_5 hres hρ hQ (fun fil' par' que' P' Q' p1 p2 p3 p4 p5 => nm_r (nI_1 hd) (ih (hd + 1) fil' par' que' P' Q' (by omega) (by omega) p1 p2 p3 p5)) 18 0 fil par que P Q (by omega) (by omega) hpar hque hB y rfl hsc (fun x hx => by omega))
theorem xg_2 {ρ : Nat → Nat} (hres : ∀ i, i < 289 → a_residual i = nI (ρ i)) (hρ : ∀ i, i < 289 → ρ i < 2 ^ 31) {post : Int32 → SX → Prop}
    (h : ∀ (fil : Nat) (par que : Nat → Int32) (P Q : Nat → Nat), (∀ x, x < 17 → par x = nI (P x) - 1) → fl_B ρ P Q fil → (∀ i, i < fil → ∀ v, v < 17 → 0 < ρ (Q i * 17 + v) → P v ≠ 0) → (P 16 = 0 → post 0 ((nI m.1), f_solved, f_shownSet, f_rotationCount, f_source, f_sink, f_nodes, f_unlimited, f_greatestFlow, a_list, a_rank, a_weights, a_top, a_bar, a_leave, a_ideal, a_filter, a_row, a_residual, par, que)) ∧ (P 16 ≠ 0 → post 1 ((nI m.1), f_solved, f_shownSet, f_rotationCount, f_source, f_sink, f_nodes, f_unlimited, f_greatestFlow, a_list, a_rank, a_weights, a_top, a_bar, a_leave, a_ideal, a_filter, a_row, a_residual, par, que))) :
    ∀ f i (par : Nat → Int32), i ≤ 17 → 17 - i < f → (∀ x, x < i → par x = nI 0 - 1) → wX_findPath_2 post (nI m.1) f_solved f_shownSet f_rotationCount f_source f_sink f_nodes f_unlimited f_greatestFlow f (nI i) a_list a_rank a_weights a_top a_bar a_leave a_ideal a_filter a_row a_residual par a_queue := by
  intro f
  induction f with
  | zero => intro v _ _ h; omega
  | succ f ih =>
    intro i par hi hf hz
    refine pk_le 17 i (fun z => ?_) (fun z => ?_)
    · refine nm_e (nm_e ⟨18, ?_⟩)
      refine xg_42 hres hρ h 18 0 1 _ _ (nu_u (fun _ => 0) 15 16) (nu_u (fun _ => 0) 0 15) (by omega) (by omega) (fun x hx => ?_) (fun j hj => ?_) (fl_B0 (fun _ _ => rfl)) (fun j hj => by omega)
      · by_cases e : x = 15
        · rw [e, pk_us, nu_s]; rfl
        · rw [pk_un e, nu_n e]; exact hz x (by omega)
      · have : j = 0 := by omega
        rw [this, pk_us, nu_s]; rfl
    · refine ⟨pk_in i 17 z, nm_r (e' := upd par i (nI 0 - 1)) (by rw [nI_clamp (by omega)]; rfl) (nm_r (nI_1 i) (ih (i + 1) _ (by omega) (by omega) fun x hx => ?_))⟩
      by_cases e : x = i
      · subst e; exact pk_us
      · rw [pk_un e]; exact hz x (by omega)
theorem xg_f {ρ : Nat → Nat} (hres : ∀ i, i < 289 → a_residual i = nI (ρ i)) (hρ : ∀ i, i < 289 → ρ i < 2 ^ 31) {post : Int32 → SX → Prop}
    (h : ∀ (fil : Nat) (par que : Nat → Int32) (P Q : Nat → Nat), (∀ x, x < 17 → par x = nI (P x) - 1) → fl_B ρ P Q fil → (∀ i, i < fil → ∀ v, v < 17 → 0 < ρ (Q i * 17 + v) → P v ≠ 0) → (P 16 = 0 → post 0 ((nI m.1), f_solved, f_shownSet, f_rotationCount, f_source, f_sink, f_nodes, f_unlimited, f_greatestFlow, a_list, a_rank, a_weights, a_top, a_bar, a_leave, a_ideal, a_filter, a_row, a_residual, par, que)) ∧ (P 16 ≠ 0 → post 1 ((nI m.1), f_solved, f_shownSet, f_rotationCount, f_source, f_sink, f_nodes, f_unlimited, f_greatestFlow, a_list, a_rank, a_weights, a_top, a_bar, a_leave, a_ideal, a_filter, a_row, a_residual, par, que))) : wpX_findPath post ((nI m.1), f_solved, f_shownSet, f_rotationCount, f_source, f_sink, f_nodes, f_unlimited, f_greatestFlow, a_list, a_rank, a_weights, a_top, a_bar, a_leave, a_ideal, a_filter, a_row, a_residual, a_parent, a_queue) :=
  Exists.intro 18 (xg_2 hres hρ h 18 0 a_parent (by omega) (by omega) (fun x hx => by omega))
theorem xg_8 {ρ P : Nat → Nat} {L : Nat} {v : Nat → Nat} (pa : fl_pa ρ P 16 L v) (hL : L ≤ 16) (hpar : ∀ x, x < 17 → a_parent x = nI (P x) - 1) (hres : ∀ i, i < 289 → a_residual i = nI (ρ i)) (hρ : ∀ i, i < 289 → ρ i < 2 ^ 31) {post : Int32 → Prop}
    (h : ∀ a, 0 < a → (∀ s, s < L → a ≤ ρ (v (s + 1) * 17 + v s)) → post (nI a)) :
    ∀ f s a, s ≤ L → L - s < f → 0 < a → a ≤ 1000000 → (∀ t, t < s → a ≤ ρ (v (t + 1) * 17 + v t)) → wX_bottleneck_8 post (nI m.1) f_solved f_shownSet f_rotationCount f_source f_sink f_nodes f_unlimited f_greatestFlow a_list a_rank a_weights a_top a_bar a_leave a_ideal a_filter a_row a_residual a_parent a_queue f (nI a) (nI (v s)) (nI s) := by
  obtain ⟨p1, p2, p3, p4, p5, p6⟩ := pa
  intro f
  induction f with
  | zero => intro v _ _ h; omega
  | succ f ih =>
    intro s a hs hf ha0 ha hh
    refine pk_le 17 s (fun z => by omega) (fun z => ?_)
    have l1 := p4 s hs
    refine pk_eq (v s) 15 (fun y => ?_) (fun y => ?_)
    · have : ¬ s < L := fun w => p3 s w y
      exact h a ha0 fun t ht => hh t (by omega)
    · have sL : s < L := by
        rcases Nat.lt_or_ge s L with w | w
        · exact w
        · have : s = L := by omega
          rw [this] at y
          exact absurd p2 y
      have l2 := p4 (s + 1) sL
      obtain ⟨q1, q2⟩ := p5 s sL
      have ep : a_parent (nI (v s)).toNatClampNeg = nI (v (s + 1)) := rd_c (v s) (by rw [hpar _ l1, q1, nI_pred])
      have e : nI (v (s + 1)) * 17 + nI (v s) = nI (v (s + 1) * 17 + v s) := by rw [← nI_add, ← pk_mul]; rfl
      have eR : a_residual (nI (v (s + 1) * 17 + v s)).toNatClampNeg = nI (ρ (v (s + 1) * 17 + v s)) := rd_c (v (s + 1) * 17 + v s) (hres _ (by omega))
      have bR := hρ (v (s + 1) * 17 + v s) (by omega)
      rw [ep, e, eR]
      refine ⟨pk_in (v s) 17 l1, pk_in (v (s + 1) * 17 + v s) 289 (by omega), nm_e ?_⟩
      refine pk_le a (ρ (v (s + 1) * 17 + v s)) (fun w => ?_) (fun w => ?_)
      · exact ⟨pk_in (v s) 17 l1, nm_e (nm_r (nI_1 s) (ih (s + 1) a (by omega) (by omega) ha0 ha fun t ht => by
          rcases Nat.lt_or_ge t s with u | u
          · exact hh t u
          · have : t = s := by omega
            rw [this]; exact w))⟩
      · exact ⟨pk_in (v s) 17 l1, nm_e (nm_r (nI_1 s) (ih (s + 1) _ (by omega) (by omega) q2 (by omega) fun t ht => by
          rcases Nat.lt_or_ge t s with u | u
          · have := hh t u
            omega
          · have : t = s := by omega
            rw [this]; exact Nat.le_refl _))⟩
theorem xg_10 {ρ P : Nat → Nat} {L a : Nat} {v : Nat → Nat} (pa : fl_pa ρ P 16 L v) (hL : L ≤ 16) (ha : ∀ s, s < L → a ≤ ρ (v (s + 1) * 17 + v s)) (hpar : ∀ x, x < 17 → a_parent x = nI (P x) - 1) {post : SX → Prop}
    (h : ∀ (ρ' : Nat → Nat) (res : Nat → Int32), (∀ i, i < 289 → res i = nI (ρ' i)) → fl_ps ρ ρ' L a v L → post ((nI m.1), f_solved, f_shownSet, f_rotationCount, f_source, f_sink, f_nodes, f_unlimited, f_greatestFlow, a_list, a_rank, a_weights, a_top, a_bar, a_leave, a_ideal, a_filter, a_row, res, a_parent, a_queue)) :
    ∀ f s (ρ' : Nat → Nat) (res : Nat → Int32), s ≤ L → L - s < f → (∀ i, i < 289 → res i = nI (ρ' i)) → fl_ps ρ ρ' L a v s → wX_pushAlongPath_10 post (nI a) (nI m.1) f_solved f_shownSet f_rotationCount f_source f_sink f_nodes f_unlimited f_greatestFlow f (nI (v s)) (nI s) a_list a_rank a_weights a_top a_bar a_leave a_ideal a_filter a_row res a_parent a_queue := by
  have pa' := pa
  obtain ⟨p1, p2, p3, p4, p5, p6⟩ := pa
  intro f
  induction f with
  | zero => intro v _ _ _ h; omega
  | succ f ih =>
    intro s ρ' res hs hf hres hps
    refine pk_le 17 s (fun z => by omega) (fun z => ?_)
    have l1 := p4 s hs
    refine pk_eq (v s) 15 (fun y => ?_) (fun y => ?_)
    · have : s = L := by
        rcases Nat.lt_or_ge s L with w | w
        · exact absurd y (p3 s w)
        · omega
      subst this
      exact h ρ' res hres hps
    · have sL : s < L := by
        rcases Nat.lt_or_ge s L with w | w
        · exact w
        · have : s = L := by omega
          rw [this] at y
          exact absurd p2 y
      have l2 := p4 (s + 1) sL
      obtain ⟨q1, q2⟩ := p5 s sL
      have ep : a_parent (nI (v s)).toNatClampNeg = nI (v (s + 1)) := rd_c (v s) (by rw [hpar _ l1, q1, nI_pred])
      have e : nI (v (s + 1)) * 17 + nI (v s) = nI (v (s + 1) * 17 + v s) := by rw [← nI_add, ← pk_mul]; rfl
      have e2 : nI (v s) * 17 + nI (v (s + 1)) = nI (v s * 17 + v (s + 1)) := by rw [← nI_add, ← pk_mul]; rfl
      have bR : a ≤ ρ' (v (s + 1) * 17 + v s) := by rw [hps.1 s (Nat.le_refl _) sL]; exact ha s sL
      have ne : v s ≠ v (s + 1) := p6 s (s + 1) (by omega) (by omega)
      have ni : v s * 17 + v (s + 1) ≠ v (s + 1) * 17 + v s := fun w => ne (fl_ix l2 l1 w).1
      have key := ih (s + 1) _ (upd (upd res (v (s + 1) * 17 + v s) (nI (ρ' (v (s + 1) * 17 + v s) - a))) (v s * 17 + v (s + 1)) (nI (nu_u ρ' (v (s + 1) * 17 + v s) (ρ' (v (s + 1) * 17 + v s) - a) (v s * 17 + v (s + 1)) + a))) (by omega) (by omega) (fun i hi => by
        by_cases c1 : i = v s * 17 + v (s + 1)
        · rw [c1, pk_us, nu_s]
        · rw [pk_un c1, nu_n c1]
          by_cases c2 : i = v (s + 1) * 17 + v s
          · rw [c2, pk_us, nu_s]
          · rw [pk_un c2, nu_n c2]; exact hres i hi) (fl_psS pa' hps sL (ha s sL))
      refine ⟨pk_in (v s) 17 l1, nm_r ep ?_⟩
      rw [e, e2]
      refine ⟨pk_in (v (s + 1) * 17 + v s) 289 (by omega), pk_in (v (s + 1) * 17 + v s) 289 (by omega), nm_r (e' := upd res (v (s + 1) * 17 + v s) (nI (ρ' (v (s + 1) * 17 + v s) - a))) ?_ ⟨pk_in (v s * 17 + v (s + 1)) 289 (by omega), pk_in (v s * 17 + v (s + 1)) 289 (by omega), nm_r ?_ (nm_r (nI_1 s) key)⟩⟩
      · rw [nI_clamp (by omega), hres _ (by omega), pk_sub bR]
      · rw [nI_clamp (by omega), pk_un ni, hres _ (by omega), nu_n ni, nI_add]
theorem xg_4 {c : Nat} {P : Nat → Nat} (hc : c ≤ 15) (hP : ∀ x, x < 17 → P x < 2 ^ 31) (hpar : ∀ x, x < 17 → a_parent x = nI (P x) - 1) {post : Int32 → Prop}
    (h : ∀ sh : Int32, (∀ i, i < 32 → (bt sh i = true ↔ (i < c ∧ P i ≠ 0))) → post sh) :
    ∀ f r (sh : Int32), r ≤ c → c - r < f → (∀ i, i < 32 → (bt sh i = true ↔ (i < r ∧ P i ≠ 0))) → wX_reachedRotations_4 post (nI m.1) f_solved f_shownSet (nI c) f_source f_sink f_nodes f_unlimited f_greatestFlow a_list a_rank a_weights a_top a_bar a_leave a_ideal a_filter a_row a_residual a_parent a_queue f sh (nI r) := by
  intro f
  induction f with
  | zero => intro i _ _ h; omega
  | succ f ih =>
    intro r sh hr hf hs
    refine pk_le c r (fun z => h sh ?_) (fun z => ?_)
    · have : r = c := by omega
      subst this
      exact hs
    · refine ⟨pk_in r 17 (by omega), pk_pl (P r) (rd_c r (hpar r (by omega))) (hP r (by omega)) (fun y => ?_) (fun y => ?_)⟩
      · refine nm_r (nI_1 r) (ih (r + 1) sh (by omega) (by omega) fun i hi => ?_)
        rw [hs i hi]
        constructor
        · rintro ⟨a, b⟩
          exact ⟨by omega, b⟩
        · rintro ⟨a, b⟩
          refine ⟨?_, b⟩
          rcases Nat.lt_or_ge i r with w | w
          · exact w
          · have : i = r := by omega
            rw [this] at b
            exact absurd y b
      · refine nm_e (nm_r (nI_1 r) (ih (r + 1) _ (by omega) (by omega) fun i hi => ?_))
        rw [bw_or (by omega) hi, hs i hi]
        constructor
        · rintro (⟨a, b⟩ | e)
          · exact ⟨by omega, b⟩
          · rw [e]; exact ⟨by omega, y⟩
        · rintro ⟨a, b⟩
          by_cases e : i = r
          · exact Or.inr e
          · exact Or.inl ⟨by omega, b⟩
/-- pairs bound each cell -/
theorem xg_bd {κ ρ : Nat → Nat} {F : Int} (hI : fl_I κ ρ F) (hκ : ∀ i, κ i ≤ 1000000) : ∀ i, i < 289 → ρ i < 2 ^ 31 := fun i hi => by
  have a := hI.1 (i / 17) (i % 17) (by omega) (by omega)
  have b := hκ (i / 17 * 17 + i % 17)
  have d := hκ (i % 17 * 17 + i / 17)
  have e : i / 17 * 17 + i % 17 = i := by omega
  rw [e] at a b
  omega
theorem xg_21 {c : Nat} {κ : Nat → Nat} (hc : c ≤ 15) (hκ : ∀ i, κ i ≤ 1000000) (h600 : ∀ ρ F, fl_I κ ρ F → F ≤ 600) {post : Int32 → SX → Prop}
    (h : ∀ (sh : Int32) (res par que : Nat → Int32) (P : Nat → Nat) (F : Int), F ≤ 600 → P 15 ≠ 0 → P 16 = 0 → fl_cut κ (fun v => !(P v == 0)) = F → (∀ T : Nat → Bool, T 15 = true → T 16 = false → F ≤ fl_cut κ T ∧ (fl_cut κ T ≤ F → ∀ v, v < 17 → P v ≠ 0 → T v = true)) → (∀ i, i < 32 → (bt sh i = true ↔ (i < c ∧ P i ≠ 0))) → post sh ((nI m.1), f_solved, sh, (nI c), f_source, f_sink, f_nodes, f_unlimited, f_greatestFlow, a_list, a_rank, a_weights, a_top, a_bar, a_leave, a_ideal, a_filter, a_row, res, par, que)) :
    ∀ (f k : Nat) (x1 : Int32) (F : Int) (ρ P Q : Nat → Nat) (fil : Nat) (res par que : Nat → Int32), 600 - k < f → k ≤ 600 → (k : Int) ≤ F → (∀ i, i < 289 → res i = nI (ρ i)) → fl_I κ ρ F → (∀ x, x < 17 → par x = nI (P x) - 1) → fl_B ρ P Q fil → (∀ i, i < fil → ∀ v, v < 17 → 0 < ρ (Q i * 17 + v) → P v ≠ 0) → ((x1 = 0 ∧ P 16 = 0) ∨ (x1 = 1 ∧ P 16 ≠ 0)) → wX_optimum_21 post f x1 (nI k) (nI m.1) f_solved f_shownSet (nI c) f_source f_sink f_nodes f_unlimited f_greatestFlow a_list a_rank a_weights a_top a_bar a_leave a_ideal a_filter a_row res par que := by
  intro f
  induction f with
  | zero => intro i _ _ _ _ _ _ _ _ _ h; omega
  | succ f ih =>
    intro k x1 F ρ P Q fil res par que hf hk hkF hres hI hpar hB hsc hx
    have hρ := xg_bd hI hκ
    have F6 := h600 ρ F hI
    have fin : P 16 = 0 → wX_optimum_47 post (nI m.1) f_solved f_shownSet (nI c) f_source f_sink f_nodes f_unlimited f_greatestFlow a_list a_rank a_weights a_top a_bar a_leave a_ideal a_filter a_row res par que := fun h16 => by
      have en := fl_end hI hB hsc h16
      exact Exists.intro (c + 1) (xg_4 hc (fun x hx => by have := fl_BP hB hx; omega) hpar (fun sh hsh => h sh res par que P F F6 (by rw [hB.2.2.1]; omega) h16 en.1 en.2 hsh) (c + 1) 0 0 (by omega) (by omega) (fun i hi => by rw [b_0]; exact ⟨fun z => Bool.noConfusion z, fun z => by omega⟩))
    have noF : P 16 ≠ 0 → F + 1 ≤ 600 := fun h16 => by
      obtain ⟨L, v, hL, pa⟩ := fl_path hB h16
      have key : ∀ s, s ≤ L → ∃ ρ', fl_ps ρ ρ' L 1 v s := by
        intro s
        induction s with
        | zero => exact fun _ => ⟨ρ, fl_ps0 pa.1⟩
        | succ s ihs =>
          intro hs
          obtain ⟨ρ', hp⟩ := ihs (by omega)
          exact ⟨_, fl_psS pa hp (by omega) (pa.2.2.2.2.1 s (by omega)).2⟩
      obtain ⟨ρ', hp⟩ := key L (Nat.le_refl _)
      have := h600 ρ' _ (fl_psE pa hp hI)
      omega
    refine pk_le 600 k (fun z => fin (Classical.byContradiction fun h16 => ?_)) (fun z => ?_)
    · have := noF h16
      omega
    · rcases hx with ⟨e, h16⟩ | ⟨e, h16⟩
      · exact br_t e (fin h16)
      · subst e
        obtain ⟨L, v, hL, pa⟩ := fl_path hB h16
        have e0 : nI (v 0) = 16 := by rw [pa.1]; rfl
        refine br_f (by decide) ?_
        unfold wpX_pushAlongPath
        refine Exists.intro (L + 1) ?_
        rw [← e0]
        refine xg_8 pa hL hpar hres hρ (fun a ha0 ha => ⟨L + 1, ?_⟩) (L + 1) 0 1000000 (by omega) (by omega) (by omega) (by omega) (fun t ht => by omega)
        refine xg_10 pa hL ha hpar (fun ρ' res' hres' hps => ?_) (L + 1) 0 ρ res (by omega) (by omega) hres (fl_ps0 pa.1)
        have hI' := fl_psE pa hps hI
        refine xg_f hres' (xg_bd hI' hκ) (fun fil' par' que' P' Q' g1 g2 g3 => ⟨fun w => nm_r (nI_1 k) (ih (k + 1) 0 _ ρ' P' Q' fil' res' par' que' (by omega) (by omega) (by omega) hres' hI' g1 g2 g3 (Or.inl ⟨rfl, w⟩)), fun w => nm_r (nI_1 k) (ih (k + 1) 1 _ ρ' P' Q' fil' res' par' que' (by omega) (by omega) (by omega) hres' hI' g1 g2 g3 (Or.inr ⟨rfl, w⟩))⟩)
theorem fl_I0 (κ : Nat → Nat) : fl_I κ κ 0 := ⟨fun _ _ _ _ => rfl, fun _ _ => rfl, Int.add_zero _⟩
/-- X's optimum against the picture -/
theorem xg_o {c : Nat} {ld : Nat → Nat} {lv : Nat → Nat → Nat} {w : Nat → Nat} (o : sm_ok m) (hl : ∀ i, a_list i = nI (m.2.1 i)) (hr : ∀ i, a_rank i = nI (m.2.2 i)) (hwt : ∀ i, a_weights i = nI (w i)) (hw : ∀ i, w i ≤ 20) (hS : xv_S m c ld lv a_top a_bar a_leave a_ideal a_filter) (hs : f_solved = 1) {post : Int32 → SX → Prop}
    (h : ∀ (sh : Int32) (res par que : Nat → Int32), (∀ (cnt b : Nat) (G : Nat → Nat → Nat), en_F m (m.1 ^ m.1) cnt G → b < cnt → (∀ i, i < cnt → zs_u (fun q => xk_w m w q (G b q)) m.1 ≤ zs_u (fun q => xk_w m w q (G i q)) m.1 ∧ (i < b → zs_u (fun q => xk_w m w q (G b q)) m.1 < zs_u (fun q => xk_w m w q (G i q)) m.1)) → ∀ i, i < 32 → (bt sh i = true ↔ (i < c ∧ ld i % 6 < G b (ld i / 6)))) → post sh ((nI m.1), f_solved, sh, (nI c), f_source, f_sink, f_nodes, f_unlimited, f_greatestFlow, a_list, a_rank, a_weights, a_top, a_bar, a_leave, a_ideal, a_filter, a_row, res, par, que)) : wpX_optimum post ((nI m.1), f_solved, f_shownSet, (nI c), f_source, f_sink, f_nodes, f_unlimited, f_greatestFlow, a_list, a_rank, a_weights, a_top, a_bar, a_leave, a_ideal, a_filter, a_row, a_residual, a_parent, a_queue) := by
  have c15 := sm_RL15 o hS.1.1
  have o6 := o.1.2
  have bl : ∀ r q, r < c → q < m.1 → sm_bj m (ld r) q < m.1 := fun r q hrc hq => (sm_bS o hS.1.1 hrc).1.1 q hq
  have vl : ∀ r q, r < c → q < m.1 → lv r q ≤ m.1 := fun r q hrc hq => by
    rcases Nat.eq_zero_or_pos (lv r q) with z | z
    · omega
    · obtain ⟨k, ek⟩ : ∃ k, lv r q = k + 1 := ⟨lv r q - 1, by omega⟩
      have := sm_mvk ((hS.1.2.1 r q k hrc hq).mp ek).2.1
      omega
  have hK := nk_op (c := c) (D := sm_ch m (xk_w m w) (fun r => sm_bj m (ld r)) lv) (ib := fun r t => bt (a_ideal r) t) (od := fun r s => sm_le m (sm_bj m (ld r)) (sm_bj m (ld s))) c15 (fun s r hsc hrc => by
    rw [hS.2.2.1 s r hsc (by omega)]
    exact ⟨fun z => z.2, fun z => ⟨hrc, z⟩⟩)
  have hκ := nk_b (c := c) (D := sm_ch m (xk_w m w) (fun r => sm_bj m (ld r)) lv) (ib := fun r t => bt (a_ideal r) t) (fun r hrc => xk_chb o hw (fun q hq => bl r q hrc hq) (fun q hq => vl r q hrc hq))
  have h6 : ∀ ρ F, fl_I (nk_K c (sm_ch m (xk_w m w) (fun r => sm_bj m (ld r)) lv) (fun r t => bt (a_ideal r) t)) ρ F → F ≤ 600 := fun ρ F hI => op_F hK c15 (sm_600 o hS.1.1 hS.1.2.1 (wp := w) (wa := fun a => w (6 + a)) (fun a => hw _)) hI
  refine br_f (by rw [hs]; decide) ?_
  refine xk_b (ib := fun r t => bt (a_ideal r) t) o hl hr hwt hw c15 hS.1.2.2.1 bl (fun r q hrc hq => hS.1.2.2.2.1 r q (by omega) hq) vl (fun _ _ _ _ => rfl) (fun res hres => ?_)
  have fin := xg_21 (m := m) (f_solved := f_solved) (f_shownSet := f_shownSet) (f_source := f_source) (f_sink := f_sink) (f_nodes := f_nodes) (f_unlimited := f_unlimited) (f_greatestFlow := f_greatestFlow) (a_list := a_list) (a_rank := a_rank) (a_weights := a_weights) (a_top := a_top) (a_bar := a_bar) (a_leave := a_leave) (a_ideal := a_ideal) (a_filter := a_filter) (a_row := a_row) c15 hκ h6 (post := post) (fun sh res par que P F F6 h15 h16 hcut hmin hsh => h sh res par que fun cnt b G hG hb hbest i hi => by
    rw [hsh i hi]
    constructor
    · rintro ⟨a, d⟩
      exact ⟨a, (op_main o hS.1.1 hS.1.2.1 (xk_w m w) hK F6 h15 h16 hcut hmin hG hb hbest i a).mp d⟩
    · rintro ⟨a, d⟩
      exact ⟨a, (op_main o hS.1.1 hS.1.2.1 (xk_w m w) hK F6 h15 h16 hcut hmin hG hb hbest i a).mpr d⟩)
  refine xg_f hres (fun i _ => by have := hκ i; omega) (fun fil par que P Q g1 g2 g3 => ⟨fun z => ?_, fun z => ?_⟩)
  · exact ⟨601, fin 601 0 0 0 _ P Q fil res par que (by omega) (by omega) (by omega) hres (fl_I0 _) g1 g2 g3 (Or.inl ⟨rfl, z⟩)⟩
  · exact ⟨601, fin 601 0 1 0 _ P Q fil res par que (by omega) (by omega) (by omega) hres (fl_I0 _) g1 g2 g3 (Or.inr ⟨rfl, z⟩)⟩
end
end
section
/-! X: the shown matching, totals, pairs -/
def sr_v (t : Nat → Nat) (b : Nat → Nat → Nat) (s : Nat → Bool) (q : Nat) : Nat → Nat
  | 0 => t q
  | r + 1 => if s r = true ∧ sr_v t b s q r < b r q then b r q else sr_v t b s q r
theorem sr_b {t : Nat → Nat} {b : Nat → Nat → Nat} {s : Nat → Bool} {q B c : Nat} (ht : t q < B) (hb : ∀ r, r < c → b r q < B) : ∀ i, i ≤ c → sr_v t b s q i < B := by
  intro i
  induction i with
  | zero => exact fun _ => ht
  | succ i ih =>
    intro hi
    have a := ih (by omega)
    have d := hb i (by omega)
    show (if s i = true ∧ sr_v t b s q i < b i q then b i q else sr_v t b s q i) < B
    split <;> assumption
theorem sr_St {m : sm_M} (o : sm_ok m) {t : Nat → Nat} {b : Nat → Nat → Nat} {s : Nat → Bool} {c : Nat} (ht : sm_St m t) (hb : ∀ r, r < c → sm_St m (b r)) : ∀ i, i ≤ c → sm_St m (fun q => sr_v t b s q i) := by
  intro i
  induction i with
  | zero => exact fun _ => ht
  | succ i ih =>
    intro hi
    have a := ih (by omega)
    have d := hb i (by omega)
    cases hs : s i
    · refine sm_cg (fun q _ => ?_) a
      show sr_v t b s q i = (if s i = true ∧ sr_v t b s q i < b i q then b i q else sr_v t b s q i)
      rw [if_neg (fun z => by rw [hs] at z; exact Bool.noConfusion z.1)]
    · refine sm_cg (fun q _ => ?_) (sm_join o a d)
      show max (sr_v t b s q i) (b i q) = (if s i = true ∧ sr_v t b s q i < b i q then b i q else sr_v t b s q i)
      by_cases z : sr_v t b s q i < b i q
      · rw [if_pos ⟨hs, z⟩]; omega
      · rw [if_neg (fun y => z y.2)]; omega
/-- the shown row -/
noncomputable def sr_R (m : sm_M) (c : Nat) (ld : Nat → Nat) (sh : Int32) (q : Nat) : Nat := sr_v (sm_tp m) (fun r => sm_bj m (ld r)) (fun r => bt sh r) q c
theorem sr_RS {m : sm_M} (o : sm_ok m) {c i : Nat} {ld : Nat → Nat} (h : sm_RL m i c ld) (sh : Int32) : sm_St m (sr_R m c ld sh) := sr_St o (sm_tpS o).1 (fun r hr => (sm_bS o h hr).1) c (Nat.le_refl _)
/-- the ranks that occur -/
theorem sm_ocs {m : sm_M} (o : sm_ok m) {c : Nat} {ld : Nat → Nat} (h : sm_RL m 36 c ld) {p k : Nat} (hp : p < m.1) : sm_oc m p k ↔ (sm_tp m p = k ∨ ∃ r, r < c ∧ sm_bj m (ld r) p = k) := by
  constructor
  · intro hk
    obtain ⟨M, hM, e⟩ := hk
    have t := (sm_tpS o).2 M hM p hp
    rcases Nat.lt_or_ge (sm_tp m p) k with z | z
    · obtain ⟨y, r, _, _, _, _, hr, _, ex⟩ := sm_step o h hp ⟨M, hM, e⟩ z
      exact Or.inr ⟨r, hr, ex⟩
    · exact Or.inl (by omega)
  · rintro (e | ⟨r, hr, e⟩)
    · exact ⟨_, (sm_tpS o).1, e⟩
    · exact ⟨_, (sm_bS o h hr).1, e⟩
section
variable {m : sm_M} {f_solved f_shownSet f_rotationCount f_source f_sink f_nodes f_unlimited f_greatestFlow : Int32} {a_list a_rank a_weights a_top a_bar a_leave a_ideal a_filter a_row a_residual a_parent a_queue : Nat → Int32}
theorem xh_9 {c p : Nat} {t : Nat → Nat} {b : Nat → Nat → Nat} (hc : c ≤ 15) (hp : p < 6) (hb : ∀ r, r < c → a_bar (r * 6 + p) = nI (b r p)) (hbl : ∀ r, r < c → b r p < 2 ^ 31) (ht : t p < 2 ^ 31) {post : Int32 → Prop} (h : post (nI (sr_v t b (fun r => bt f_shownSet r) p c))) :
    ∀ f i, i ≤ c → c - i < f → wX_shownRank_9 post (nI p) (nI m.1) f_solved f_shownSet (nI c) f_source f_sink f_nodes f_unlimited f_greatestFlow a_list a_rank a_weights a_top a_bar a_leave a_ideal a_filter a_row a_residual a_parent a_queue f (nI (sr_v t b (fun r => bt f_shownSet r) p i)) (nI i) := by
  intro f
  induction f with
  | zero => intro i _ h; omega
  | succ f ih =>
    intro i hi hf
    have st : sr_v t b (fun r => bt f_shownSet r) p (i + 1) = if bt f_shownSet i = true ∧ sr_v t b (fun r => bt f_shownSet r) p i < b i p then b i p else sr_v t b (fun r => bt f_shownSet r) p i := rfl
    refine pk_le c i (fun z => ?_) (fun z => ?_)
    · have : i = c := by omega
      subst this
      exact h
    · have bd := sr_b (t := t) (b := b) (s := fun r => bt f_shownSet r) ht hbl i (by omega)
      have nx := ih (i + 1) (by omega) (by omega)
      have e : nI i * 6 + nI p = nI (i * 6 + p) := by rw [← nI_add, ← pk_mul]; rfl
      refine xc_c (by omega) (fun y => br_f (by decide) ⟨pk_in (i * 6 + p) 90 (by omega) e, ?_⟩) (fun y => br_t rfl ?_)
      · refine pk_le (b i p) (sr_v t b (fun r => bt f_shownSet r) p i) (fun w => ?_) (fun w => ?_) (rd_c (i * 6 + p) (hb i z) e) rfl (hbl i z) bd
        · rw [st, if_neg (fun u => by omega)] at nx
          exact nm_r (nI_1 i) nx
        · rw [st, if_pos ⟨y, w⟩] at nx
          exact ⟨pk_in (i * 6 + p) 90 (by omega) e, nm_r (e' := nI (b i p)) (rd_c (i * 6 + p) (hb i z) e) (nm_r (nI_1 i) nx)⟩
      · rw [st, if_neg (fun u => by rw [y] at u; exact Bool.noConfusion u.1)] at nx
        exact nm_r (nI_1 i) nx
theorem xh_r (o : sm_ok m) {c : Nat} {ld : Nat → Nat} {lv : Nat → Nat → Nat} (hS : xv_S m c ld lv a_top a_bar a_leave a_ideal a_filter) {p : Nat} (hp : p < m.1) {post : Int32 → Prop} (h : post (nI (sr_R m c ld f_shownSet p))) : wpX_shownRank post ((nI m.1), f_solved, f_shownSet, (nI c), f_source, f_sink, f_nodes, f_unlimited, f_greatestFlow, a_list, a_rank, a_weights, a_top, a_bar, a_leave, a_ideal, a_filter, a_row, a_residual, a_parent, a_queue) (nI p) := by
  have o6 := o.1.2
  have c15 := sm_RL15 o hS.1.1
  have t := (sm_tpS o).1.1 p hp
  refine And.intro (pk_in p 6 (by omega)) (nm_r (e' := nI (sm_tp m p)) (rd_c p (hS.2.1 p hp)) ⟨c + 1, ?_⟩)
  exact xh_9 (t := sm_tp m) (b := fun r => sm_bj m (ld r)) c15 (by omega) (fun r hr => hS.1.2.2.1 r p hr hp) (fun r hr => by have := (sm_bS o hS.1.1 hr).1.1 p hp; show sm_bj m (ld r) p < 2 ^ 31; omega) (by omega) h (c + 1) 0 (by omega) (by omega)
theorem xh_a (o : sm_ok m) (hl : ∀ i, a_list i = nI (m.2.1 i)) {c : Nat} {ld : Nat → Nat} {lv : Nat → Nat → Nat} (hS : xv_S m c ld lv a_top a_bar a_leave a_ideal a_filter) {p : Nat} (hp : p < m.1) {post : Int32 → Prop} (h : post (nI (sm_h m (sr_R m c ld f_shownSet) p))) : wpX_shownAcceptor post ((nI m.1), f_solved, f_shownSet, (nI c), f_source, f_sink, f_nodes, f_unlimited, f_greatestFlow, a_list, a_rank, a_weights, a_top, a_bar, a_leave, a_ideal, a_filter, a_row, a_residual, a_parent, a_queue) (nI p) := by
  have o6 := o.1.2
  have hR := (sr_RS o hS.1.1 f_shownSet).1 p hp
  unfold wpX_shownAcceptor
  refine xh_r o hS hp ?_
  refine xs_0 p (sr_R m c ld f_shownSet p) ⟨pk_in (p * 6 + sr_R m c ld f_shownSet p) 72 (by omega), ?_⟩
  rw [nI_clamp (by omega), hl]
  exact h
theorem xh_4 (o : sm_ok m) (hl : ∀ i, a_list i = nI (m.2.1 i)) {c : Nat} {ld : Nat → Nat} {lv : Nat → Nat → Nat} (hS : xv_S m c ld lv a_top a_bar a_leave a_ideal a_filter) {x : Nat} (hx : x < m.1) {post : Int32 → Prop} (h : post (nI x)) :
    ∀ f i (x2 : Int32), i ≤ m.1 → m.1 - i < f → (x < i → x2 = nI x) → wX_shownProposer_4 post (nI (sm_h m (sr_R m c ld f_shownSet) x)) (nI m.1) f_solved f_shownSet (nI c) f_source f_sink f_nodes f_unlimited f_greatestFlow a_list a_rank a_weights a_top a_bar a_leave a_ideal a_filter a_row a_residual a_parent a_queue f x2 (nI i) := by
  have o6 := o.1.2
  have RS := sr_RS o hS.1.1 f_shownSet
  intro f
  induction f with
  | zero => intro i _ _ h; omega
  | succ f ih =>
    intro i x2 hi hf hh
    refine pk_le m.1 i (fun z => ?_) (fun z => ?_)
    · rw [hh (by omega)]; exact h
    · have h1 := sm_hl o z (RS.1 i z)
      have h2 := sm_hl o hx (RS.1 x hx)
      refine xh_a o hl hS z ?_
      refine pk_eq (sm_h m (sr_R m c ld f_shownSet) i) (sm_h m (sr_R m c ld f_shownSet) x) (fun y => ?_) (fun y => ?_)
      · have e := RS.2.1 i x z hx y
        exact nm_r (nI_1 i) (ih (i + 1) _ (by omega) (by omega) fun _ => by rw [e])
      · have e : i ≠ x := fun w => y (by rw [w])
        exact nm_r (nI_1 i) (ih (i + 1) _ (by omega) (by omega) fun w => hh (by omega))
theorem xh_p (o : sm_ok m) (hl : ∀ i, a_list i = nI (m.2.1 i)) {c : Nat} {ld : Nat → Nat} {lv : Nat → Nat → Nat} (hS : xv_S m c ld lv a_top a_bar a_leave a_ideal a_filter) {x : Nat} (hx : x < m.1) {post : Int32 → Prop} (h : post (nI x)) {v : Int32} (hv : v = nI (sm_h m (sr_R m c ld f_shownSet) x)) : wpX_shownProposer post ((nI m.1), f_solved, f_shownSet, (nI c), f_source, f_sink, f_nodes, f_unlimited, f_greatestFlow, a_list, a_rank, a_weights, a_top, a_bar, a_leave, a_ideal, a_filter, a_row, a_residual, a_parent, a_queue) v := by
  subst hv
  exact Exists.intro (m.1 + 1) (xh_4 o hl hS hx h (m.1 + 1) 0 0 (by omega) (by omega) (fun w => by omega))
theorem xh_t (o : sm_ok m) (hl : ∀ i, a_list i = nI (m.2.1 i)) (hr : ∀ i, a_rank i = nI (m.2.2 i)) {w : Nat → Nat} (hwt : ∀ i, a_weights i = nI (w i)) {c : Nat} {ld : Nat → Nat} {lv : Nat → Nat → Nat} (hS : xv_S m c ld lv a_top a_bar a_leave a_ideal a_filter) {post : Int32 → Prop} (h : post (zi_I (zs_u (fun q => xk_w m w q (sr_R m c ld f_shownSet q)) m.1))) :
    ∀ f i, i ≤ m.1 → m.1 - i < f → wX_total_14 post (nI m.1) f_solved f_shownSet (nI c) f_source f_sink f_nodes f_unlimited f_greatestFlow a_list a_rank a_weights a_top a_bar a_leave a_ideal a_filter a_row a_residual a_parent a_queue f (zi_I (zs_u (fun q => xk_w m w q (sr_R m c ld f_shownSet q)) i)) (nI i) := by
  have o6 := o.1.2
  have RS := sr_RS o hS.1.1 f_shownSet
  intro f
  induction f with
  | zero => intro i _ h; omega
  | succ f ih =>
    intro i hi hf
    refine pk_le m.1 i (fun z => ?_) (fun z => ?_)
    · have : i = m.1 := by omega
      subst this
      exact h
    · refine xh_r o hS z ?_
      refine xk_c o hl hr hwt z (RS.1 i z) ?_
      refine nm_r ?_ (nm_r (nI_1 i) (ih (i + 1) (by omega) (by omega)))
      show Int32.ofInt _ + Int32.ofInt _ = Int32.ofInt _
      rw [← Int32.ofInt_add]
      rfl
theorem xj_61 (o : sm_ok m) {c : Nat} {ld : Nat → Nat} {lv : Nat → Nat → Nat} (hS : xv_S m c ld lv a_top a_bar a_leave a_ideal a_filter) {p k : Nat} (hp : p < m.1) (hk : k < m.1) {post : Int32 → Prop} (h1 : sm_oc m p k → post 1) (h0 : ¬ sm_oc m p k → post 0) :
    ∀ f i (x4 : Int32), i ≤ c → c - i < f → ((x4 = 1 ∧ (sm_tp m p = k ∨ ∃ r, r < i ∧ sm_bj m (ld r) p = k)) ∨ (x4 = 0 ∧ ¬ (sm_tp m p = k ∨ ∃ r, r < i ∧ sm_bj m (ld r) p = k))) → wX_stablePair_61 post (nI p) (nI k) (nI m.1) f_solved f_shownSet (nI c) f_source f_sink f_nodes f_unlimited f_greatestFlow a_list a_rank a_weights a_top a_bar a_leave a_ideal a_filter a_row a_residual a_parent a_queue f x4 (nI i) := by
  have o6 := o.1.2
  have c15 := sm_RL15 o hS.1.1
  intro f
  induction f with
  | zero => intro i _ _ h; omega
  | succ f ih =>
    intro i x4 hi hf hh
    refine pk_le c i (fun z => ?_) (fun z => ?_)
    · have ic : i = c := by omega
      subst ic
      rcases hh with ⟨e, g⟩ | ⟨e, g⟩
      · exact br_f (by rw [e]; decide) (h1 ((sm_ocs o hS.1.1 hp).mpr g))
      · exact br_t e (h0 fun w => g ((sm_ocs o hS.1.1 hp).mp w))
    · have b := (sm_bS o hS.1.1 z).1.1 p hp
      have e : nI i * 6 + nI p = nI (i * 6 + p) := by rw [← nI_add, ← pk_mul]; rfl
      rcases hh with ⟨e4, g⟩ | ⟨e4, g⟩
      · refine br_f (by rw [e4]; decide) (nm_r (nI_1 i) (ih (i + 1) 1 (by omega) (by omega) (Or.inl ⟨rfl, ?_⟩)))
        rcases g with g | ⟨r, hr, er⟩
        · exact Or.inl g
        · exact Or.inr ⟨r, by omega, er⟩
      · refine br_t e4 ⟨pk_in (i * 6 + p) 90 (by omega) e, ?_⟩
        refine pk_eq (sm_bj m (ld i) p) k (fun y => nm_r (nI_1 i) (ih (i + 1) 1 (by omega) (by omega) (Or.inl ⟨rfl, Or.inr ⟨i, by omega, y⟩⟩))) (fun y => nm_r (nI_1 i) (ih (i + 1) 0 (by omega) (by omega) (Or.inr ⟨rfl, fun w => ?_⟩))) (rd_c (i * 6 + p) (hS.1.2.2.1 i p z hp) e) rfl
        rcases w with w | ⟨r, hr, er⟩
        · exact g (Or.inl w)
        · rcases Nat.lt_or_ge r i with u | u
          · exact g (Or.inr ⟨r, u, er⟩)
          · have : r = i := by omega
            rw [this] at er
            exact y er
theorem xm_2 (o : sm_ok m) {c : Nat} {ld : Nat → Nat} {lv : Nat → Nat → Nat} (hS : xv_S m c ld lv a_top a_bar a_leave a_ideal a_filter) {x1 : Int32} {post : Int32 → Prop}
    (h1 : sm_cl m c ld (fun r => bt x1 r = true) → post 1) (h0 : ¬ sm_cl m c ld (fun r => bt x1 r = true) → post 0) :
    ∀ f i, i ≤ c → c - i < f → (∀ s r, s < i → r < c → bt x1 s = true → sm_le m (sm_bj m (ld r)) (sm_bj m (ld s)) → bt x1 r = true) → wX_isClosed_2 post x1 (nI m.1) f_solved f_shownSet (nI c) f_source f_sink f_nodes f_unlimited f_greatestFlow a_list a_rank a_weights a_top a_bar a_leave a_ideal a_filter a_row a_residual a_parent a_queue f (nI i) := by
  have c15 := sm_RL15 o hS.1.1
  intro f
  induction f with
  | zero => intro i _ h; omega
  | succ f ih =>
    intro i hi hf hh
    refine pk_le c i (fun z => h1 fun r s hr hs g l => hh s r (by omega) hr g l) (fun z => ?_)
    have nx : (∀ r, r < c → bt x1 i = true → sm_le m (sm_bj m (ld r)) (sm_bj m (ld i)) → bt x1 r = true) → wX_isClosed_2 post x1 (nI m.1) f_solved f_shownSet (nI c) f_source f_sink f_nodes f_unlimited f_greatestFlow a_list a_rank a_weights a_top a_bar a_leave a_ideal a_filter a_row a_residual a_parent a_queue f (nI (i + 1)) := fun g => ih (i + 1) (by omega) (by omega) fun s r hs hr b l => by
      rcases Nat.lt_or_ge s i with y | y
      · exact hh s r y hr b l
      · have : s = i := by omega
        subst this
        exact g r hr b l
    refine xc_c (by omega) (fun y => br_f (by decide) ⟨pk_in i 15 (by omega), ?_⟩) (fun y => br_t rfl (nm_r (nI_1 i) (nx fun r hr b => by rw [y] at b; exact Bool.noConfusion b)))
    rw [nI_clamp (by omega)]
    refine br_c (fun w => nm_r (nI_1 i) (nx fun r hr b l => ?_)) (fun w => h0 fun g => w (b_ext fun j hj => ?_))
    · have bj : bt (a_ideal i &&& (x1 ^^^ (-1))) r = false := by rw [w, b_0]
      rw [b_and, b_xor, b_m1 r (by omega), (hS.2.2.1 i r z (by omega)).mpr ⟨hr, l⟩, Bool.true_and] at bj
      cases hb : bt x1 r
      · rw [hb] at bj; exact Bool.noConfusion bj
      · rfl
    · rw [b_and, b_xor, b_m1 j hj, b_0]
      cases hb : bt (a_ideal i) j
      · rfl
      · have q := (hS.2.2.1 i j z hj).mp hb
        rw [g j i q.1 z y q.2]
        rfl
end
end
section
/-! Y: ranks, stability, least rows, rotations -/
theorem pk_k1 {a K : Nat} (ha : a < 2 ^ 31) (hK : K < 2 ^ 31) : nI a ≤ nI K - 1 ↔ a < K := by
  rcases Nat.eq_zero_or_pos K with z | z
  · subst z
    constructor
    · intro y
      have h0 := nI_pos' ha
      exact absurd (Int32.le_trans h0 y) (by decide)
    · intro y; omega
  · obtain ⟨k, rfl⟩ : ∃ k, K = k + 1 := ⟨K - 1, by omega⟩
    rw [nI_pred, nI_leI ha (by omega)]
    omega
theorem pk_k {x y : Int32} {A B : Prop} (a K : Nat) (f : a < K → A) (g : K ≤ a → B) (hx : x = nI a) (hy : y = nI K - 1) (ha : a < 2 ^ 31) (hK : K < 2 ^ 31) : (x ≤ y → A) ∧ (¬ x ≤ y → B) := by
  subst hx hy
  rw [pk_k1 ha hK]
  exact ⟨f, fun z => g (by omega)⟩
section
variable {m : sm_M} {g_count g_rotationCount g_shownSet g_solved : Int32} {b_lists b_weights b_match b_found b_leadP b_leadK : Nat → Int32}
theorem yr_3 (o : sm_ok m) (hl : ∀ i, b_lists i = nI (m.2.1 i)) {B y ρ : Nat} (hB : B + 6 ≤ 72) {x1 x2 : Int32} (hb : x1 * 36 + x2 * 6 = nI B) (hρ : ρ < m.1) (hy : y < 2 ^ 31) (hL : ∀ k, k < m.1 → m.2.1 (B + k) < 2 ^ 31) (e1 : m.2.1 (B + ρ) = y) (e2 : ∀ k, k < ρ → m.2.1 (B + k) ≠ y) {post : Int32 → Prop} (h : post (nI ρ)) :
    ∀ f i, i ≤ ρ → m.1 - i < f → wY_rank_3 post x1 x2 (nI y) (nI m.1) g_count g_rotationCount g_shownSet g_solved b_lists b_weights b_match b_found b_leadP b_leadK f (nI i) := by
  have o6 := o.1.2
  intro f
  induction f with
  | zero => intro i _ h; omega
  | succ f ih =>
    intro i hi hf
    refine pk_le m.1 i (fun z => by omega) (fun z => ?_)
    have e : x1 * 36 + x2 * 6 + nI i = nI (B + i) := by rw [hb, nI_add]
    refine ⟨pk_in (B + i) 72 (by omega) e, ?_⟩
    refine pk_eq (m.2.1 (B + i)) y (fun z2 => ?_) (fun z2 => ?_) (rd_c (B + i) (hl _) e) rfl (hL i z) hy
    · have : i = ρ := by
        rcases Nat.lt_or_ge i ρ with w | w
        · exact absurd z2 (e2 i w)
        · omega
      rw [this]; exact h
    · have : i ≠ ρ := fun w => z2 (by rw [w]; exact e1)
      exact nm_r (nI_1 i) (ih (i + 1) (by omega) (by omega))
theorem yr_0 (o : sm_ok m) (hl : ∀ i, b_lists i = nI (m.2.1 i)) {x y : Nat} (hx : x < m.1) (hy : y < m.1) {post : Int32 → Prop} (h : post (nI (sm_r m x y))) {v2 v3 : Int32} (h2 : v2 = nI x := by rfl) (h3 : v3 = nI y := by rfl) : wpY_rank post ((nI m.1), g_count, g_rotationCount, g_shownSet, g_solved, b_lists, b_weights, b_match, b_found, b_leadP, b_leadK) 0 v2 v3 := by
  subst h2 h3
  have o6 := o.1.2
  have a := o.2.2.1 x y hx hy
  refine Exists.intro (m.1 + 1) (yr_3 o hl (B := x * 6) (ρ := sm_r m x y) (by omega) ?_ a.1 (by omega) (fun k hk => ?_) a.2 (fun k hk e => ?_) h (m.1 + 1) 0 (by omega) (by omega))
  · rw [Int32.zero_mul, Int32.zero_add, ← pk_mul]; rfl
  · have := (o.2.1 x k hx hk).1
    have e : sm_l m x k = m.2.1 (x * 6 + k) := rfl
    omega
  · have b := (o.2.1 x k hx (by omega)).2
    have e' : sm_l m x k = y := e
    rw [e'] at b
    omega
theorem yr_1 (o : sm_ok m) (hl : ∀ i, b_lists i = nI (m.2.1 i)) {x y : Nat} (hx : x < m.1) (hy : y < m.1) {post : Int32 → Prop} (h : post (nI (sm_ar m x y))) {v2 v3 : Int32} (h2 : v2 = nI x := by rfl) (h3 : v3 = nI y := by rfl) : wpY_rank post ((nI m.1), g_count, g_rotationCount, g_shownSet, g_solved, b_lists, b_weights, b_match, b_found, b_leadP, b_leadK) 1 v2 v3 := by
  subst h2 h3
  have o6 := o.1.2
  have a := o.2.2.2.2 x y hx hy
  refine Exists.intro (m.1 + 1) (yr_3 o hl (B := 36 + x * 6) (ρ := sm_ar m x y) (by omega) ?_ a.1 (by omega) (fun k hk => ?_) a.2 (fun k hk e => ?_) h (m.1 + 1) 0 (by omega) (by omega))
  · rw [Int32.one_mul, ← nI_add, ← pk_mul]; rfl
  · have := (o.2.2.2.1 x k hx hk).1
    have e : sm_al m x k = m.2.1 (36 + x * 6 + k) := rfl
    omega
  · have b := (o.2.2.2.1 x k hx (by omega)).2
    have e' : sm_al m x k = y := e
    rw [e'] at b
    omega
theorem yh_h (o : sm_ok m) (hl : ∀ i, b_lists i = nI (m.2.1 i)) {M : Nat → Nat} (hm : ∀ q, q < m.1 → b_match q = nI (M q)) (hM : ∀ q, q < m.1 → M q < m.1) {p : Nat} (hp : p < m.1) {post : Int32 → Prop} (h : post (nI (sm_h m M p))) {v : Int32} (hv : v = nI p := by rfl) : wpY_held post ((nI m.1), g_count, g_rotationCount, g_shownSet, g_solved, b_lists, b_weights, b_match, b_found, b_leadP, b_leadK) v := by
  subst hv
  have o6 := o.1.2
  have a := hM p hp
  have e : nI p * 6 + b_match (nI p).toNatClampNeg = nI (p * 6 + M p) := by rw [nI_clamp (by omega), hm p hp, ← nI_add, ← pk_mul]; rfl
  refine And.intro (pk_in p 6 (by omega)) ⟨pk_in (p * 6 + M p) 72 (by omega) e, ?_⟩
  rw [e, nI_clamp (by omega), hl]
  exact h
def ys_C (m : sm_M) (M : Nat → Nat) (p q : Nat) : Prop := (p ≠ q → sm_h m M p ≠ sm_h m M q) ∧ (sm_r m p (sm_h m M q) < M p → sm_ar m (sm_h m M q) q ≤ sm_ar m (sm_h m M q) p)
theorem ys_St {m : sm_M} {M : Nat → Nat} (hM : ∀ q, q < m.1 → M q < m.1) : sm_St m M ↔ ∀ p q, p < m.1 → q < m.1 → ys_C m M p q := by
  constructor
  · intro h p q hp hq
    exact ⟨fun ne e => ne (h.2.1 p q hp hq e), h.2.2 p q hp hq⟩
  · intro h
    exact ⟨hM, fun p q hp hq e => Classical.byContradiction fun ne => (h p q hp hq).1 ne e, fun p q hp hq => (h p q hp hq).2⟩
theorem ys_42 (o : sm_ok m) (hl : ∀ i, b_lists i = nI (m.2.1 i)) {M : Nat → Nat} (hm : ∀ q, q < m.1 → b_match q = nI (M q)) (hM : ∀ q, q < m.1 → M q < m.1) {p q : Nat} (hp : p < m.1) (hq : q < m.1) {post : Int32 → Prop} {J2 J12 : Int32 → Prop}
    (h1 : (sm_r m p (sm_h m M q) < M p → sm_ar m (sm_h m M q) q ≤ sm_ar m (sm_h m M q) p) → J12 (nI (q + 1))) (h0 : ¬ (sm_r m p (sm_h m M q) < M p → sm_ar m (sm_h m M q) q ≤ sm_ar m (sm_h m M q) p) → post 0) : wY_stable_42 post J2 J12 (nI p) (nI q) (nI (sm_h m M q)) (nI m.1) g_count g_rotationCount g_shownSet g_solved b_lists b_weights b_match b_found b_leadP b_leadK := by
  have o6 := o.1.2
  have ha := sm_hl o hq (hM q hq)
  have b1 := (o.2.2.1 p (sm_h m M q) hp ha).1
  have b2 := (o.2.2.2.2 (sm_h m M q) p ha hp).1
  have b3 := (o.2.2.2.2 (sm_h m M q) q ha hq).1
  have b4 := hM p hp
  unfold wY_stable_42
  refine yr_0 o hl hp ha ⟨pk_in p 6 (by omega), ?_⟩
  refine pk_le (M p) (sm_r m p (sm_h m M q)) (fun z => nm_r (nI_1 q) (h1 fun w => by omega)) (fun z => ?_) (rd_c p (hm p hp)) rfl
  refine yr_1 o hl ha hp ?_
  refine yr_1 o hl ha hq ?_
  exact pk_le (sm_ar m (sm_h m M q) q) (sm_ar m (sm_h m M q) p) (fun w => nm_r (nI_1 q) (h1 fun _ => w)) (fun w => h0 fun g => by have := g z; omega)
theorem ys_12 (o : sm_ok m) (hl : ∀ i, b_lists i = nI (m.2.1 i)) {M : Nat → Nat} (hm : ∀ q, q < m.1 → b_match q = nI (M q)) (hM : ∀ q, q < m.1 → M q < m.1) {p : Nat} (hp : p < m.1) {post : Int32 → Prop} {J2 : Int32 → Prop}
    (h1 : (∀ q, q < m.1 → ys_C m M p q) → J2 (nI (p + 1))) (h0 : (¬ ∀ q, q < m.1 → ys_C m M p q) → post 0) :
    ∀ f i, i ≤ m.1 → m.1 - i < f → (∀ q, q < i → ys_C m M p q) → wY_stable_12 post J2 (nI p) (nI m.1) g_count g_rotationCount g_shownSet g_solved b_lists b_weights b_match b_found b_leadP b_leadK f (nI i) := by
  have o6 := o.1.2
  intro f
  induction f with
  | zero => intro i _ h; omega
  | succ f ih =>
    intro i hi hf hh
    refine pk_le m.1 i (fun z => nm_r (nI_1 p) (h1 fun q hq => hh q (by omega))) (fun z => ?_)
    have hai := sm_hl o z (hM i z)
    have hap := sm_hl o hp (hM p hp)
    have go : (p ≠ i → sm_h m M p ≠ sm_h m M i) → wY_stable_42 post J2 (wY_stable_12 post J2 (nI p) (nI m.1) g_count g_rotationCount g_shownSet g_solved b_lists b_weights b_match b_found b_leadP b_leadK f) (nI p) (nI i) (nI (sm_h m M i)) (nI m.1) g_count g_rotationCount g_shownSet g_solved b_lists b_weights b_match b_found b_leadP b_leadK := fun g =>
      ys_42 o hl hm hM hp z (fun w => ih (i + 1) (by omega) (by omega) fun q hq => by
        rcases Nat.lt_or_ge q i with y | y
        · exact hh q y
        · have : q = i := by omega
          rw [this]; exact ⟨g, w⟩) (fun w => h0 fun c => w (c i z).2)
    refine yh_h o hl hm hM z ?_
    refine pk_eq p i (fun y => go fun w => absurd y w) (fun y => ?_)
    refine yh_h o hl hm hM hp ?_
    exact pk_eq (sm_h m M p) (sm_h m M i) (fun w => h0 fun c => (c i z).1 y w) (fun w => go fun _ => w)
theorem ys_s (o : sm_ok m) (hl : ∀ i, b_lists i = nI (m.2.1 i)) {M : Nat → Nat} (hm : ∀ q, q < m.1 → b_match q = nI (M q)) (hM : ∀ q, q < m.1 → M q < m.1) {post : Int32 → Prop}
    (h1 : sm_St m M → post 1) (h0 : ¬ sm_St m M → post 0) : wpY_stable post ((nI m.1), g_count, g_rotationCount, g_shownSet, g_solved, b_lists, b_weights, b_match, b_found, b_leadP, b_leadK) := by
  have key : ∀ f i, i ≤ m.1 → m.1 - i < f → (∀ p, p < i → ∀ q, q < m.1 → ys_C m M p q) → wY_stable_2 post (nI m.1) g_count g_rotationCount g_shownSet g_solved b_lists b_weights b_match b_found b_leadP b_leadK f (nI i) := by
    have o6 := o.1.2
    intro f
    induction f with
    | zero => intro i _ h; omega
    | succ f ih =>
      intro i hi hf hh
      refine pk_le m.1 i (fun z => h1 ((ys_St hM).mpr fun p q hp hq => hh p (by omega) q hq)) (fun z => ?_)
      refine ⟨m.1 + 1, ys_12 o hl hm hM z (fun w => ih (i + 1) (by omega) (by omega) fun p hp => ?_) (fun w => h0 fun g => w fun q hq => (ys_St hM).mp g i q z hq) (m.1 + 1) 0 (by omega) (by omega) (fun q hq => by omega)⟩
      rcases Nat.lt_or_ge p i with y | y
      · exact hh p y
      · have : p = i := by omega
        rw [this]; exact w
  exact Exists.intro (m.1 + 1) (key (m.1 + 1) 0 (by omega) (by omega) (fun p hp => by omega))
/-- the table of Y against the picture -/
def yv_F (m : sm_M) (cnt : Nat) (G : Nat → Nat → Nat) (found : Nat → Int32) : Prop := en_F m (m.1 ^ m.1) cnt G ∧ ∀ i q, i < cnt → q < m.1 → found (i * 6 + q) = nI (G i q)
theorem yl_9 (o : sm_ok m) {cnt : Nat} {G : Nat → Nat → Nat} (hF : yv_F m cnt G b_found) {p q K : Nat} (hp : p < m.1) (hq : q < m.1) (hK : K < 2 ^ 31) {x2 : Int32} (hx : x2 = nI K - 1) {post : Int32 → Prop} (h : post (nI (en_lw m.1 G p K q cnt))) :
    ∀ f i, i ≤ cnt → cnt - i < f → wY_least_9 post (nI p) x2 (nI q) (nI m.1) (nI cnt) g_rotationCount g_shownSet g_solved b_lists b_weights b_match b_found b_leadP b_leadK f (nI (en_lw m.1 G p K q i)) (nI i) := by
  have o6 := o.1.2
  have c7 := en_Fc o hF.1
  have lwb : ∀ i, i ≤ cnt → en_lw m.1 G p K q i ≤ 6 := by
    intro i
    induction i with
    | zero => exact fun _ => o6
    | succ i ih =>
      intro hi
      have a := ih (by omega)
      have b := (hF.1.1 i (by omega)).1.1 q hq
      show (if K ≤ G i p ∧ G i q < en_lw m.1 G p K q i then G i q else en_lw m.1 G p K q i) ≤ 6
      split <;> omega
  intro f
  induction f with
  | zero => intro i _ h; omega
  | succ f ih =>
    intro i hi hf
    have st : en_lw m.1 G p K q (i + 1) = if K ≤ G i p ∧ G i q < en_lw m.1 G p K q i then G i q else en_lw m.1 G p K q i := rfl
    refine pk_le cnt i (fun z => ?_) (fun z => ?_)
    · have : i = cnt := by omega
      subst this
      exact h
    · have g1 := (hF.1.1 i z).1.1 p hp
      have g2 := (hF.1.1 i z).1.1 q hq
      have lb := lwb i (by omega)
      have e1 : nI i * 6 + nI p = nI (i * 6 + p) := by rw [← nI_add, ← pk_mul]; rfl
      have e2 : nI i * 6 + nI q = nI (i * 6 + q) := by rw [← nI_add, ← pk_mul]; rfl
      have nx := ih (i + 1) (by omega) (by omega)
      refine ⟨pk_in (i * 6 + p) 4320 (by omega) e1, ?_⟩
      refine pk_k (G i p) K (fun y => ?_) (fun y => ?_) (rd_c (i * 6 + p) (hF.2 i p z hp) e1) hx (by omega) hK
      · rw [st, if_neg (fun w => by omega)] at nx
        exact nm_r (nI_1 i) nx
      · refine ⟨pk_in (i * 6 + q) 4320 (by omega) e2, ?_⟩
        refine pk_le (en_lw m.1 G p K q i) (G i q) (fun w => ?_) (fun w => ?_) rfl (rd_c (i * 6 + q) (hF.2 i q z hq) e2)
        · rw [st, if_neg (fun u => by omega)] at nx
          exact nm_r (nI_1 i) nx
        · rw [st, if_pos ⟨y, w⟩] at nx
          exact ⟨pk_in (i * 6 + q) 4320 (by omega) e2, nm_r (e' := nI (G i q)) (rd_c (i * 6 + q) (hF.2 i q z hq) e2) (nm_r (nI_1 i) nx)⟩
theorem yl_l (o : sm_ok m) {cnt : Nat} {G : Nat → Nat → Nat} (hF : yv_F m cnt G b_found) {p q K : Nat} (hp : p < m.1) (hq : q < m.1) (hK : K < 2 ^ 31) {post : Int32 → Prop} (h : post (nI (sm_br m p K q))) {x1 x2 x3 : Int32} (hx : x2 = nI K - 1) (h1 : x1 = nI p := by rfl) (h3 : x3 = nI q := by rfl) : wpY_least post ((nI m.1), (nI cnt), g_rotationCount, g_shownSet, g_solved, b_lists, b_weights, b_match, b_found, b_leadP, b_leadK) x1 x2 x3 := by
  subst h1 h3
  rw [← en_lwB o hF.1 hp hq] at h
  exact Exists.intro (cnt + 1) (yl_9 o hF hp hq hK hx h (cnt + 1) 0 (by omega) (by omega))
theorem sm_brb {m : sm_M} (o : sm_ok m) {p K q : Nat} (hp : p < m.1) (hq : q < m.1) : sm_br m p K q ≤ m.1 := by
  rcases sm_brs o hp K with h | h
  · have := h.1.1 q hq; omega
  · rw [h.2 q]; exact Nat.le_refl _
theorem yo_o (o : sm_ok m) {cnt : Nat} {G : Nat → Nat → Nat} (hF : yv_F m cnt G b_found) {p k : Nat} (hp : p < m.1) (hk : k < m.1) {post : Int32 → Prop} (h1 : sm_oc m p k → post 1) (h0 : ¬ sm_oc m p k → post 0) {x2 : Int32} (h2 : x2 = nI k := by rfl) : wpY_occurs post ((nI m.1), (nI cnt), g_rotationCount, g_shownSet, g_solved, b_lists, b_weights, b_match, b_found, b_leadP, b_leadK) (nI p) x2 := by
  subst h2
  have o6 := o.1.2
  have b := sm_brb o (K := k) hp hp
  unfold wpY_occurs
  refine yl_l o hF hp hp (K := k) (by omega) ?_ rfl
  exact pk_eq (sm_br m p k p) k (fun z => h1 ((sm_ocb o hp).mpr ⟨hk, z⟩)) (fun z => h0 fun w => z ((sm_ocb o hp).mp w).2)
theorem yo_m (o : sm_ok m) {cnt : Nat} {G : Nat → Nat → Nat} (hF : yv_F m cnt G b_found) {p k : Nat} (hp : p < m.1) (hk : k < m.1) {post : Int32 → Prop} (h1 : sm_mv m p k → post 1) (h0 : ¬ sm_mv m p k → post 0) : wpY_mover post ((nI m.1), (nI cnt), g_rotationCount, g_shownSet, g_solved, b_lists, b_weights, b_match, b_found, b_leadP, b_leadK) (nI p) (nI k) := by
  have o6 := o.1.2
  have b := sm_brb o (K := k + 1) hp hp
  unfold wpY_mover
  refine yo_o o hF hp hk (fun z => br_f (by decide) ?_) (fun z => br_t rfl (h0 fun w => z w.2.1))
  refine yl_l o hF hp hp (K := k + 1) (by omega) ?_ (nI_pred k).symm
  exact pk_le m.1 (sm_br m p (k + 1) p) (fun w => h0 fun g => by have := ((sm_mvb o hp).mp g).2; omega) (fun w => h1 ((sm_mvb o hp).mpr ⟨(sm_ocb o hp).mp z, w⟩))
def yv_L (m : sm_M) (c : Nat) (ld : Nat → Nat) (leadP leadK : Nat → Int32) : Prop := ∀ r, r < c → leadP r = nI (ld r / 6) ∧ leadK r = nI (ld r % 6)
theorem yb_b (o : sm_ok m) {cnt : Nat} {G : Nat → Nat → Nat} (hF : yv_F m cnt G b_found) {c i : Nat} {ld : Nat → Nat} (hL : yv_L m c ld b_leadP b_leadK) (hR : sm_RL m i c ld) {r q : Nat} (hr : r < c) (hq : q < m.1) {post : Int32 → Prop} (h : post (nI (sm_bj m (ld r) q))) {x1 x2 : Int32} (h1 : x1 = nI r := by rfl) (h2 : x2 = nI q := by rfl) : wpY_barOf post ((nI m.1), (nI cnt), g_rotationCount, g_shownSet, g_solved, b_lists, b_weights, b_match, b_found, b_leadP, b_leadK) x1 x2 := by
  subst h1 h2
  have o6 := o.1.2
  have c15 := sm_RL15 o hR
  refine And.intro (pk_in r 36 (by omega)) ⟨pk_in r 36 (by omega), ?_⟩
  exact yl_l o hF (p := ld r / 6) (K := ld r % 6 + 1) (hR.1 r hr).2.1.1 hq (by omega) h (by rw [nI_clamp (by omega), (hL r hr).2, nI_pred]) (by rw [nI_clamp (by omega), (hL r hr).1])
theorem yt_16 (o : sm_ok m) {cnt : Nat} {G : Nat → Nat → Nat} (hF : yv_F m cnt G b_found) {c j : Nat} {ld : Nat → Nat} (hL : yv_L m c ld b_leadP b_leadK) (hR : sm_RL m j c ld) {r p k : Nat} (hr : r < c) (hp : p < m.1) (hk : k < m.1) {post : Int32 → Prop} {J2 : Int32 → Prop}
    (h1 : (∀ q, q < m.1 → sm_br m p (k + 1) q = sm_bj m (ld r) q) → post (nI r)) (h0 : (¬ ∀ q, q < m.1 → sm_br m p (k + 1) q = sm_bj m (ld r) q) → J2 (nI (r + 1))) :
    ∀ f i t, i ≤ m.1 → m.1 - i < f → t ≤ i → (t = i ↔ ∀ q, q < i → sm_br m p (k + 1) q = sm_bj m (ld r) q) → wY_rotationOf_16 post J2 (nI p) (nI k) (nI r) (nI m.1) (nI cnt) g_rotationCount g_shownSet g_solved b_lists b_weights b_match b_found b_leadP b_leadK f (nI t) (nI i) := by
  have o6 := o.1.2
  have bl : ∀ q, q < m.1 → sm_bj m (ld r) q < m.1 := fun q hq => (sm_bS o hR hr).1.1 q hq
  intro f
  induction f with
  | zero => intro i _ _ h; omega
  | succ f ih =>
    intro i t hi hf ht hh
    refine pk_le m.1 i (fun z => ?_) (fun z => ?_)
    · have : i = m.1 := by omega
      subst this
      exact pk_eq t m.1 (fun y => h1 (hh.mp y)) (fun y => nm_r (nI_1 r) (h0 fun g => y (hh.mpr g)))
    · refine yl_l o hF (K := k + 1) hp z (by omega) ?_ (nI_pred k).symm
      refine yb_b o hF hL hR hr z ?_
      have b1 := sm_brb o (K := k + 1) hp z
      have b2 := bl i z
      refine pk_eq (sm_br m p (k + 1) i) (sm_bj m (ld r) i) (fun y => nm_r (nI_1 t) (nm_r (nI_1 i) (ih (i + 1) (t + 1) (by omega) (by omega) (by omega) ?_))) (fun y => nm_r (nI_1 i) (ih (i + 1) t (by omega) (by omega) (by omega) ?_))
      · constructor
        · intro e q hq
          rcases Nat.lt_or_ge q i with w | w
          · exact hh.mp (by omega) q w
          · have : q = i := by omega
            rw [this]; exact y
        · intro g
          have := hh.mpr fun q hq => g q (by omega)
          omega
      · constructor
        · intro e; omega
        · intro g
          exact absurd (g i (by omega)) y
theorem yt_r (o : sm_ok m) {cnt : Nat} {G : Nat → Nat → Nat} (hF : yv_F m cnt G b_found) {c j : Nat} {ld : Nat → Nat} (hL : yv_L m c ld b_leadP b_leadK) (hR : sm_RL m j c ld) {p k : Nat} (hp : p < m.1) (hk : k < m.1) {post : Int32 → Prop}
    (h1 : ∀ r, r < c → (∀ q, q < m.1 → sm_br m p (k + 1) q = sm_bj m (ld r) q) → post (nI r)) (h0 : (∀ r, r < c → ¬ ∀ q, q < m.1 → sm_br m p (k + 1) q = sm_bj m (ld r) q) → post (-1)) : wpY_rotationOf post ((nI m.1), (nI cnt), (nI c), g_shownSet, g_solved, b_lists, b_weights, b_match, b_found, b_leadP, b_leadK) (nI p) (nI k) := by
  have c15 := sm_RL15 o hR
  have key : ∀ f i, i ≤ c → c - i < f → (∀ r, r < i → ¬ ∀ q, q < m.1 → sm_br m p (k + 1) q = sm_bj m (ld r) q) → wY_rotationOf_2 post (nI p) (nI k) (nI m.1) (nI cnt) (nI c) g_shownSet g_solved b_lists b_weights b_match b_found b_leadP b_leadK f (nI i) := by
    intro f
    induction f with
    | zero => intro i _ h; omega
    | succ f ih =>
      intro i hi hf hh
      refine pk_le c i (fun z => h0 fun r hr => hh r (by omega)) (fun z => ?_)
      refine ⟨m.1 + 1, yt_16 o hF hL hR z hp hk (fun g => h1 i z g) (fun g => ih (i + 1) (by omega) (by omega) fun r hr => ?_) (m.1 + 1) 0 0 (by omega) (by omega) (by omega) ⟨fun _ q hq => by omega, fun _ => rfl⟩⟩
      rcases Nat.lt_or_ge r i with y | y
      · exact hh r y
      · have : r = i := by omega
        rw [this]; exact g
  exact Exists.intro (c + 1) (key (c + 1) 0 (by omega) (by omega) (fun r hr => by omega))
end
end
section
/-! Y: solve -/
theorem en_nx {n p : Nat} {M N : Nat → Nat} (h1 : ∀ i, i < p → N i = M i) (h2 : N p = M p + 1) : ∀ d, (∀ i, p < i → i < p + 1 + d → N i = 0 ∧ M i + 1 = n) → en_c n N (p + 1 + d) = en_c n M (p + 1 + d) + 1
  | 0, _ => by
    show en_c n N p * n + N p = en_c n M p * n + M p + 1
    rw [en_cg (j := p) h1, h2]
    omega
  | d + 1, h3 => by
    show en_c n N (p + 1 + d) * n + N (p + 1 + d) = en_c n M (p + 1 + d) * n + M (p + 1 + d) + 1
    have a := h3 (p + 1 + d) (by omega) (by omega)
    rw [en_nx h1 h2 d (fun i i1 i2 => h3 i i1 (by omega)), a.1, Nat.add_mul, Nat.one_mul]
    omega
theorem nn_b {n : Nat} (h1 : 1 ≤ n) (h6 : n ≤ 6) : n ^ n ≤ 46656 := by
  have : n = 1 ∨ n = 2 ∨ n = 3 ∨ n = 4 ∨ n = 5 ∨ n = 6 := by omega
  rcases this with e | e | e | e | e | e <;> subst e <;> decide
theorem nI_m1 (p : Nat) : nI p + (-1) = nI p - 1 := by rw [Int32.sub_eq_add_neg]
section
variable {m : sm_M} {g_count g_rotationCount g_shownSet g_solved : Int32} {b_lists b_weights b_match b_found b_leadP b_leadK : Nat → Int32}
theorem yw_131 (o : sm_ok m) {M : Nat → Nat} (hM : ∀ q, q < m.1 → M q < m.1) {c : Nat} (hc : en_c m.1 M m.1 = c) {x1 : Int32} {post : Int32 → SY → Prop} {J : Int32 → Int32 → (Nat → Int32) → (Nat → Int32) → (Nat → Int32) → (Nat → Int32) → (Nat → Int32) → (Nat → Int32) → Prop}
    (h : ∀ (mt : Nat → Int32) (N : Nat → Nat), (∀ q, q < m.1 → mt q = nI (N q)) → (∀ q, q < m.1 → N q < m.1) → (c + 1 < m.1 ^ m.1 → en_c m.1 N m.1 = c + 1) → J (nI (c + 1)) g_count b_lists b_weights mt b_found b_leadP b_leadK) :
    ∀ f j (mt : Nat → Int32) (N : Nat → Nat), j ≤ m.1 → j < f → (∀ q, q < m.1 → mt q = nI (N q)) → (∀ q, q < j → N q = M q) → (∀ q, j ≤ q → q < m.1 → N q = 0 ∧ M q + 1 = m.1) → wY_solve_131 post J x1 (nI c) (nI m.1) g_count g_rotationCount g_shownSet g_solved f (nI j - 1) b_lists b_weights mt b_found b_leadP b_leadK := by
  have o6 := o.1
  intro f
  induction f with
  | zero => intro i _ _ _ h; omega
  | succ f ih =>
    intro j mt N hj hf hmt h1 h2
    rcases Nat.eq_zero_or_pos j with z | z
    · subst z
      refine br_t ((pk_n1 (by omega)).1.mpr rfl) (nm_r (nI_1 c) (h mt N hmt (fun q hq => ?_) (fun y => ?_)))
      · have := (h2 q (by omega) hq).1
        omega
      · have := en_full (n := m.1) (M := M) (j := m.1) (fun i hi => (h2 i (by omega) hi).2)
        omega
    · obtain ⟨p, rfl⟩ : ∃ p, j = p + 1 := ⟨j - 1, by omega⟩
      rw [nI_pred]
      have hp : p < m.1 := by omega
      have hMp := hM p hp
      have rd : mt (nI p).toNatClampNeg = nI (M p) := rd_c p (by rw [hmt p hp, h1 p (by omega)])
      refine br_f (nI_pos (by omega)) ⟨pk_in p 6 (by omega), pk_in p 6 (by omega), nm_r (e' := upd mt p (nI (M p + 1))) (by rw [rd, nI_clamp (by omega), nI_1]) ?_⟩
      refine pk_eq (M p + 1) m.1 (fun y => ?_) (fun y => ?_) (by rw [rd, nI_1]) rfl
      · refine ⟨pk_in p 6 (by omega), nm_r (e' := upd (upd mt p (nI (M p + 1))) p (nI 0)) (by rw [nI_clamp (by omega)]; rfl) (nm_r (nI_m1 p) (ih p _ (nu_u N p 0) (by omega) (by omega) (fun q hq => ?_) (fun q hq => ?_) (fun q q1 q2 => ?_)))⟩
        · by_cases e : q = p
          · rw [e, pk_us, nu_s]
          · rw [pk_un e, pk_un e, nu_n e]; exact hmt q hq
        · rw [nu_n (by omega)]; exact h1 q (by omega)
        · by_cases e : q = p
          · rw [e, nu_s]; exact ⟨rfl, y⟩
          · rw [nu_n e]; exact h2 q (by omega) q2
      · refine nm_r (nI_1 c) (h _ (nu_u N p (M p + 1)) (fun q hq => ?_) (fun q hq => ?_) (fun _ => ?_))
        · by_cases e : q = p
          · rw [e, pk_us, nu_s]
          · rw [pk_un e, nu_n e]; exact hmt q hq
        · by_cases e : q = p
          · rw [e, nu_s]; omega
          · rw [nu_n e]
            rcases Nat.lt_or_ge q p with w | w
            · rw [h1 q (by omega)]; exact hM q hq
            · have := (h2 q (by omega) hq).1
              omega
        · have a := en_nx (n := m.1) (p := p) (M := M) (N := nu_u N p (M p + 1)) (fun i hi => by rw [nu_n (by omega)]; exact h1 i (by omega)) nu_s (m.1 - (p + 1)) (fun i i1 i2 => by
            rw [nu_n (by omega)]
            exact h2 i (by omega) (by omega))
          have e : p + 1 + (m.1 - (p + 1)) = m.1 := by omega
          rw [e, hc] at a
          exact a
theorem yw_68 (o : sm_ok m) {M : Nat → Nat} (hmt : ∀ q, q < m.1 → b_match q = nI (M q)) {cnt : Nat} (hcnt : cnt < 720) {x1 x2 : Int32} {fd0 : Nat → Int32} {post : Int32 → SY → Prop} {J : Int32 → Int32 → (Nat → Int32) → (Nat → Int32) → (Nat → Int32) → (Nat → Int32) → (Nat → Int32) → (Nat → Int32) → Prop}
    (h : ∀ fd : Nat → Int32, (∀ j, j < cnt * 6 → fd j = fd0 j) → (∀ q, q < m.1 → fd (cnt * 6 + q) = nI (M q)) → wY_solve_109 post J x1 x2 1 (nI m.1) (nI cnt) g_rotationCount g_shownSet g_solved b_lists b_weights b_match fd b_leadP b_leadK) :
    ∀ f i (fd : Nat → Int32), i ≤ m.1 → m.1 - i < f → (∀ j, j < cnt * 6 → fd j = fd0 j) → (∀ q, q < i → fd (cnt * 6 + q) = nI (M q)) → wY_solve_68 post J x1 x2 1 (nI m.1) (nI cnt) g_rotationCount g_shownSet g_solved f (nI i) b_lists b_weights b_match fd b_leadP b_leadK := by
  have o6 := o.1.2
  intro f
  induction f with
  | zero => intro i _ _ h; omega
  | succ f ih =>
    intro i fd hi hf h1 h2
    refine pk_le m.1 i (fun z => h fd h1 fun q hq => h2 q (by omega)) (fun z => ?_)
    have e : nI cnt * 6 + nI i = nI (cnt * 6 + i) := by rw [← nI_add, ← pk_mul]; rfl
    refine br_f (by decide) ⟨pk_in i 6 (by omega), pk_in (cnt * 6 + i) 4320 (by omega) e, nm_r (e' := upd fd (cnt * 6 + i) (nI (M i))) (by rw [e, nI_clamp (by omega), nI_clamp (by omega), hmt i z]) (nm_r (nI_1 i) (ih (i + 1) _ (by omega) (by omega) (fun j hj => ?_) (fun q hq => ?_)))⟩
    · rw [pk_un (by omega)]; exact h1 j hj
    · by_cases y : q = i
      · subst y; exact pk_us
      · rw [pk_un (by omega)]; exact h2 q (by omega)
theorem yw_55 (o : sm_ok m) (hl : ∀ i, b_lists i = nI (m.2.1 i)) {post : Int32 → SY → Prop}
    (h : ∀ (cnt : Nat) (G : Nat → Nat → Nat) (mt fd : Nat → Int32), yv_F m cnt G fd → ∃ n182 : Nat, wY_solve_182 post (nI m.1) (nI cnt) g_shownSet g_solved n182 0 0 b_lists b_weights mt fd b_leadP b_leadK) :
    ∀ f c cnt (mt fd : Nat → Int32) (M : Nat → Nat) (G : Nat → Nat → Nat), c ≤ m.1 ^ m.1 → m.1 ^ m.1 - c < f → en_F m c cnt G → (∀ i q, i < cnt → q < m.1 → fd (i * 6 + q) = nI (G i q)) → (∀ q, q < m.1 → mt q = nI (M q)) → (∀ q, q < m.1 → M q < m.1) → (c < m.1 ^ m.1 → en_c m.1 M m.1 = c) →
      wY_solve_55 post (nI (m.1 ^ m.1)) (nI m.1) g_rotationCount g_shownSet g_solved f (nI c) (nI cnt) b_lists b_weights mt fd b_leadP b_leadK := by
  have o6 := o.1
  have nb := nn_b o.1.1 o.1.2
  intro f
  induction f with
  | zero => intro i _ _ _ _ _ _ h; omega
  | succ f ih =>
    intro c cnt mt fd M G hc hf hF hfd hmt hM hcd
    refine pk_le (m.1 ^ m.1) c (fun z => ?_) (fun z => ?_)
    · have : c = m.1 ^ m.1 := by omega
      rw [this] at hF
      exact h cnt G mt fd ⟨hF, hfd⟩
    · have ec := hcd z
      have en : m.1 - 0 < m.1 + 1 := by omega
      have e1 : nI m.1 - 1 = nI m.1 - 1 := rfl
      refine ys_s o hl hmt hM (fun st => ?_) (fun st => ?_)
      · have c7 := en_Fl o hF ec st
        refine ⟨m.1 + 1, yw_68 o hmt c7 (fun fd' g1 g2 => ?_) (m.1 + 1) 0 fd (by omega) (by omega) (fun _ _ => rfl) (fun q hq => by omega)⟩
        refine br_f (by decide) (nm_r (nI_1 cnt) (nm_e ⟨m.1 + 1, ?_⟩))
        refine yw_131 o hM ec (fun mt' N n1 n2 n3 => ?_) (m.1 + 1) m.1 mt M (Nat.le_refl _) (by omega) hmt (fun _ _ => rfl) (fun q q1 q2 => by omega)
        refine ih (c + 1) (cnt + 1) mt' fd' N (fun i => if i = cnt then M else G i) (by omega) (by omega) ?_ ?_ n1 n2 n3
        · refine en_Fn hF ec st (fun i hi q hq => ?_) (fun q hq => ?_)
          · show (if i = cnt then M else G i) q = G i q
            rw [if_neg (by omega)]
          · show (if cnt = cnt then M else G cnt) q = M q
            rw [if_pos rfl]
        · intro i q hi hq
          show fd' (i * 6 + q) = nI ((if i = cnt then M else G i) q)
          by_cases e : i = cnt
          · rw [if_pos e, e]; exact g2 q hq
          · rw [if_neg e, g1 _ (by omega)]; exact hfd i q (by omega) hq
      · refine ⟨1, br_f (nI_ge (a := 0) (b := m.1) (by omega) (by omega)) (br_t rfl (br_t rfl (nm_e ⟨m.1 + 1, ?_⟩)))⟩
        refine yw_131 o hM ec (fun mt' N n1 n2 n3 => ?_) (m.1 + 1) m.1 mt M (Nat.le_refl _) (by omega) hmt (fun _ _ => rfl) (fun q q1 q2 => by omega)
        exact ih (c + 1) cnt mt' fd N G (by omega) (by omega) (en_Fs hF hM ec st) hfd n1 n2 n3
theorem yw_192 (o : sm_ok m) {cnt : Nat} {G : Nat → Nat → Nat} (hF : yv_F m cnt G b_found) {p : Nat} (hp : p < m.1) {post : Int32 → SY → Prop} {J : Int32 → Int32 → (Nat → Int32) → (Nat → Int32) → (Nat → Int32) → (Nat → Int32) → (Nat → Int32) → (Nat → Int32) → Prop}
    (h : ∀ (c : Nat) (ld : Nat → Nat) (lP lK : Nat → Int32), sm_RL m (p * 6 + 6) c ld → yv_L m c ld lP lK → J (nI (p + 1)) (nI c) b_lists b_weights b_match b_found lP lK) :
    ∀ f k c (ld : Nat → Nat) (lP lK : Nat → Int32), k ≤ m.1 → m.1 - k < f → sm_RL m (p * 6 + k) c ld → yv_L m c ld lP lK → wY_solve_192 post J (nI p) (nI m.1) (nI cnt) g_shownSet g_solved f (nI k) (nI c) b_lists b_weights b_match b_found lP lK := by
  have o6 := o.1.2
  intro f
  induction f with
  | zero => intro i _ _ _ _ _ h; omega
  | succ f ih =>
    intro k c ld lP lK hk hf hR hL
    have c15 := sm_RL15 o hR
    refine pk_le m.1 k (fun z => nm_r (nI_1 p) (h c ld lP lK ?_ hL)) (fun z => ?_)
    · refine sm_RLs hR (by omega) fun j j1 j2 hfm => ?_
      have a := sm_mvk hfm.1
      have b : j / 6 = p := by omega
      omega
    · have k6 : k < 6 := by omega
      have skip : ¬ sm_fm m (p * 6 + k) → sm_RL m (p * 6 + (k + 1)) c ld := fun hn => sm_RLs hR (by omega) fun j j1 j2 => by
        have : j = p * 6 + k := by omega
        rw [this]; exact hn
      refine yo_m o hF hp z (fun mv => br_f (by decide) ?_) (fun mv => br_t rfl (nm_r (nI_1 k) (ih (k + 1) c ld lP lK (by omega) (by omega) (skip fun hf => mv ((sm_mjc k6).mp hf.1)) hL)))
      refine yt_r o hF hL hR hp z (fun r hr e => ?_) (fun hn => ?_)
      · refine br_t (nI_pos' (by omega)) (nm_r (nI_1 k) (ih (k + 1) c ld lP lK (by omega) (by omega) (skip (sm_RLg hR hr fun q hq => ?_)) hL))
        rw [sm_bjc k6]; exact (e q hq).symm
      · have fm : sm_fm m (p * 6 + k) := sm_RLf hR ((sm_mjc k6).mpr mv) fun r hr sb => hn r hr fun q hq => by
          have := sb q hq
          rw [sm_bjc k6] at this
          exact this.symm
        refine br_f (by decide) ⟨pk_in c 36 (by omega), nm_r (e' := upd lP c (nI p)) (by rw [nI_clamp (by omega)]) ⟨pk_in c 36 (by omega), nm_r (e' := upd lK c (nI k)) (by rw [nI_clamp (by omega)]) (nm_r (nI_1 c) (nm_r (nI_1 k) (ih (k + 1) (c + 1) (nu_u ld c (p * 6 + k)) _ _ (by omega) (by omega) ?_ ?_)))⟩⟩
        · exact sm_RLn hR fm (fun r hr => nu_n (by omega)) nu_s
        · intro r hr
          by_cases e : r = c
          · rw [e, pk_us, pk_us, nu_s, (sm_c6 k6).1, (sm_c6 k6).2]
            exact ⟨rfl, rfl⟩
          · rw [pk_un e, pk_un e, nu_n e]
            exact hL r (by omega)
theorem yw_182 (o : sm_ok m) {cnt : Nat} {G : Nat → Nat → Nat} (hF : yv_F m cnt G b_found) {post : Int32 → SY → Prop}
    (h : ∀ (c : Nat) (ld : Nat → Nat) (lP lK : Nat → Int32), sm_RL m 36 c ld → yv_L m c ld lP lK → post (nI c) ((nI m.1), (nI cnt), (nI c), 0, 1, b_lists, b_weights, b_match, b_found, lP, lK)) :
    ∀ f p c (ld : Nat → Nat) (lP lK : Nat → Int32), p ≤ m.1 → m.1 - p < f → sm_RL m (p * 6) c ld → yv_L m c ld lP lK → wY_solve_182 post (nI m.1) (nI cnt) g_shownSet g_solved f (nI p) (nI c) b_lists b_weights b_match b_found lP lK := by
  have o6 := o.1.2
  intro f
  induction f with
  | zero => intro i _ _ _ _ _ h; omega
  | succ f ih =>
    intro p c ld lP lK hp hf hR hL
    refine pk_le m.1 p (fun z => h c ld lP lK ?_ hL) (fun z => ?_)
    · exact sm_RLs hR (by omega) fun j j1 j2 hfm => by
        have := hfm.1.1
        omega
    · refine ⟨m.1 + 1, yw_192 o hF z (fun c' ld' lP' lK' hR' hL' => ih (p + 1) c' ld' lP' lK' (by omega) (by omega) ?_ hL') (m.1 + 1) 0 c ld lP lK (by omega) (by omega) hR hL⟩
      rw [Nat.add_mul, Nat.one_mul]
      exact hR'
theorem yw_s (o : sm_ok m) (hl : ∀ i, b_lists i = nI (m.2.1 i)) {post : Int32 → SY → Prop}
    (h : ∀ (cnt c : Nat) (G : Nat → Nat → Nat) (ld : Nat → Nat) (mt fd lP lK : Nat → Int32), yv_F m cnt G fd → sm_RL m 36 c ld → yv_L m c ld lP lK → post (nI c) ((nI m.1), (nI cnt), (nI c), 0, 1, b_lists, b_weights, mt, fd, lP, lK)) : wpY_solve post ((nI m.1), g_count, g_rotationCount, g_shownSet, g_solved, b_lists, b_weights, b_match, b_found, b_leadP, b_leadK) := by
  have o6 := o.1
  have k27 : ∀ f i (mt : Nat → Int32), i ≤ m.1 → m.1 - i < f → (∀ q, q < i → mt q = nI 0) → wY_solve_27 post (nI (m.1 ^ m.1)) (nI m.1) g_count g_rotationCount g_shownSet g_solved f (nI i) b_lists b_weights mt b_found b_leadP b_leadK := by
    intro f
    induction f with
    | zero => intro i _ _ h; omega
    | succ f ih =>
      intro i mt hi hf hz
      refine pk_le m.1 i (fun z => ?_) (fun z => ?_)
      · refine ⟨m.1 ^ m.1 + 1, yw_55 o hl (fun cnt G mt' fd hF => ⟨m.1 + 1, yw_182 o hF (fun c ld lP lK hR hL => h cnt c G ld mt' fd lP lK hF hR hL) (m.1 + 1) 0 0 (fun _ => 0) b_leadP b_leadK (by omega) (by omega) sm_RL0 (fun r hr => by omega)⟩) (m.1 ^ m.1 + 1) 0 0 mt b_found (fun _ => 0) (fun _ _ => 0) (by omega) (by omega) en_F0 (fun i q hi => by omega) (fun q hq => hz q (by omega)) (fun q hq => by show 0 < m.1; omega) (fun _ => en_z fun _ _ => rfl)⟩
      · refine ⟨pk_in i 6 (by omega), nm_r (e' := upd mt i (nI 0)) (by rw [nI_clamp (by omega)]; rfl) (nm_r (nI_1 i) (ih (i + 1) _ (by omega) (by omega) fun q hq => ?_))⟩
        by_cases e : q = i
        · subst e; exact pk_us
        · rw [pk_un e]; exact hz q (by omega)
  have k4 : ∀ f i, i ≤ m.1 → m.1 - i < f → wY_solve_4 post (nI m.1) g_count g_rotationCount g_shownSet g_solved b_lists b_weights b_match b_found b_leadP b_leadK f (nI (m.1 ^ i)) (nI i) := by
    intro f
    induction f with
    | zero => intro i _ h; omega
    | succ f ih =>
      intro i hi hf
      refine pk_le m.1 i (fun z => ?_) (fun z => ?_)
      · have : i = m.1 := by omega
        rw [this]
        exact ⟨m.1 + 1, k27 (m.1 + 1) 0 b_match (by omega) (by omega) (fun q hq => by omega)⟩
      · exact nm_r (e' := nI (m.1 ^ (i + 1))) (by rw [pk_mul, Nat.pow_succ]) (nm_r (nI_1 i) (ih (i + 1) (by omega) (by omega)))
  exact Exists.intro (m.1 + 1) (k4 (m.1 + 1) 0 (by omega) (by omega))
end
end
section
/-! Y: order, the shown matching, totals, the optimum -/
theorem zi_cmp {A B : Prop} {a b : Int} (ha : -2147483648 ≤ a ∧ a < 2147483648) (hb : -2147483648 ≤ b ∧ b < 2147483648) (f : a ≤ b → A) (g : b < a → B) : (zi_I a ≤ zi_I b → A) ∧ (¬ zi_I a ≤ zi_I b → B) := by
  rw [Int32.le_iff_toInt_le, zi_t ha.1 ha.2, zi_t hb.1 hb.2]
  exact ⟨f, fun y => g (by omega)⟩
section
variable {m : sm_M} {g_count g_rotationCount g_shownSet g_solved : Int32} {b_lists b_weights b_match b_found b_leadP b_leadK : Nat → Int32}
theorem yf_b (o : sm_ok m) {cnt : Nat} {G : Nat → Nat → Nat} (hF : yv_F m cnt G b_found) {c j : Nat} {ld : Nat → Nat} (hL : yv_L m c ld b_leadP b_leadK) (hR : sm_RL m j c ld) {r s : Nat} (hr : r < c) (hs : s < c) {post : Int32 → Prop}
    (h1 : sm_le m (sm_bj m (ld r)) (sm_bj m (ld s)) → r ≠ s → post 1) (h0 : ¬ (sm_le m (sm_bj m (ld r)) (sm_bj m (ld s)) ∧ r ≠ s) → post 0) : wpY_before post ((nI m.1), (nI cnt), g_rotationCount, g_shownSet, g_solved, b_lists, b_weights, b_match, b_found, b_leadP, b_leadK) (nI r) (nI s) := by
  have o6 := o.1.2
  have c15 := sm_RL15 o hR
  have key : ∀ f i, i ≤ m.1 → m.1 - i < f → (∀ q, q < i → sm_bj m (ld r) q ≤ sm_bj m (ld s) q) → wY_before_2 post (nI r) (nI s) (nI m.1) (nI cnt) g_rotationCount g_shownSet g_solved b_lists b_weights b_match b_found b_leadP b_leadK f (nI i) := by
    intro f
    induction f with
    | zero => intro i _ h; omega
    | succ f ih =>
      intro i hi hf hh
      refine pk_le m.1 i (fun z => ?_) (fun z => ?_)
      · exact pk_eq r s (fun y => h0 fun w => w.2 y) (fun y => h1 (fun q hq => hh q (by omega)) y)
      · have b1 := (sm_bS o hR hr).1.1 i z
        have b2 := (sm_bS o hR hs).1.1 i z
        refine yb_b o hF hL hR hr z ?_
        refine yb_b o hF hL hR hs z ?_
        refine pk_le (sm_bj m (ld r) i) (sm_bj m (ld s) i) (fun y => nm_r (nI_1 i) (ih (i + 1) (by omega) (by omega) fun q hq => ?_)) (fun y => h0 fun w => by have := w.1 i z; omega)
        rcases Nat.lt_or_ge q i with x | x
        · exact hh q x
        · have : q = i := by omega
          rw [this]; exact y
  exact Exists.intro (m.1 + 1) (key (m.1 + 1) 0 (by omega) (by omega) (fun q hq => by omega))
theorem yd_25 (o : sm_ok m) {cnt : Nat} {G : Nat → Nat → Nat} (hF : yv_F m cnt G b_found) {c j : Nat} {ld : Nat → Nat} (hL : yv_L m c ld b_leadP b_leadK) (hR : sm_RL m j c ld) {q : Nat} (hq : q < m.1) {post : SY → Prop} {J : Int32 → (Nat → Int32) → (Nat → Int32) → (Nat → Int32) → (Nat → Int32) → (Nat → Int32) → (Nat → Int32) → Prop}
    (h : ∀ mt : Nat → Int32, (∀ x, x < q + 1 → mt x = nI (sr_R m c ld g_shownSet x)) → J (nI (q + 1)) b_lists b_weights mt b_found b_leadP b_leadK) :
    ∀ f i (mt : Nat → Int32), i ≤ c → c - i < f → (∀ x, x < q → mt x = nI (sr_R m c ld g_shownSet x)) → mt q = nI (sr_v (sm_tp m) (fun r => sm_bj m (ld r)) (fun r => bt g_shownSet r) q i) → wY_loadShown_25 post J (nI q) (nI m.1) (nI cnt) (nI c) g_shownSet g_solved f (nI i) b_lists b_weights mt b_found b_leadP b_leadK := by
  have o6 := o.1.2
  have c15 := sm_RL15 o hR
  intro f
  induction f with
  | zero => intro i _ _ h; omega
  | succ f ih =>
    intro i mt hi hf h1 h2
    have st : sr_v (sm_tp m) (fun r => sm_bj m (ld r)) (fun r => bt g_shownSet r) q (i + 1) = if bt g_shownSet i = true ∧ sr_v (sm_tp m) (fun r => sm_bj m (ld r)) (fun r => bt g_shownSet r) q i < sm_bj m (ld i) q then sm_bj m (ld i) q else sr_v (sm_tp m) (fun r => sm_bj m (ld r)) (fun r => bt g_shownSet r) q i := rfl
    refine pk_le c i (fun z => nm_r (nI_1 q) (h mt fun x hx => ?_)) (fun z => ?_)
    · rcases Nat.lt_or_ge x q with y | y
      · exact h1 x y
      · have e1 : x = q := by omega
        have e2 : i = c := by omega
        rw [e1, h2, e2]
        rfl
    · have bd := sr_b (t := sm_tp m) (b := fun r => sm_bj m (ld r)) (s := fun r => bt g_shownSet r) (q := q) (B := m.1) (c := c) ((sm_tpS o).1.1 q hq) (fun r hr => (sm_bS o hR hr).1.1 q hq) i (by omega)
      have b2 := (sm_bS o hR z).1.1 q hq
      cases hb : bt g_shownSet i
      · refine br_f (by rw [bw_f (by omega) hb]; decide) (nm_r (nI_1 i) (ih (i + 1) mt (by omega) (by omega) h1 ?_))
        rw [st, if_neg (fun u => by rw [hb] at u; exact Bool.noConfusion u.1)]
        exact h2
      · refine br_t (bw_t (by omega) hb) ?_
        refine yb_b o hF hL hR z hq ⟨pk_in q 6 (by omega), ?_⟩
        refine pk_le (sm_bj m (ld i) q) (sr_v (sm_tp m) (fun r => sm_bj m (ld r)) (fun r => bt g_shownSet r) q i) (fun y => ?_) (fun y => ?_) rfl (rd_c q h2)
        · refine nm_r (nI_1 i) (ih (i + 1) mt (by omega) (by omega) h1 ?_)
          rw [st, if_neg (fun u => by omega)]
          exact h2
        · refine yb_b o hF hL hR z hq ⟨pk_in q 6 (by omega), nm_r (e' := upd mt q (nI (sm_bj m (ld i) q))) (by rw [nI_clamp (by omega)]) (nm_r (nI_1 i) (ih (i + 1) _ (by omega) (by omega) (fun x hx => ?_) ?_))⟩
          · rw [pk_un (by omega)]; exact h1 x hx
          · rw [st, if_pos ⟨hb, y⟩, pk_us]
theorem yd_l (o : sm_ok m) {cnt : Nat} {G : Nat → Nat → Nat} (hF : yv_F m cnt G b_found) {c j : Nat} {ld : Nat → Nat} (hL : yv_L m c ld b_leadP b_leadK) (hR : sm_RL m j c ld) {post : SY → Prop}
    (h : ∀ mt : Nat → Int32, (∀ x, x < m.1 → mt x = nI (sr_R m c ld g_shownSet x)) → post ((nI m.1), (nI cnt), (nI c), g_shownSet, g_solved, b_lists, b_weights, mt, b_found, b_leadP, b_leadK)) : wpY_loadShown post ((nI m.1), (nI cnt), (nI c), g_shownSet, g_solved, b_lists, b_weights, b_match, b_found, b_leadP, b_leadK) := by
  have o6 := o.1.2
  have key : ∀ f i (mt : Nat → Int32), i ≤ m.1 → m.1 - i < f → (∀ x, x < i → mt x = nI (sr_R m c ld g_shownSet x)) → wY_loadShown_2 post (nI m.1) (nI cnt) (nI c) g_shownSet g_solved f (nI i) b_lists b_weights mt b_found b_leadP b_leadK := by
    intro f
    induction f with
    | zero => intro i _ _ h; omega
    | succ f ih =>
      intro i mt hi hf hh
      refine pk_le m.1 i (fun z => h mt fun x hx => hh x (by omega)) (fun z => ?_)
      refine yl_l o hF (K := 0) z z (by omega) ⟨pk_in i 6 (by omega), nm_r (e' := upd mt i (nI (sm_tp m i))) (by rw [nI_clamp (by omega), sm_tpb o z i z]) ⟨c + 1, ?_⟩⟩ rfl
      refine yd_25 o hF hL hR z (fun mt' g => ih (i + 1) mt' (by omega) (by omega) g) (c + 1) 0 _ (by omega) (by omega) (fun x hx => ?_) ?_
      · rw [pk_un (by omega)]; exact hh x hx
      · rw [pk_us]; rfl
  exact Exists.intro (m.1 + 1) (key (m.1 + 1) 0 b_match (by omega) (by omega) (fun x hx => by omega))
theorem ye_t (o : sm_ok m) (hl : ∀ i, b_lists i = nI (m.2.1 i)) {w : Nat → Nat} (hwt : ∀ i, b_weights i = nI (w i)) {M : Nat → Nat} (hm : ∀ q, q < m.1 → b_match q = nI (M q)) (hM : ∀ q, q < m.1 → M q < m.1) {post : Int32 → Prop} (h : post (zi_I (zs_u (fun q => xk_w m w q (M q)) m.1))) : wpY_matchTotal post ((nI m.1), g_count, g_rotationCount, g_shownSet, g_solved, b_lists, b_weights, b_match, b_found, b_leadP, b_leadK) := by
  have o6 := o.1.2
  have key : ∀ f i, i ≤ m.1 → m.1 - i < f → wY_matchTotal_4 post (nI m.1) g_count g_rotationCount g_shownSet g_solved b_lists b_weights b_match b_found b_leadP b_leadK f (zi_I (zs_u (fun q => xk_w m w q (M q)) i)) (nI i) := by
    intro f
    induction f with
    | zero => intro i _ h; omega
    | succ f ih =>
      intro i hi hf
      refine pk_le m.1 i (fun z => ?_) (fun z => ?_)
      · have : i = m.1 := by omega
        subst this
        exact h
      · have ha := sm_hl o z (hM i z)
        have e6 : 6 + nI (sm_h m M i) = nI (6 + sm_h m M i) := by rw [← nI_add]; rfl
        refine yh_h o hl hm hM z ⟨pk_in i 12 (by omega), pk_in i 6 (by omega), pk_in (6 + sm_h m M i) 12 (by omega) e6, ?_⟩
        refine yr_1 o hl ha z ?_
        refine nm_r ?_ (nm_r (nI_1 i) (ih (i + 1) (by omega) (by omega)))
        rw [nI_clamp (n := i) (by omega), e6, nI_clamp (n := 6 + sm_h m M i) (by omega), hwt, hwt, hm i z, pk_mul, pk_mul, nI_add, ← zi_n]
        show Int32.ofInt _ + Int32.ofInt _ = Int32.ofInt _
        rw [← Int32.ofInt_add]
        rfl
  exact Exists.intro (m.1 + 1) (key (m.1 + 1) 0 (by omega) (by omega))
/-- the total of a row of the table -/
def yq_T (m : sm_M) (w : Nat → Nat) (M : Nat → Nat) : Int := zs_u (fun q => xk_w m w q (M q)) m.1
theorem yq_b {m : sm_M} (o : sm_ok m) {w : Nat → Nat} (hw : ∀ i, w i ≤ 20) {M : Nat → Nat} (hM : ∀ q, q < m.1 → M q < m.1) : -2147483648 ≤ yq_T m w M ∧ yq_T m w M < 2147483648 := by
  have o6 := o.1.2
  have a : 0 ≤ yq_T m w M := zs_nn fun q hq => (xk_wb o hw hq (hM q hq)).1
  have b : yq_T m w M ≤ m.1 * 200 := zs_b fun q hq => (xk_wb o hw hq (hM q hq)).2
  omega
theorem yq_100 (o : sm_ok m) {cnt : Nat} {G : Nat → Nat → Nat} (hF : yv_F m cnt G b_found) {c : Nat} {ld : Nat → Nat} (hL : yv_L m c ld b_leadP b_leadK) (hR : sm_RL m 36 c ld) {b : Nat} (hb : b < cnt) {post : Int32 → SY → Prop}
    (h : ∀ sh : Int32, (∀ i, i < 32 → (bt sh i = true ↔ (i < c ∧ ld i % 6 < G b (ld i / 6)))) → post sh ((nI m.1), (nI cnt), (nI c), sh, g_solved, b_lists, b_weights, b_match, b_found, b_leadP, b_leadK)) :
    ∀ f r (sh : Int32), r ≤ c → c - r < f → (∀ i, i < 32 → (bt sh i = true ↔ (i < r ∧ ld i % 6 < G b (ld i / 6)))) → wY_optimum_100 post (nI b) (nI m.1) (nI cnt) (nI c) g_solved b_lists b_weights b_match b_found b_leadP b_leadK f (nI r) sh := by
  have o6 := o.1.2
  have c15 := sm_RL15 o hR
  have c7 := en_Fc o hF.1
  intro f
  induction f with
  | zero => intro i _ _ h; omega
  | succ f ih =>
    intro r sh hr hf hs
    refine pk_le c r (fun z => h sh ?_) (fun z => ?_)
    · have : r = c := by omega
      subst this
      exact hs
    · have hp := (hR.1 r z).2.1.1
      have bG := (hF.1.1 b hb).1.1 _ hp
      have eP : b_leadP (nI r).toNatClampNeg = nI (ld r / 6) := rd_c r (hL r z).1
      have e : nI b * 6 + nI (ld r / 6) = nI (b * 6 + ld r / 6) := by rw [← nI_add, ← pk_mul]; rfl
      rw [eP, e]
      refine ⟨pk_in r 36 (by omega), pk_in (b * 6 + ld r / 6) 4320 (by omega), pk_in r 36 (by omega), ?_⟩
      refine pk_le (G b (ld r / 6)) (ld r % 6) (fun y => ?_) (fun y => ?_) (rd_c (b * 6 + ld r / 6) (hF.2 b _ hb hp)) (rd_c r (hL r z).2)
      · refine nm_r (nI_1 r) (ih (r + 1) sh (by omega) (by omega) fun i hi => ?_)
        rw [hs i hi]
        constructor
        · rintro ⟨a, b⟩
          exact ⟨by omega, b⟩
        · rintro ⟨a, b⟩
          refine ⟨?_, b⟩
          rcases Nat.lt_or_ge i r with w | w
          · exact w
          · have : i = r := by omega
            rw [this] at b
            omega
      · refine nm_e (nm_r (nI_1 r) (ih (r + 1) _ (by omega) (by omega) fun i hi => ?_))
        rw [bw_or (by omega) hi, hs i hi]
        constructor
        · rintro (⟨a, b⟩ | e)
          · exact ⟨by omega, b⟩
          · rw [e]; exact ⟨by omega, y⟩
        · rintro ⟨a, b⟩
          by_cases e : i = r
          · exact Or.inr e
          · exact Or.inl ⟨by omega, b⟩
theorem yq_27 (o : sm_ok m) (hl : ∀ i, b_lists i = nI (m.2.1 i)) {w : Nat → Nat} (hwt : ∀ i, b_weights i = nI (w i)) {cnt : Nat} {G : Nat → Nat → Nat} (hF : yv_F m cnt G b_found) {j : Nat} (hj : j < cnt) {x1 x2 : Int32} {post : Int32 → SY → Prop} {J : Int32 → Int32 → Int32 → (Nat → Int32) → (Nat → Int32) → (Nat → Int32) → (Nat → Int32) → (Nat → Int32) → (Nat → Int32) → Prop}
    (h : ∀ mt : Nat → Int32, (nI j = 0 → wY_optimum_77 post J x2 (nI j) (zi_I (yq_T m w (G j))) (nI m.1) (nI cnt) g_rotationCount g_shownSet g_solved b_lists b_weights mt b_found b_leadP b_leadK) ∧ (¬ nI j = 0 → (x2 ≤ zi_I (yq_T m w (G j)) → wY_optimum_79 post J x1 x2 (nI j) (zi_I (yq_T m w (G j))) (nI m.1) (nI cnt) g_rotationCount g_shownSet g_solved b_lists b_weights mt b_found b_leadP b_leadK) ∧ (¬ x2 ≤ zi_I (yq_T m w (G j)) → wY_optimum_77 post J x2 (nI j) (zi_I (yq_T m w (G j))) (nI m.1) (nI cnt) g_rotationCount g_shownSet g_solved b_lists b_weights mt b_found b_leadP b_leadK))) :
    ∀ f i (mt : Nat → Int32), i ≤ m.1 → m.1 - i < f → (∀ q, q < i → mt q = nI (G j q)) → wY_optimum_27 post J x1 x2 (nI j) (nI m.1) (nI cnt) g_rotationCount g_shownSet g_solved f (nI i) b_lists b_weights mt b_found b_leadP b_leadK := by
  have o6 := o.1.2
  have c7 := en_Fc o hF.1
  intro f
  induction f with
  | zero => intro i _ _ h; omega
  | succ f ih =>
    intro i mt hi hf hh
    refine pk_le m.1 i (fun z => ?_) (fun z => ?_)
    · exact ye_t o hl hwt (fun q hq => hh q (by omega)) (hF.1.1 j hj).1.1 (h mt)
    · have e : nI j * 6 + nI i = nI (j * 6 + i) := by rw [← nI_add, ← pk_mul]; rfl
      refine ⟨pk_in (j * 6 + i) 4320 (by omega) e, pk_in i 6 (by omega), nm_r (e' := upd mt i (nI (G j i))) (by rw [e, nI_clamp (by omega), nI_clamp (by omega), hF.2 j i hj z]) (nm_r (nI_1 i) (ih (i + 1) _ (by omega) (by omega) fun q hq => ?_))⟩
      by_cases y : q = i
      · subst y; exact pk_us
      · rw [pk_un y]; exact hh q (by omega)
theorem yq_16 (o : sm_ok m) (hl : ∀ i, b_lists i = nI (m.2.1 i)) {w : Nat → Nat} (hwt : ∀ i, b_weights i = nI (w i)) (hw : ∀ i, w i ≤ 20) {cnt : Nat} {G : Nat → Nat → Nat} (hF : yv_F m cnt G b_found) {c : Nat} {ld : Nat → Nat} (hL : yv_L m c ld b_leadP b_leadK) (hR : sm_RL m 36 c ld) (h0 : 0 < cnt) {post : Int32 → SY → Prop}
    (h : ∀ (b : Nat) (sh : Int32) (mt : Nat → Int32), b < cnt → (∀ i, i < cnt → yq_T m w (G b) ≤ yq_T m w (G i) ∧ (i < b → yq_T m w (G b) < yq_T m w (G i))) → (∀ i, i < 32 → (bt sh i = true ↔ (i < c ∧ ld i % 6 < G b (ld i / 6)))) → post sh ((nI m.1), (nI cnt), (nI c), sh, g_solved, b_lists, b_weights, mt, b_found, b_leadP, b_leadK)) :
    ∀ f i b (x2 : Int32) (mt : Nat → Int32), i ≤ cnt → cnt - i < f → ((i = 0 ∧ b = 0) ∨ (b < i ∧ x2 = zi_I (yq_T m w (G b)) ∧ ∀ j, j < i → yq_T m w (G b) ≤ yq_T m w (G j) ∧ (j < b → yq_T m w (G b) < yq_T m w (G j)))) → wY_optimum_16 post (nI m.1) (nI cnt) (nI c) g_shownSet g_solved f (nI b) x2 (nI i) b_lists b_weights mt b_found b_leadP b_leadK := by
  have o6 := o.1.2
  have c7 := en_Fc o hF.1
  intro f
  induction f with
  | zero => intro i _ _ _ _ h; omega
  | succ f ih =>
    intro i b x2 mt hi hf hh
    refine pk_le cnt i (fun z => ?_) (fun z => ?_)
    · rcases hh with ⟨e, _⟩ | ⟨h1, h2, h3⟩
      · omega
      · have : i = cnt := by omega
        subst this
        exact ⟨c + 1, yq_100 o hF hL hR h1 (fun sh hsh => h b sh mt h1 h3 hsh) (c + 1) 0 0 (by omega) (by omega) (fun i hi => by rw [b_0]; exact ⟨fun y => Bool.noConfusion y, fun y => by omega⟩)⟩
    · refine ⟨m.1 + 1, yq_27 o hl hwt hF z (fun mt' => ?_) (m.1 + 1) 0 mt (by omega) (by omega) (fun q hq => by omega)⟩
      have bi := yq_b o hw (hF.1.1 i z).1.1
      have new : (∀ j, j < i → yq_T m w (G i) < yq_T m w (G j)) → wY_optimum_77 post (wY_optimum_16 post (nI m.1) (nI cnt) (nI c) g_shownSet g_solved f) x2 (nI i) (zi_I (yq_T m w (G i))) (nI m.1) (nI cnt) (nI c) g_shownSet g_solved b_lists b_weights mt' b_found b_leadP b_leadK := fun g =>
        br_t rfl (nm_r (nI_1 i) (ih (i + 1) i _ mt' (by omega) (by omega) (Or.inr ⟨by omega, rfl, fun j hj => by
          rcases Nat.lt_or_ge j i with y | y
          · have := g j y
            exact ⟨by omega, fun _ => this⟩
          · have : j = i := by omega
            rw [this]
            exact ⟨Int.le_refl _, fun y => by omega⟩⟩)))
      rcases hh with ⟨e, _⟩ | ⟨h1, h2, h3⟩
      · exact br_t (by rw [e]; rfl) (new fun j hj => by omega)
      · refine br_f (nI_ne0 (by omega) (by omega)) ?_
        have bb := yq_b o hw (hF.1.1 b (by omega)).1.1
        rw [h2]
        refine zi_cmp bb bi (fun y => ?_) (fun y => ?_)
        · refine pk_eq b i (fun u => by omega) (fun u => nm_r (nI_1 i) (ih (i + 1) b _ mt' (by omega) (by omega) (Or.inr ⟨by omega, rfl, fun j hj => ?_⟩)))
          rcases Nat.lt_or_ge j i with v | v
          · exact h3 j v
          · have : j = i := by omega
            rw [this]
            exact ⟨y, fun v => by omega⟩
        · rw [← h2]
          exact new fun j hj => by
            have := (h3 j hj).1
            omega
theorem yq_o (o : sm_ok m) (hl : ∀ i, b_lists i = nI (m.2.1 i)) {w : Nat → Nat} (hwt : ∀ i, b_weights i = nI (w i)) (hw : ∀ i, w i ≤ 20) {cnt : Nat} {G : Nat → Nat → Nat} (hF : yv_F m cnt G b_found) {c : Nat} {ld : Nat → Nat} (hL : yv_L m c ld b_leadP b_leadK) (hR : sm_RL m 36 c ld) (hs : g_solved = 1) {post : Int32 → SY → Prop}
    (h : ∀ (b : Nat) (sh : Int32) (mt : Nat → Int32), b < cnt → (∀ i, i < cnt → yq_T m w (G b) ≤ yq_T m w (G i) ∧ (i < b → yq_T m w (G b) < yq_T m w (G i))) → (∀ i, i < 32 → (bt sh i = true ↔ (i < c ∧ ld i % 6 < G b (ld i / 6)))) → post sh ((nI m.1), (nI cnt), (nI c), sh, g_solved, b_lists, b_weights, mt, b_found, b_leadP, b_leadK)) : wpY_optimum post ((nI m.1), (nI cnt), (nI c), g_shownSet, g_solved, b_lists, b_weights, b_match, b_found, b_leadP, b_leadK) := by
  have h0 : 0 < cnt := by
    obtain ⟨M, hM⟩ := sm_ex o
    obtain ⟨i, hi, _⟩ := hF.1.2.2 M hM (en_lt hM.1)
    omega
  exact br_f (by rw [hs]; decide) ⟨cnt + 1, yq_16 o hl hwt hw hF hL hR h0 h (cnt + 1) 0 0 0 b_match (by omega) (by omega) (Or.inl ⟨rfl, rfl⟩)⟩
end
end
section
/-! arguments; Y: select, add, drop -/
def pr_ix (n : Nat) (v : Int32) : Prop := ∃ x : Nat, x < n ∧ v = nI x
def pr_ps (n : Nat) (v1 v2 : Int32) : Prop := ∃ s x : Nat, s < 2 ∧ x < n ∧ v1 = nI s ∧ v2 = nI x
theorem pr_n {n : Nat} {v : Int32} (hn : n < 2 ^ 31) (h : ¬ pr_ix n v) : v < 0 ∨ (¬ v < 0 ∧ nI n ≤ v) := by
  by_cases z : v < 0
  · exact Or.inl z
  · rcases pk_ix v hn with y | y | ⟨j, hj, e⟩
    · exact absurd y z
    · exact Or.inr ⟨z, y⟩
    · exact absurd ⟨j, hj, e⟩ h
section
variable {m : sm_M} {f_solved f_shownSet f_rotationCount f_source f_sink f_nodes f_unlimited f_greatestFlow : Int32} {a_list a_rank a_weights a_top a_bar a_leave a_ideal a_filter a_row a_residual a_parent a_queue : Nat → Int32}
theorem xi_t (o : sm_ok m) {x : Nat} (hx : x < m.1) {post : Int32 → Prop} (h : post 1) : wpX_isIndex post ((nI m.1), f_solved, f_shownSet, f_rotationCount, f_source, f_sink, f_nodes, f_unlimited, f_greatestFlow, a_list, a_rank, a_weights, a_top, a_bar, a_leave, a_ideal, a_filter, a_row, a_residual, a_parent, a_queue) (nI x) := by
  have o6 := o.1.2
  exact br_f (nI_pos (by omega)) (br_f (nI_ge hx (by omega)) h)
theorem xi_f (o : sm_ok m) {v : Int32} (hv : ¬ pr_ix m.1 v) {post : Int32 → Prop} (h : post 0) : wpX_isIndex post ((nI m.1), f_solved, f_shownSet, f_rotationCount, f_source, f_sink, f_nodes, f_unlimited, f_greatestFlow, a_list, a_rank, a_weights, a_top, a_bar, a_leave, a_ideal, a_filter, a_row, a_residual, a_parent, a_queue) v := by
  have o6 := o.1.2
  rcases pr_n (by omega) hv with z | ⟨z, y⟩
  · exact br_t z h
  · exact br_f z (br_t y h)
theorem xp_t (o : sm_ok m) {s x : Nat} (hs : s < 2) (hx : x < m.1) {post : Int32 → Prop} (h : post 1) : wpX_isPerson post ((nI m.1), f_solved, f_shownSet, f_rotationCount, f_source, f_sink, f_nodes, f_unlimited, f_greatestFlow, a_list, a_rank, a_weights, a_top, a_bar, a_leave, a_ideal, a_filter, a_row, a_residual, a_parent, a_queue) (nI s) (nI x) := by
  have : s = 0 ∨ s = 1 := by omega
  rcases this with e | e
  · subst e
    exact br_t rfl (xi_t o hx (br_f (by decide) h))
  · subst e
    exact br_f (by decide) (br_t rfl (xi_t o hx (br_f (by decide) h)))
theorem xp_f (o : sm_ok m) {v1 v2 : Int32} (hv : ¬ pr_ps m.1 v1 v2) {post : Int32 → Prop} (h : post 0) : wpX_isPerson post ((nI m.1), f_solved, f_shownSet, f_rotationCount, f_source, f_sink, f_nodes, f_unlimited, f_greatestFlow, a_list, a_rank, a_weights, a_top, a_bar, a_leave, a_ideal, a_filter, a_row, a_residual, a_parent, a_queue) v1 v2 := by
  by_cases e : v1 = 0
  · exact br_t e (xi_f o (fun ⟨x, hx, ex⟩ => hv ⟨0, x, by omega, hx, e, ex⟩) (br_t rfl h))
  · by_cases e1 : v1 = 1
    · exact br_f e (br_t e1 (xi_f o (fun ⟨x, hx, ex⟩ => hv ⟨1, x, by omega, hx, e1, ex⟩) (br_t rfl h)))
    · exact br_f e (br_f e1 h)
theorem xz_t {c r : Nat} (hc : c ≤ 15) (hr : r < c) {post : Int32 → Prop} (h : post 1) : wpX_isRotation post ((nI m.1), f_solved, f_shownSet, (nI c), f_source, f_sink, f_nodes, f_unlimited, f_greatestFlow, a_list, a_rank, a_weights, a_top, a_bar, a_leave, a_ideal, a_filter, a_row, a_residual, a_parent, a_queue) (nI r) :=
  br_f (nI_pos (by omega)) (br_f (nI_ge hr (by omega)) h)
theorem xz_f {c : Nat} (hc : c ≤ 15) {v : Int32} (hv : ¬ pr_ix c v) {post : Int32 → Prop} (h : post 0) : wpX_isRotation post ((nI m.1), f_solved, f_shownSet, (nI c), f_source, f_sink, f_nodes, f_unlimited, f_greatestFlow, a_list, a_rank, a_weights, a_top, a_bar, a_leave, a_ideal, a_filter, a_row, a_residual, a_parent, a_queue) v := by
  rcases pr_n (by omega) hv with z | ⟨z, y⟩
  · exact br_t z h
  · exact br_f z (br_t y h)
end
section
variable {m : sm_M} {g_count g_rotationCount g_shownSet g_solved : Int32} {b_lists b_weights b_match b_found b_leadP b_leadK : Nat → Int32}
theorem yb_1 {s : Nat} (hs : s < 2) : ¬ (1 : Int32) < nI s := by
  have : s = 0 ∨ s = 1 := by omega
  rcases this with e | e <;> subst e <;> decide
theorem yb_t (o : sm_ok m) {s x : Nat} (hs : s < 2) (hx : x < m.1) {post : Int32 → Prop} (h : post 0) {v1 v2 : Int32} (h1 : v1 = nI s := by rfl) (h2 : v2 = nI x := by rfl) : wpY_bad post ((nI m.1), g_count, g_rotationCount, g_shownSet, g_solved, b_lists, b_weights, b_match, b_found, b_leadP, b_leadK) v1 v2 := by
  subst h1 h2
  have o6 := o.1.2
  exact br_f (nI_pos (by omega)) (br_f (yb_1 hs) (br_f (nI_pos (by omega)) (br_t (nI_lt hx (by omega)) h)))
theorem yb_f (o : sm_ok m) {v1 v2 : Int32} (hv : ¬ pr_ps m.1 v1 v2) {post : Int32 → Prop} (h : post 1) : wpY_bad post ((nI m.1), g_count, g_rotationCount, g_shownSet, g_solved, b_lists, b_weights, b_match, b_found, b_leadP, b_leadK) v1 v2 := by
  have o6 := o.1.2
  by_cases z1 : v1 < 0
  · exact br_t z1 h
  · by_cases z2 : (1 : Int32) < v1
    · exact br_f z1 (br_t z2 h)
    · obtain ⟨s, hs, es⟩ := nI_of z1
      have hs2 : s < 2 := by
        rcases Nat.lt_or_ge s 2 with y | y
        · exact y
        · exact absurd (by rw [es]; exact nI_lt (a := 1) (b := s) (by omega) hs) z2
      have hx : ¬ pr_ix m.1 v2 := fun ⟨x, hx, ex⟩ => hv ⟨s, x, hs2, hx, es, ex⟩
      rcases pr_n (by omega) hx with z | ⟨z, y⟩
      · exact br_f z1 (br_f z2 (br_t z h))
      · refine br_f z1 (br_f z2 (br_f z (br_f (fun w => ?_) h)))
        exact Int32.lt_irrefl (Int32.lt_of_lt_of_le w y)
theorem yn_t {c r : Nat} (hc : c ≤ 15) (hr : r < c) {post : Int32 → Prop} (h : post 0) : wpY_noRotation post ((nI m.1), g_count, (nI c), g_shownSet, g_solved, b_lists, b_weights, b_match, b_found, b_leadP, b_leadK) (nI r) :=
  br_f (nI_pos (by omega)) (br_t (nI_lt hr (by omega)) h)
theorem yn_f {c : Nat} (hc : c ≤ 15) {v : Int32} (hv : ¬ pr_ix c v) {post : Int32 → Prop} (h : post 1) : wpY_noRotation post ((nI m.1), g_count, (nI c), g_shownSet, g_solved, b_lists, b_weights, b_match, b_found, b_leadP, b_leadK) v := by
  rcases pr_n (by omega) hv with z | ⟨z, y⟩
  · exact br_t z h
  · refine br_f z (br_f (fun w => ?_) h)
    exact Int32.lt_irrefl (Int32.lt_of_lt_of_le w y)
theorem ym_38 (o : sm_ok m) {cnt : Nat} {G : Nat → Nat → Nat} (hF : yv_F m cnt G b_found) {c j : Nat} {ld : Nat → Nat} (hL : yv_L m c ld b_leadP b_leadK) (hR : sm_RL m j c ld) {x1 : Int32} {s : Nat} (hs : s < c) {post : Int32 → SY → Prop} {J : Int32 → Prop}
    (h1 : (∀ r, r < c → bt x1 s = true → sm_le m (sm_bj m (ld r)) (sm_bj m (ld s)) → bt x1 r = true) → J (nI (s + 1))) (h0 : (¬ ∀ r, r < c → bt x1 s = true → sm_le m (sm_bj m (ld r)) (sm_bj m (ld s)) → bt x1 r = true) → post (-3) ((nI m.1), (nI cnt), (nI c), g_shownSet, g_solved, b_lists, b_weights, b_match, b_found, b_leadP, b_leadK)) :
    ∀ f i, i ≤ c → c - i < f → (∀ r, r < i → bt x1 s = true → sm_le m (sm_bj m (ld r)) (sm_bj m (ld s)) → bt x1 r = true) → wY_select_38 post J x1 (nI s) (nI m.1) (nI cnt) (nI c) g_shownSet g_solved b_lists b_weights b_match b_found b_leadP b_leadK f (nI i) := by
  have c15 := sm_RL15 o hR
  intro f
  induction f with
  | zero => intro i _ h; omega
  | succ f ih =>
    intro i hi hf hh
    refine pk_le c i (fun z => nm_r (nI_1 s) (h1 fun r hr => hh r (by omega))) (fun z => ?_)
    have nx : (bt x1 s = true → sm_le m (sm_bj m (ld i)) (sm_bj m (ld s)) → bt x1 i = true) → wY_select_38 post J x1 (nI s) (nI m.1) (nI cnt) (nI c) g_shownSet g_solved b_lists b_weights b_match b_found b_leadP b_leadK f (nI (i + 1)) := fun g => ih (i + 1) (by omega) (by omega) fun r hr => by
      rcases Nat.lt_or_ge r i with y | y
      · exact hh r y
      · have : r = i := by omega
        rw [this]; exact g
    cases hb : bt x1 s
    · exact br_f (by rw [bw_f (by omega) hb]; decide) (nm_r (nI_1 i) (nx fun w => by rw [hb] at w; exact Bool.noConfusion w))
    · refine br_t (bw_t (by omega) hb) ?_
      cases hi2 : bt x1 i
      · refine br_t (bw_f (by omega) hi2) ?_
        refine yf_b o hF hL hR z hs (fun l ne => br_f (by decide) (h0 fun g => ?_)) (fun l => br_t rfl (nm_r (nI_1 i) (nx fun _ w => ?_)))
        · have := g i z hb l
          rw [hi2] at this
          exact Bool.noConfusion this
        · have e : i = s := Classical.byContradiction fun ne => l ⟨w, ne⟩
          rw [e]; exact hb
      · exact br_f (by rw [bw_t (by omega) hi2]; decide) (nm_r (nI_1 i) (nx fun _ _ => hi2))
theorem ym_28 (o : sm_ok m) {cnt : Nat} {G : Nat → Nat → Nat} (hF : yv_F m cnt G b_found) {c j : Nat} {ld : Nat → Nat} (hL : yv_L m c ld b_leadP b_leadK) (hR : sm_RL m j c ld) {x1 : Int32} {post : Int32 → SY → Prop}
    (h1 : sm_cl m c ld (fun r => bt x1 r = true) → post 0 ((nI m.1), (nI cnt), (nI c), x1, g_solved, b_lists, b_weights, b_match, b_found, b_leadP, b_leadK)) (h0 : ¬ sm_cl m c ld (fun r => bt x1 r = true) → post (-3) ((nI m.1), (nI cnt), (nI c), g_shownSet, g_solved, b_lists, b_weights, b_match, b_found, b_leadP, b_leadK)) :
    ∀ f i, i ≤ c → c - i < f → (∀ s r, s < i → r < c → bt x1 s = true → sm_le m (sm_bj m (ld r)) (sm_bj m (ld s)) → bt x1 r = true) → wY_select_28 post x1 (nI m.1) (nI cnt) (nI c) g_shownSet g_solved b_lists b_weights b_match b_found b_leadP b_leadK f (nI i) := by
  have c15 := sm_RL15 o hR
  intro f
  induction f with
  | zero => intro i _ h; omega
  | succ f ih =>
    intro i hi hf hh
    refine pk_le c i (fun z => h1 fun r s hr hs g l => hh s r (by omega) hr g l) (fun z => ?_)
    refine ⟨c + 1, ym_38 o hF hL hR z (fun g => ih (i + 1) (by omega) (by omega) fun s r hs hr => ?_) (fun g => h0 fun w => g fun r hr b l => w r i hr z b l) (c + 1) 0 (by omega) (by omega) (fun r hr => by omega)⟩
    rcases Nat.lt_or_ge s i with y | y
    · exact hh s r y hr
    · have : s = i := by omega
      subst this
      exact g r hr
theorem ya_22 (o : sm_ok m) {cnt : Nat} {G : Nat → Nat → Nat} (hF : yv_F m cnt G b_found) {c j : Nat} {ld : Nat → Nat} (hL : yv_L m c ld b_leadP b_leadK) (hR : sm_RL m j c ld) {r : Nat} (hr : r < c) {sh0 : Int32} {post : Int32 → SY → Prop}
    (h : ∀ sh : Int32, (∀ i, i < 32 → (bt sh i = true ↔ (bt sh0 i = true ∨ (i < c ∧ sm_le m (sm_bj m (ld i)) (sm_bj m (ld r)))))) → post sh ((nI m.1), (nI cnt), (nI c), sh, g_solved, b_lists, b_weights, b_match, b_found, b_leadP, b_leadK)) :
    ∀ f s (sh : Int32), s ≤ c → c - s < f → (∀ i, i < 32 → (bt sh i = true ↔ (bt sh0 i = true ∨ (i < s ∧ sm_le m (sm_bj m (ld i)) (sm_bj m (ld r)))))) → wY_add_22 post (nI r) (nI m.1) (nI cnt) (nI c) g_solved b_lists b_weights b_match b_found b_leadP b_leadK f (nI s) sh := by
  have c15 := sm_RL15 o hR
  intro f
  induction f with
  | zero => intro i _ _ h; omega
  | succ f ih =>
    intro s sh hs hf hh
    refine pk_le c s (fun z => h sh ?_) (fun z => ?_)
    · have : s = c := by omega
      subst this
      exact hh
    · have yes : sm_le m (sm_bj m (ld s)) (sm_bj m (ld r)) → wY_add_44 post (wY_add_22 post (nI r) (nI m.1) (nI cnt) (nI c) g_solved b_lists b_weights b_match b_found b_leadP b_leadK f) (nI r) (nI s) (nI m.1) (nI cnt) (nI c) sh g_solved b_lists b_weights b_match b_found b_leadP b_leadK := fun l => by
        refine nm_e (nm_r (nI_1 s) (ih (s + 1) _ (by omega) (by omega) fun i hi => ?_))
        rw [bw_or (by omega) hi, hh i hi]
        constructor
        · rintro ((a | ⟨a, b⟩) | e)
          · exact Or.inl a
          · exact Or.inr ⟨by omega, b⟩
          · rw [e]; exact Or.inr ⟨by omega, l⟩
        · rintro (a | ⟨a, b⟩)
          · exact Or.inl (Or.inl a)
          · by_cases e : i = s
            · exact Or.inr e
            · exact Or.inl (Or.inr ⟨by omega, b⟩)
      refine pk_eq s r (fun y => yes (by rw [y]; exact fun _ _ => Nat.le_refl _)) (fun y => ?_)
      refine yf_b o hF hL hR z hr (fun l _ => br_f (by decide) (yes l)) (fun l => br_t rfl (nm_r (nI_1 s) (ih (s + 1) sh (by omega) (by omega) fun i hi => ?_)))
      rw [hh i hi]
      constructor
      · rintro (a | ⟨a, b⟩)
        · exact Or.inl a
        · exact Or.inr ⟨by omega, b⟩
      · rintro (a | ⟨a, b⟩)
        · exact Or.inl a
        · refine Or.inr ⟨?_, b⟩
          rcases Nat.lt_or_ge i s with w | w
          · exact w
          · have : i = s := by omega
            rw [this] at b
            exact absurd ⟨b, y⟩ l
theorem bw_an {x : Int32} {r i : Nat} (hr : r < 32) (hi : i < 32) : bt (x &&& (((1 : Int32) <<< (nI r &&& 31)) ^^^ (-1))) i = true ↔ (bt x i = true ∧ i ≠ r) := by
  rw [b_and, b_xor, bw_sh hr hi, b_m1 i hi, Bool.and_eq_true]
  by_cases e : i = r
  · rw [decide_eq_true e]
    exact ⟨fun z => Bool.noConfusion z.2, fun z => absurd e z.2⟩
  · rw [decide_eq_false e]
    exact ⟨fun z => ⟨z.1, e⟩, fun z => ⟨z.1, rfl⟩⟩
theorem yd_22 (o : sm_ok m) {cnt : Nat} {G : Nat → Nat → Nat} (hF : yv_F m cnt G b_found) {c j : Nat} {ld : Nat → Nat} (hL : yv_L m c ld b_leadP b_leadK) (hR : sm_RL m j c ld) {r : Nat} (hr : r < c) {sh0 : Int32} {post : Int32 → SY → Prop}
    (h : ∀ sh : Int32, (∀ i, i < 32 → (bt sh i = true ↔ (bt sh0 i = true ∧ ¬ (i < c ∧ sm_le m (sm_bj m (ld r)) (sm_bj m (ld i)))))) → post sh ((nI m.1), (nI cnt), (nI c), sh, g_solved, b_lists, b_weights, b_match, b_found, b_leadP, b_leadK)) :
    ∀ f s (sh : Int32), s ≤ c → c - s < f → (∀ i, i < 32 → (bt sh i = true ↔ (bt sh0 i = true ∧ ¬ (i < s ∧ sm_le m (sm_bj m (ld r)) (sm_bj m (ld i)))))) → wY_drop_22 post (nI r) (nI m.1) (nI cnt) (nI c) g_solved b_lists b_weights b_match b_found b_leadP b_leadK f (nI s) sh := by
  have c15 := sm_RL15 o hR
  intro f
  induction f with
  | zero => intro i _ _ h; omega
  | succ f ih =>
    intro s sh hs hf hh
    refine pk_le c s (fun z => h sh ?_) (fun z => ?_)
    · have : s = c := by omega
      subst this
      exact hh
    · have yes : sm_le m (sm_bj m (ld r)) (sm_bj m (ld s)) → wY_drop_44 post (wY_drop_22 post (nI r) (nI m.1) (nI cnt) (nI c) g_solved b_lists b_weights b_match b_found b_leadP b_leadK f) (nI r) (nI s) (nI m.1) (nI cnt) (nI c) sh g_solved b_lists b_weights b_match b_found b_leadP b_leadK := fun l => by
        refine nm_e (nm_r (nI_1 s) (ih (s + 1) _ (by omega) (by omega) fun i hi => ?_))
        rw [bw_an (by omega) hi, hh i hi]
        constructor
        · rintro ⟨⟨a, b⟩, e⟩
          exact ⟨a, fun ⟨w1, w2⟩ => b ⟨by omega, w2⟩⟩
        · rintro ⟨a, b⟩
          exact ⟨⟨a, fun ⟨w1, w2⟩ => b ⟨by omega, w2⟩⟩, fun e => b ⟨by omega, by rw [e]; exact l⟩⟩
      refine pk_eq s r (fun y => yes (by rw [y]; exact fun _ _ => Nat.le_refl _)) (fun y => ?_)
      refine yf_b o hF hL hR hr z (fun l _ => br_f (by decide) (yes l)) (fun l => br_t rfl (nm_r (nI_1 s) (ih (s + 1) sh (by omega) (by omega) fun i hi => ?_)))
      rw [hh i hi]
      constructor
      · rintro ⟨a, b⟩
        refine ⟨a, fun ⟨w1, w2⟩ => ?_⟩
        rcases Nat.lt_or_ge i s with w | w
        · exact b ⟨w, w2⟩
        · have : i = s := by omega
          rw [this] at w2
          exact l ⟨w2, fun e => y e.symm⟩
      · rintro ⟨a, b⟩
        exact ⟨a, fun ⟨w1, w2⟩ => b ⟨by omega, w2⟩⟩
end
end
section
/-! blocks of the tables; setList -/
def bk_ok (n : Nat) (l rk : Nat → Nat) (B : Nat) : Prop := (∀ k, k < n → l (B + k) < n ∧ rk (B + l (B + k)) = k) ∧ (∀ a, a < n → rk (B + a) < n ∧ l (B + rk (B + a)) = a)
theorem bk_of {m : sm_M} (h1 : 1 ≤ m.1 ∧ m.1 ≤ 6) (h : ∀ s x, s < 2 → x < m.1 → bk_ok m.1 m.2.1 m.2.2 (s * 36 + x * 6)) : sm_ok m := by
  have a : ∀ x, x < m.1 → bk_ok m.1 m.2.1 m.2.2 (x * 6) := fun x hx => by
    have := h 0 x (by omega) hx
    rw [Nat.zero_mul, Nat.zero_add] at this
    exact this
  have b : ∀ x, x < m.1 → bk_ok m.1 m.2.1 m.2.2 (36 + x * 6) := fun x hx => by
    have := h 1 x (by omega) hx
    rw [Nat.one_mul] at this
    exact this
  exact ⟨h1, fun p k hp hk => (a p hp).1 k hk, fun p k hp hk => (a p hp).2 k hk, fun p k hp hk => (b p hp).1 k hk, fun p k hp hk => (b p hp).2 k hk⟩
theorem bk_to {m : sm_M} (o : sm_ok m) {s x : Nat} (hs : s < 2) (hx : x < m.1) : bk_ok m.1 m.2.1 m.2.2 (s * 36 + x * 6) := by
  have : s = 0 ∨ s = 1 := by omega
  rcases this with e | e
  · subst e
    rw [Nat.zero_mul, Nat.zero_add]
    exact ⟨fun k hk => o.2.1 x k hx hk, fun k hk => o.2.2.1 x k hx hk⟩
  · subst e
    rw [Nat.one_mul]
    exact ⟨fun k hk => o.2.2.2.1 x k hx hk, fun k hk => o.2.2.2.2 x k hx hk⟩
def bk_D (n : Nat) (l rk : Nat → Nat) (B : Nat) (d : Nat → Nat) (D : Nat → Prop) : Prop := ∀ k, k < n → D k → l (B + k) = d k ∧ rk (B + d k) = k
def bk_p (n : Nat) (d : Nat → Nat) : Prop := (∀ k, k < n → d k < n) ∧ ∀ i j, i < n → j < n → d i = d j → i = j
theorem bk_st {n : Nat} {l rk : Nat → Nat} {B : Nat} {d : Nat → Nat} {D D' : Nat → Prop} (hp : bk_p n d) (h : bk_D n l rk B d D) {k : Nat} (hk : k < n) (hD : ∀ j, D' j → D j ∨ j = k) : bk_D n (nu_u l (B + k) (d k)) (nu_u rk (B + d k) k) B d D' := fun j hj hj' => by
  by_cases e : j = k
  · subst e
    rw [nu_s, nu_s]
    exact ⟨rfl, rfl⟩
  · have ne : d j ≠ d k := fun z => e (hp.2 j k hj hk z)
    rw [nu_n (by omega), nu_n (by omega)]
    rcases hD j hj' with z | z
    · exact h j hj z
    · exact absurd z e
theorem bk_full {n : Nat} {l rk : Nat → Nat} {B : Nat} {d : Nat → Nat} {D : Nat → Prop} (hp : bk_p n d) (h : bk_D n l rk B d D) (hD : ∀ k, k < n → D k) : bk_ok n l rk B := by
  refine ⟨fun k hk => ?_, fun a ha => ?_⟩
  · have a := h k hk (hD k hk)
    rw [a.1]
    exact ⟨hp.1 k hk, a.2⟩
  · obtain ⟨k, hk, e⟩ := ph_sur hp.1 hp.2 ha
    have b := h k hk (hD k hk)
    rw [← e, b.2]
    exact ⟨hk, b.1⟩
theorem bk_ot {n : Nat} {l rk l' rk' : Nat → Nat} {B : Nat} (h : bk_ok n l rk B) (h1 : ∀ k, k < n → l' (B + k) = l (B + k)) (h2 : ∀ k, k < n → rk' (B + k) = rk (B + k)) : bk_ok n l' rk' B := by
  refine ⟨fun k hk => ?_, fun a ha => ?_⟩
  · have b := h.1 k hk
    rw [h1 k hk, h2 _ b.1]
    exact b
  · have b := h.2 a ha
    rw [h2 a ha, h1 _ b.1]
    exact b
/-- the digits of a code, from the left -/
def dg_d (n K k : Nat) : Nat := K / 10 ^ (n - 1 - k) % 10
def dg_g (n K : Nat) : Prop := K < 10 ^ n ∧ bk_p n (dg_d n K)
theorem dg_s {n : Nat} {d : Nat → Nat} (h : ∀ y, y < n → ∃ i, i < n ∧ d i = y) : bk_p n d := by
  have key : ∀ y, ∃ i, y < n → i < n ∧ d i = y := fun y => by
    by_cases hy : y < n
    · obtain ⟨i, h1, h2⟩ := h y hy
      exact ⟨i, fun _ => ⟨h1, h2⟩⟩
    · exact ⟨0, fun z => absurd z hy⟩
  obtain ⟨g, hg⟩ := Classical.axiomOfChoice key
  have sur : ∀ i, i < n → ∃ y, y < n ∧ g y = i := fun i hi => ph_sur (fun y hy => (hg y hy).1) (fun a b ha hb e => by rw [← (hg a ha).2, ← (hg b hb).2, e]) hi
  refine ⟨fun k hk => ?_, fun i j hi hj e => ?_⟩
  · obtain ⟨y, hy, e⟩ := sur k hk
    rw [← e, (hg y hy).2]
    exact hy
  · obtain ⟨a, ha, ea⟩ := sur i hi
    obtain ⟨b, hb, eb⟩ := sur j hj
    rw [← ea, ← eb, (hg a ha).2, (hg b hb).2] at e
    rw [← ea, ← eb, e]
theorem dg_fl {n K b : Nat} : (∃ i, i < n ∧ K / 10 ^ i % 10 = b) ↔ ∃ k, k < n ∧ dg_d n K k = b := by
  constructor
  · rintro ⟨i, hi, e⟩
    refine ⟨n - 1 - i, by omega, ?_⟩
    unfold dg_d
    have : n - 1 - (n - 1 - i) = i := by omega
    rw [this]; exact e
  · rintro ⟨k, hk, e⟩
    exact ⟨n - 1 - k, by omega, e⟩
theorem dg_lt {n K : Nat} : K < 10 ^ n ↔ K / 10 ^ n = 0 := by
  constructor
  · exact Nat.div_eq_of_lt
  · intro h
    rcases Nat.lt_or_ge K (10 ^ n) with z | z
    · exact z
    · have := Nat.div_pos z (Nat.pow_pos (by omega))
      omega
theorem dg_x {n K : Nat} (h6 : n ≤ 6) : dg_g n K ↔ (K / 10 ^ n = 0 ∧ ∀ b, b < 32 → ((∃ i, i < n ∧ K / 10 ^ i % 10 = b) ↔ b < n)) := by
  unfold dg_g
  rw [dg_lt]
  constructor
  · rintro ⟨h1, h2⟩
    refine ⟨h1, fun b hb => ?_⟩
    rw [dg_fl]
    exact ⟨fun ⟨k, hk, e⟩ => by rw [← e]; exact h2.1 k hk, fun z => ph_sur h2.1 h2.2 z⟩
  · rintro ⟨h1, h2⟩
    exact ⟨h1, dg_s fun y hy => dg_fl.mp ((h2 y (by omega)).mpr hy)⟩
theorem ns_0 : ∀ k : Nat, ns_u (fun _ => 0) k = 0
  | 0 => rfl
  | k + 1 => by
    show ns_u (fun _ => 0) k + 0 = 0
    rw [ns_0 k]
theorem dg_y {n K : Nat} : dg_g n K ↔ (K < 10 ^ n ∧ ∀ y, y < n → ns_u (fun i => if dg_d n K i = y then 1 else 0) n = 1) := by
  unfold dg_g
  constructor
  · rintro ⟨h1, h2⟩
    refine ⟨h1, fun y hy => ?_⟩
    obtain ⟨k, hk, e⟩ := ph_sur h2.1 h2.2 hy
    have a := ns_1 (f := fun i => if dg_d n K i = y then 1 else 0) (g := fun _ => 0) (d := 1) (q := k) hk (fun i hi ne => if_neg fun z => ne (h2.2 i k hi hk (z.trans e.symm))) (if_pos e)
    rw [a, ns_0]
  · rintro ⟨h1, h2⟩
    refine ⟨h1, dg_s fun y hy => Classical.byContradiction fun hn => ?_⟩
    have a := ns_cg (f := fun i => if dg_d n K i = y then 1 else 0) (g := fun _ => 0) (k := n) (fun i hi => if_neg fun z => hn ⟨i, hi, z⟩)
    have b := h2 y hy
    rw [a, ns_0] at b
    omega
theorem mk_f {n : Nat} (h1 : 1 ≤ n) (h6 : n ≤ 6) : ∀ i, i < 32 → bt (((1 : Int32) <<< (nI n &&& 31)) - 1) i = decide (i < n) := by
  have : n = 1 ∨ n = 2 ∨ n = 3 ∨ n = 4 ∨ n = 5 ∨ n = 6 := by omega
  rcases this with e | e | e | e | e | e <;> subst e <;> decide
theorem dg_10 {K i : Nat} : K / 10 ^ i / 10 = K / 10 ^ (i + 1) := by rw [Nat.div_div_eq_div_mul, Nat.pow_succ]
theorem dg_le {K i : Nat} (h : K < 2 ^ 31) : K / 10 ^ i < 2 ^ 31 := Nat.lt_of_le_of_lt (Nat.div_le_self _ _) h
section
variable {m : sm_M} {f_solved f_shownSet f_rotationCount f_source f_sink f_nodes f_unlimited f_greatestFlow : Int32} {a_list a_rank a_weights a_top a_bar a_leave a_ideal a_filter a_row a_residual a_parent a_queue : Nat → Int32}
theorem xs_g {post : Int32 → Prop} {v1 v2 v3 : Int32} (s x k : Nat) (h : post (nI (s * 36 + x * 6 + k))) (hs : v1 = nI s := by rfl) (hx : v2 = nI x := by rfl) (hk : v3 = nI k := by rfl) : wpX_slot post ((nI m.1), f_solved, f_shownSet, f_rotationCount, f_source, f_sink, f_nodes, f_unlimited, f_greatestFlow, a_list, a_rank, a_weights, a_top, a_bar, a_leave, a_ideal, a_filter, a_row, a_residual, a_parent, a_queue) v1 v2 v3 := by
  subst hs hx hk
  have e : nI s * 36 + nI x * 6 + nI k = nI (s * 36 + x * 6 + k) := by
    rw [← nI_add, ← nI_add, ← pk_mul, ← pk_mul]
    rfl
  show post (nI s * 36 + nI x * 6 + nI k)
  rw [e]
  exact h
theorem xw_p {s x k e : Nat} (hs : s < 2) (hx : x < 6) (hk : k < 6) (he : e < 6) {post : SX → Prop} (h : post ((nI m.1), f_solved, f_shownSet, f_rotationCount, f_source, f_sink, f_nodes, f_unlimited, f_greatestFlow, (upd a_list (s * 36 + x * 6 + k) (nI e)), (upd a_rank (s * 36 + x * 6 + e) (nI k)), a_weights, a_top, a_bar, a_leave, a_ideal, a_filter, a_row, a_residual, a_parent, a_queue)) {v1 v2 v3 v4 : Int32} (h1 : v1 = nI s := by rfl) (h2 : v2 = nI x := by rfl) (h3 : v3 = nI k := by rfl) (h4 : v4 = nI e := by rfl) : wpX_place post ((nI m.1), f_solved, f_shownSet, f_rotationCount, f_source, f_sink, f_nodes, f_unlimited, f_greatestFlow, a_list, a_rank, a_weights, a_top, a_bar, a_leave, a_ideal, a_filter, a_row, a_residual, a_parent, a_queue) v1 v2 v3 v4 := by
  subst h1 h2 h3 h4
  unfold wpX_place
  refine xs_g s x k ⟨pk_in (s * 36 + x * 6 + k) 72 (by omega), nm_r (e' := upd a_list (s * 36 + x * 6 + k) (nI e)) (by rw [nI_clamp (by omega)]) ?_⟩
  refine xs_g s x e ⟨pk_in (s * 36 + x * 6 + e) 72 (by omega), nm_r (e' := upd a_rank (s * 36 + x * 6 + e) (nI k)) (by rw [nI_clamp (by omega)]) h⟩
theorem xc_13 (o : sm_ok m) {K : Nat} (hK : K < 2 ^ 31) {post : Int32 → Prop} (h1 : dg_g m.1 K → post 1) (h0 : ¬ dg_g m.1 K → post 0) :
    ∀ f i (sn : Int32), i ≤ m.1 → m.1 - i < f → (∀ b, b < 32 → (bt sn b = true ↔ ∃ j, j < i ∧ K / 10 ^ j % 10 = b)) → wX_isListCode_13 post (nI m.1) f_solved f_shownSet f_rotationCount f_source f_sink f_nodes f_unlimited f_greatestFlow a_list a_rank a_weights a_top a_bar a_leave a_ideal a_filter a_row a_residual a_parent a_queue f (nI (K / 10 ^ i)) sn (nI i) := by
  have o6 := o.1
  intro f
  induction f with
  | zero => intro i _ _ h; omega
  | succ f ih =>
    intro i sn hi hf hh
    refine pk_le m.1 i (fun z => ?_) (fun z => ?_)
    · have : i = m.1 := by omega
      subst this
      have fm := mk_f o6.1 o6.2
      refine pk_eq (K / 10 ^ m.1) 0 (fun y => ?_) (fun y => h0 fun g => y ((dg_x o6.2).mp g).1) rfl rfl (dg_le hK)
      refine br_c (fun w => h1 ((dg_x o6.2).mpr ⟨y, fun b hb => ?_⟩)) (fun w => h0 fun g => w (b_ext fun b hb => ?_))
      · rw [← hh b hb, w, fm b hb, decide_eq_true_iff]
      · have a := ((dg_x o6.2).mp g).2 b hb
        rw [fm b hb]
        by_cases q : b < m.1
        · rw [decide_eq_true q]
          exact (hh b hb).mpr (a.mpr q)
        · rw [decide_eq_false q]
          exact Bool.eq_false_iff.mpr fun u => q (a.mp ((hh b hb).mp u))
    · have bd := dg_le (i := i) hK
      have er : nI (K / 10 ^ i) - nI (K / 10 ^ i) / 10 * 10 = nI (K / 10 ^ i % 10) := pk_rem (d := 10) bd (by omega) (by omega)
      have ed : nI (K / 10 ^ i) / 10 = nI (K / 10 ^ (i + 1)) := (pk_div (d := 10) bd (by omega) (by omega)).trans (by rw [dg_10])
      refine ⟨by decide, nm_r (e' := sn ||| ((1 : Int32) <<< (nI (K / 10 ^ i % 10) &&& 31))) (by rw [er]) ⟨by decide, nm_r ed (nm_r (nI_1 i) (ih (i + 1) _ (by omega) (by omega) fun b hb => ?_))⟩⟩
      rw [bw_or (by omega) hb, hh b hb]
      constructor
      · rintro (⟨j, hj, e⟩ | e)
        · exact ⟨j, by omega, e⟩
        · exact ⟨i, by omega, e.symm⟩
      · rintro ⟨j, hj, e⟩
        rcases Nat.lt_or_ge j i with y | y
        · exact Or.inl ⟨j, y, e⟩
        · have : j = i := by omega
          rw [this] at e
          exact Or.inr e.symm
theorem xc_l (o : sm_ok m) {K : Nat} (hK : K < 2 ^ 31) {post : Int32 → Prop} (h1 : dg_g m.1 K → post 1) (h0 : ¬ dg_g m.1 K → post 0) : wpX_isListCode post ((nI m.1), f_solved, f_shownSet, f_rotationCount, f_source, f_sink, f_nodes, f_unlimited, f_greatestFlow, a_list, a_rank, a_weights, a_top, a_bar, a_leave, a_ideal, a_filter, a_row, a_residual, a_parent, a_queue) (nI K) :=
  br_t (nI_pos' hK) ⟨m.1 + 1, by
    have a := xc_13 (m := m) (f_solved := f_solved) (f_shownSet := f_shownSet) (f_rotationCount := f_rotationCount) (f_source := f_source) (f_sink := f_sink) (f_nodes := f_nodes) (f_unlimited := f_unlimited) (f_greatestFlow := f_greatestFlow) (a_list := a_list) (a_rank := a_rank) (a_weights := a_weights) (a_top := a_top) (a_bar := a_bar) (a_leave := a_leave) (a_ideal := a_ideal) (a_filter := a_filter) (a_row := a_row) (a_residual := a_residual) (a_parent := a_parent) (a_queue := a_queue) o hK h1 h0 (m.1 + 1) 0 0 (by omega) (by omega) (fun b hb => by rw [b_0]; exact ⟨fun z => Bool.noConfusion z, fun ⟨j, hj, _⟩ => by omega⟩)
    rw [Nat.pow_zero, Nat.div_one] at a
    exact a⟩
/-- what a list's writing leaves -/
def wl_I (m : sm_M) (B : Nat) (d : Nat → Nat) (D : Nat → Prop) (l rk : Nat → Nat) : Prop :=
  bk_D m.1 l rk B d D ∧ (∀ i, (∀ k, k < m.1 → i ≠ B + k) → l i = m.2.1 i ∧ rk i = m.2.2 i)
theorem wl_st {m : sm_M} {B : Nat} {d : Nat → Nat} {D D' : Nat → Prop} {l rk : Nat → Nat} (hp : bk_p m.1 d) (h : wl_I m B d D l rk) {k : Nat} (hk : k < m.1) (hD : ∀ j, D' j → D j ∨ j = k) : wl_I m B d D' (nu_u l (B + k) (d k)) (nu_u rk (B + d k) k) :=
  ⟨bk_st hp h.1 hk hD, fun i hi => by
    rw [nu_n (hi k hk), nu_n (hi (d k) (hp.1 k hk))]
    exact h.2 i hi⟩
theorem wl_ok {m : sm_M} (o : sm_ok m) {s x : Nat} (hx : x < m.1) {d : Nat → Nat} {D : Nat → Prop} {l rk : Nat → Nat} (hp : bk_p m.1 d) (h : wl_I m (s * 36 + x * 6) d D l rk) (hD : ∀ k, k < m.1 → D k) : sm_ok (m.1, l, rk) := by
  have o6 := o.1.2
  refine bk_of o.1 fun s' x' hs' hx' => ?_
  show bk_ok m.1 l rk (s' * 36 + x' * 6)
  have hx'' : x' < m.1 := hx'
  by_cases e : s' = s ∧ x' = x
  · rw [e.1, e.2]
    exact bk_full hp h.1 hD
  · exact bk_ot (bk_to o hs' hx') (fun k hk => (h.2 _ fun j hj => by omega).1) (fun k hk => (h.2 _ fun j hj => by omega).2)
theorem xw_30 (o : sm_ok m) {s x K : Nat} (hs : s < 2) (hx : x < m.1) (hK : K < 2 ^ 31) (hg : dg_g m.1 K) {post : Int32 → SX → Prop}
    (h : ∀ (l rk : Nat → Nat) (ls rn : Nat → Int32), (∀ i, ls i = nI (l i)) → (∀ i, rn i = nI (rk i)) → wl_I m (s * 36 + x * 6) (dg_d m.1 K) (fun _ => True) l rk → post 0 ((nI m.1), 0, f_shownSet, f_rotationCount, f_source, f_sink, f_nodes, f_unlimited, f_greatestFlow, ls, rn, a_weights, a_top, a_bar, a_leave, a_ideal, a_filter, a_row, a_residual, a_parent, a_queue)) :
    ∀ f j (l rk : Nat → Nat) (ls rn : Nat → Int32), j ≤ m.1 → j < f → (∀ i, ls i = nI (l i)) → (∀ i, rn i = nI (rk i)) → wl_I m (s * 36 + x * 6) (dg_d m.1 K) (fun k => j ≤ k) l rk → wX_setList_30 post (nI s) (nI x) f (nI (K / 10 ^ (m.1 - j))) (nI j - 1) (nI m.1) f_solved f_shownSet f_rotationCount f_source f_sink f_nodes f_unlimited f_greatestFlow ls rn a_weights a_top a_bar a_leave a_ideal a_filter a_row a_residual a_parent a_queue := by
  have o6 := o.1.2
  intro f
  induction f with
  | zero => intro i _ _ _ _ _ h; omega
  | succ f ih =>
    intro j l rk ls rn hj hf hls hrn hI
    rcases Nat.eq_zero_or_pos j with z | z
    · subst z
      exact br_t ((pk_n1 (by omega)).1.mpr rfl) (h l rk ls rn hls hrn ⟨fun k hk _ => hI.1 k hk (Nat.zero_le _), hI.2⟩)
    · obtain ⟨k, rfl⟩ : ∃ k, j = k + 1 := ⟨j - 1, by omega⟩
      rw [nI_pred]
      have hk : k < m.1 := by omega
      have bd := dg_le (i := m.1 - (k + 1)) hK
      have e1 : m.1 - (k + 1) = m.1 - 1 - k := by omega
      have e2 : m.1 - (k + 1) + 1 = m.1 - k := by omega
      have er : nI (K / 10 ^ (m.1 - (k + 1))) - nI (K / 10 ^ (m.1 - (k + 1))) / 10 * 10 = nI (dg_d m.1 K k) := by
        unfold dg_d
        rw [← e1]
        exact pk_rem (d := 10) bd (by omega) (by omega)
      have ed : nI (K / 10 ^ (m.1 - (k + 1))) / 10 = nI (K / 10 ^ (m.1 - k)) := (pk_div (d := 10) bd (by omega) (by omega)).trans (by rw [dg_10, e2])
      have hd := hg.2.1 k hk
      refine br_f (nI_pos (by omega)) ⟨by decide, xw_p hs (by omega) (by omega) (show dg_d m.1 K k < 6 by omega) ?_ rfl rfl rfl er⟩
      refine ⟨by decide, nm_r ed (nm_r (nI_m1 k) (ih k (nu_u l (s * 36 + x * 6 + k) (dg_d m.1 K k)) (nu_u rk (s * 36 + x * 6 + dg_d m.1 K k) k) _ _ (by omega) (by omega) (fun i => ?_) (fun i => ?_) (wl_st hg.2 hI hk fun j hj => by omega)))⟩
      · by_cases e : i = s * 36 + x * 6 + k
        · rw [e, pk_us, nu_s]
        · rw [pk_un e, nu_n e]; exact hls i
      · by_cases e : i = s * 36 + x * 6 + dg_d m.1 K k
        · rw [e, pk_us, nu_s]
        · rw [pk_un e, nu_n e]; exact hrn i
theorem xw_g (o : sm_ok m) (hl : ∀ i, a_list i = nI (m.2.1 i)) (hr : ∀ i, a_rank i = nI (m.2.2 i)) {s x K : Nat} (hs : s < 2) (hx : x < m.1) (hK : K < 2 ^ 31) (hg : dg_g m.1 K) {post : Int32 → SX → Prop}
    (h : ∀ (l rk : Nat → Nat) (ls rn : Nat → Int32), (∀ i, ls i = nI (l i)) → (∀ i, rn i = nI (rk i)) → wl_I m (s * 36 + x * 6) (dg_d m.1 K) (fun _ => True) l rk → post 0 ((nI m.1), 0, f_shownSet, f_rotationCount, f_source, f_sink, f_nodes, f_unlimited, f_greatestFlow, ls, rn, a_weights, a_top, a_bar, a_leave, a_ideal, a_filter, a_row, a_residual, a_parent, a_queue)) : wpX_setList post ((nI m.1), f_solved, f_shownSet, f_rotationCount, f_source, f_sink, f_nodes, f_unlimited, f_greatestFlow, a_list, a_rank, a_weights, a_top, a_bar, a_leave, a_ideal, a_filter, a_row, a_residual, a_parent, a_queue) (nI s) (nI x) (nI K) := by
  unfold wpX_setList
  refine xp_t o hs hx (br_f (by decide) ?_)
  refine xc_l o hK (fun _ => br_f (by decide) (nm_e ⟨m.1 + 1, ?_⟩)) (fun z => absurd hg z)
  have a := xw_30 (m := m) (f_solved := f_solved) (f_shownSet := f_shownSet) (f_rotationCount := f_rotationCount) (f_source := f_source) (f_sink := f_sink) (f_nodes := f_nodes) (f_unlimited := f_unlimited) (f_greatestFlow := f_greatestFlow) (a_weights := a_weights) (a_top := a_top) (a_bar := a_bar) (a_leave := a_leave) (a_ideal := a_ideal) (a_filter := a_filter) (a_row := a_row) (a_residual := a_residual) (a_parent := a_parent) (a_queue := a_queue) o hs hx hK hg h (m.1 + 1) m.1 m.2.1 m.2.2 a_list a_rank (by omega) (by omega) hl hr ⟨fun k hk z => by omega, fun _ _ => ⟨rfl, rfl⟩⟩
  rw [Nat.sub_self, Nat.pow_zero, Nat.div_one] at a
  exact a
theorem xw_b (o : sm_ok m) {v1 v2 v3 : Int32} (hb : ¬ (pr_ps m.1 v1 v2 ∧ ∃ K, K < 2 ^ 31 ∧ v3 = nI K ∧ dg_g m.1 K)) {post : Int32 → SX → Prop} (h : post (-1) ((nI m.1), f_solved, f_shownSet, f_rotationCount, f_source, f_sink, f_nodes, f_unlimited, f_greatestFlow, a_list, a_rank, a_weights, a_top, a_bar, a_leave, a_ideal, a_filter, a_row, a_residual, a_parent, a_queue)) : wpX_setList post ((nI m.1), f_solved, f_shownSet, f_rotationCount, f_source, f_sink, f_nodes, f_unlimited, f_greatestFlow, a_list, a_rank, a_weights, a_top, a_bar, a_leave, a_ideal, a_filter, a_row, a_residual, a_parent, a_queue) v1 v2 v3 := by
  unfold wpX_setList
  by_cases z : pr_ps m.1 v1 v2
  · obtain ⟨s, x, hs, hx, e1, e2⟩ := id z
    rw [e1, e2]
    refine xp_t o hs hx (br_f (by decide) ?_)
    by_cases y : v3 < 0
    · exact br_f (Int32.not_le.mpr y) (br_t rfl h)
    · obtain ⟨K, hK, e3⟩ := nI_of y
      rw [e3]
      exact xc_l o hK (fun g => absurd ⟨z, K, hK, e3, g⟩ hb) (fun _ => br_t rfl h)
  · exact xp_f o z (br_t rfl h)
end
section
variable {m : sm_M} {g_count g_rotationCount g_shownSet g_solved : Int32} {b_lists b_weights b_match b_found b_leadP b_leadK : Nat → Int32}
theorem yg_d (o : sm_ok m) {K i : Nat} (hK : K < 2 ^ 31) (hi : i < m.1) {post : Int32 → Prop} (h : post (nI (dg_d m.1 K i))) : wpY_digit post ((nI m.1), g_count, g_rotationCount, g_shownSet, g_solved, b_lists, b_weights, b_match, b_found, b_leadP, b_leadK) (nI K) (nI i) := by
  have o6 := o.1.2
  have key : ∀ f t, t ≤ m.1 - 1 - i → m.1 - 1 - i - t < f → wY_digit_7 post (nI m.1) g_count g_rotationCount g_shownSet g_solved b_lists b_weights b_match b_found b_leadP b_leadK f (nI (K / 10 ^ t)) (nI (i + 1 + t)) := by
    intro f
    induction f with
    | zero => intro i _ h; omega
    | succ f ih =>
      intro t ht hf
      have bd := dg_le (i := t) hK
      refine pk_le m.1 (i + 1 + t) (fun z => ⟨by decide, ?_⟩) (fun z => ⟨by decide, ?_⟩)
      · have e : t = m.1 - 1 - i := by omega
        rw [show nI (K / 10 ^ t) - nI (K / 10 ^ t) / 10 * 10 = nI (K / 10 ^ t % 10) from pk_rem (d := 10) bd (by omega) (by omega), e]
        exact h
      · exact nm_r ((pk_div (d := 10) bd (by omega) (by omega)).trans (by rw [dg_10])) (nm_r (nI_1 (i + 1 + t)) (ih (t + 1) (by omega) (by omega)))
  refine nm_r (nI_1 i) ⟨m.1 + 1, ?_⟩
  have a := key (m.1 + 1) 0 (by omega) (by omega)
  rw [Nat.pow_zero, Nat.div_one] at a
  exact a
theorem yg_114 (o : sm_ok m) {s x K : Nat} (hs : s < 2) (hx : x < m.1) (hK : K < 2 ^ 31) {ls0 : Nat → Int32} {post : Int32 → SY → Prop}
    (h : ∀ ls : Nat → Int32, (∀ k, k < m.1 → ls (s * 36 + x * 6 + k) = nI (dg_d m.1 K k)) → (∀ i, (∀ k, k < m.1 → i ≠ s * 36 + x * 6 + k) → ls i = ls0 i) → post 0 ((nI m.1), g_count, g_rotationCount, g_shownSet, 0, ls, b_weights, b_match, b_found, b_leadP, b_leadK)) :
    ∀ f i (ls : Nat → Int32), i ≤ m.1 → m.1 - i < f → (∀ k, k < i → ls (s * 36 + x * 6 + k) = nI (dg_d m.1 K k)) → (∀ i, (∀ k, k < m.1 → i ≠ s * 36 + x * 6 + k) → ls i = ls0 i) → wY_setList_114 post (nI s) (nI x) (nI K) (nI m.1) g_count g_rotationCount g_shownSet g_solved f (nI i) ls b_weights b_match b_found b_leadP b_leadK := by
  have o6 := o.1.2
  intro f
  induction f with
  | zero => intro i _ _ h; omega
  | succ f ih =>
    intro i ls hi hf h1 h2
    refine pk_le m.1 i (fun z => h ls (fun k hk => h1 k (by omega)) h2) (fun z => ?_)
    have e : nI s * 36 + nI x * 6 + nI i = nI (s * 36 + x * 6 + i) := by
      rw [← nI_add, ← nI_add, ← pk_mul, ← pk_mul]
      rfl
    refine yg_d o hK z ⟨pk_in (s * 36 + x * 6 + i) 72 (by omega) e, nm_r (e' := upd ls (s * 36 + x * 6 + i) (nI (dg_d m.1 K i))) (by rw [e, nI_clamp (by omega)]) (nm_r (nI_1 i) (ih (i + 1) _ (by omega) (by omega) (fun k hk => ?_) (fun j hj => ?_)))⟩
    · by_cases y : k = i
      · subst y; exact pk_us
      · rw [pk_un (by omega)]; exact h1 k (by omega)
    · rw [pk_un (hj i z)]; exact h2 j hj
theorem yg_67 (o : sm_ok m) {K y : Nat} (hK : K < 2 ^ 31) (hy : y < m.1) {v1 v2 : Int32} {post : Int32 → SY → Prop} {J : Int32 → Prop}
    (h1 : ns_u (fun i => if dg_d m.1 K i = y then 1 else 0) m.1 = 1 → J (nI (y + 1))) (h0 : ns_u (fun i => if dg_d m.1 K i = y then 1 else 0) m.1 ≠ 1 → post (-1) ((nI m.1), g_count, g_rotationCount, g_shownSet, g_solved, b_lists, b_weights, b_match, b_found, b_leadP, b_leadK)) :
    ∀ f i, i ≤ m.1 → m.1 - i < f → wY_setList_67 post J v1 v2 (nI K) (nI y) (nI m.1) g_count g_rotationCount g_shownSet g_solved b_lists b_weights b_match b_found b_leadP b_leadK f (nI (ns_u (fun i => if dg_d m.1 K i = y then 1 else 0) i)) (nI i) := by
  have o6 := o.1.2
  intro f
  induction f with
  | zero => intro i _ h; omega
  | succ f ih =>
    intro i hi hf
    have bd : ns_u (fun i => if dg_d m.1 K i = y then 1 else 0) i ≤ i * 1 := ns_b fun j _ => by
      show (if dg_d m.1 K j = y then 1 else 0) ≤ 1
      split <;> omega
    refine pk_le m.1 i (fun z => ?_) (fun z => ?_)
    · have : i = m.1 := by omega
      subst this
      exact pk_eq _ 1 (fun w => nm_r (nI_1 y) (h1 w)) (fun w => h0 w)
    · have st : ns_u (fun i => if dg_d m.1 K i = y then 1 else 0) (i + 1) = ns_u (fun i => if dg_d m.1 K i = y then 1 else 0) i + (if dg_d m.1 K i = y then 1 else 0) := rfl
      have nx := ih (i + 1) (by omega) (by omega)
      have b10 : dg_d m.1 K i < 10 := Nat.mod_lt _ (by omega)
      refine yg_d o hK z ?_
      refine pk_eq (dg_d m.1 K i) y (fun w => ?_) (fun w => ?_)
      · rw [st, if_pos w] at nx
        exact nm_r (nI_1 _) (nm_r (nI_1 i) nx)
      · rw [st, if_neg w, Nat.add_zero] at nx
        exact nm_r (nI_1 i) nx
theorem yg_52 (o : sm_ok m) {K : Nat} (hK : K < 2 ^ 31) (hl : K < 10 ^ m.1) {v1 v2 : Int32} {post : Int32 → SY → Prop}
    (h1 : dg_g m.1 K → ∃ n114 : Nat, wY_setList_114 post v1 v2 (nI K) (nI m.1) g_count g_rotationCount g_shownSet g_solved n114 0 b_lists b_weights b_match b_found b_leadP b_leadK) (h0 : ¬ dg_g m.1 K → post (-1) ((nI m.1), g_count, g_rotationCount, g_shownSet, g_solved, b_lists, b_weights, b_match, b_found, b_leadP, b_leadK)) :
    ∀ f i, i ≤ m.1 → m.1 - i < f → (∀ y, y < i → ns_u (fun i => if dg_d m.1 K i = y then 1 else 0) m.1 = 1) → wY_setList_52 post v1 v2 (nI K) (nI m.1) g_count g_rotationCount g_shownSet g_solved b_lists b_weights b_match b_found b_leadP b_leadK f (nI i) := by
  have o6 := o.1.2
  intro f
  induction f with
  | zero => intro i _ h; omega
  | succ f ih =>
    intro i hi hf hh
    refine pk_le m.1 i (fun z => h1 (dg_y.mpr ⟨hl, fun y hy => hh y (by omega)⟩)) (fun z => ?_)
    refine ⟨m.1 + 1, yg_67 o hK z (fun w => ih (i + 1) (by omega) (by omega) fun y hy => ?_) (fun w => h0 fun g => w ((dg_y.mp g).2 i z)) (m.1 + 1) 0 (by omega) (by omega)⟩
    by_cases e : y = i
    · rw [e]; exact w
    · exact hh y (by omega)
theorem yg_6 (o : sm_ok m) {v1 v2 v3 : Int32} {post : Int32 → SY → Prop} (h : wpY_bad (fun r_2 => (((r_2 = 0 → (((v3 < 0 → (post (-1) ((nI m.1), g_count, g_rotationCount, g_shownSet, g_solved, b_lists, b_weights, b_match, b_found, b_leadP, b_leadK))) ∧ (¬ v3 < 0 → (((v3 < nI (10 ^ m.1) → (∃ n52 : Nat, wY_setList_52 post v1 v2 v3 (nI m.1) g_count g_rotationCount g_shownSet g_solved b_lists b_weights b_match b_found b_leadP b_leadK n52 0)) ∧ (¬ v3 < nI (10 ^ m.1) → (post (-1) ((nI m.1), g_count, g_rotationCount, g_shownSet, g_solved, b_lists, b_weights, b_match, b_found, b_leadP, b_leadK))))))))) ∧ (¬ r_2 = 0 → (post (-1) ((nI m.1), g_count, g_rotationCount, g_shownSet, g_solved, b_lists, b_weights, b_match, b_found, b_leadP, b_leadK)))))) ((nI m.1), g_count, g_rotationCount, g_shownSet, g_solved, b_lists, b_weights, b_match, b_found, b_leadP, b_leadK) v1 v2) : wpY_setList post ((nI m.1), g_count, g_rotationCount, g_shownSet, g_solved, b_lists, b_weights, b_match, b_found, b_leadP, b_leadK) v1 v2 v3 := by
  have o6 := o.1.2
  have key : ∀ f i, i ≤ m.1 → m.1 - i < f → wY_setList_6 post v1 v2 v3 (nI m.1) g_count g_rotationCount g_shownSet g_solved b_lists b_weights b_match b_found b_leadP b_leadK f (nI (10 ^ i)) (nI i) := by
    intro f
    induction f with
    | zero => intro i _ h; omega
    | succ f ih =>
      intro i hi hf
      refine pk_le m.1 i (fun z => ?_) (fun z => ?_)
      · have : i = m.1 := by omega
        rw [this]
        exact h
      · exact nm_r (e' := nI (10 ^ (i + 1))) (by rw [Nat.pow_succ, ← pk_mul]; rfl) (nm_r (nI_1 i) (ih (i + 1) (by omega) (by omega)))
  exact Exists.intro (m.1 + 1) (key (m.1 + 1) 0 (by omega) (by omega))
theorem tn_b {n : Nat} (h6 : n ≤ 6) : 10 ^ n ≤ 1000000 := by
  have : n = 0 ∨ n = 1 ∨ n = 2 ∨ n = 3 ∨ n = 4 ∨ n = 5 ∨ n = 6 := by omega
  rcases this with e | e | e | e | e | e | e <;> subst e <;> decide
theorem yg_g (o : sm_ok m) {s x K : Nat} (hs : s < 2) (hx : x < m.1) (hK : K < 2 ^ 31) (hg : dg_g m.1 K) {post : Int32 → SY → Prop}
    (h : ∀ ls : Nat → Int32, (∀ k, k < m.1 → ls (s * 36 + x * 6 + k) = nI (dg_d m.1 K k)) → (∀ i, (∀ k, k < m.1 → i ≠ s * 36 + x * 6 + k) → ls i = b_lists i) → post 0 ((nI m.1), g_count, g_rotationCount, g_shownSet, 0, ls, b_weights, b_match, b_found, b_leadP, b_leadK)) : wpY_setList post ((nI m.1), g_count, g_rotationCount, g_shownSet, g_solved, b_lists, b_weights, b_match, b_found, b_leadP, b_leadK) (nI s) (nI x) (nI K) := by
  have tb := tn_b o.1.2
  refine yg_6 o (yb_t o hs hx (br_t rfl (br_f (nI_pos hK) (br_t (nI_lt hg.1 (by omega)) ⟨m.1 + 1, ?_⟩))))
  exact yg_52 o hK hg.1 (fun _ => ⟨m.1 + 1, yg_114 o hs hx hK h (m.1 + 1) 0 b_lists (by omega) (by omega) (fun k hk => by omega) (fun _ _ => rfl)⟩) (fun z => absurd hg z) (m.1 + 1) 0 (by omega) (by omega) (fun y hy => by omega)
theorem yg_b (o : sm_ok m) {v1 v2 v3 : Int32} (hb : ¬ (pr_ps m.1 v1 v2 ∧ ∃ K, K < 2 ^ 31 ∧ v3 = nI K ∧ dg_g m.1 K)) {post : Int32 → SY → Prop} (h : post (-1) ((nI m.1), g_count, g_rotationCount, g_shownSet, g_solved, b_lists, b_weights, b_match, b_found, b_leadP, b_leadK)) : wpY_setList post ((nI m.1), g_count, g_rotationCount, g_shownSet, g_solved, b_lists, b_weights, b_match, b_found, b_leadP, b_leadK) v1 v2 v3 := by
  have tb := tn_b o.1.2
  refine yg_6 o ?_
  by_cases z : pr_ps m.1 v1 v2
  · obtain ⟨s, x, hs, hx, e1, e2⟩ := id z
    refine yb_t o hs hx (br_t rfl ?_) e1 e2
    by_cases y : v3 < 0
    · exact br_t y h
    · obtain ⟨K, hK, e3⟩ := nI_of y
      refine br_f y ?_
      rw [e3]
      refine pk_lt K (10 ^ m.1) (fun w => ⟨m.1 + 1, ?_⟩) (fun w => h)
      exact yg_52 o hK w (fun g => absurd ⟨z, K, hK, e3, g⟩ hb) (fun _ => h) (m.1 + 1) 0 (by omega) (by omega) (fun y hy => by omega)
  · exact yb_f o z (br_f (by decide) h)
end
end
section
/-! the constructors -/
theorem cl_v (v : Int32) (a b : Nat) (hab : a ≤ b) (hb : b < 2 ^ 31) : ∃ j, a ≤ j ∧ j ≤ b ∧ ∀ A : Int32 → Prop, A (nI j) → ((nI a ≤ v → ((v ≤ nI b → A v) ∧ (¬ v ≤ nI b → A (nI b)))) ∧ (¬ nI a ≤ v → A (nI a))) := by
  by_cases h1 : nI a ≤ v
  · have h0 : ¬ v < 0 := Int32.not_lt.mpr (Int32.le_trans (nI_pos' (by omega)) h1)
    obtain ⟨t, ht, e⟩ := nI_of h0
    subst e
    rw [nI_leI (by omega) ht] at h1
    by_cases h2 : t ≤ b
    · exact ⟨t, h1, h2, fun A hA => ⟨fun _ => ⟨fun _ => hA, fun z => absurd (nI_le h2 hb) z⟩, fun z => absurd (nI_le h1 ht) z⟩⟩
    · exact ⟨b, hab, Nat.le_refl _, fun A hA => ⟨fun _ => ⟨fun z => absurd z (nI_ge (by omega) ht), fun _ => hA⟩, fun z => absurd (nI_le h1 ht) z⟩⟩
  · exact ⟨a, Nat.le_refl _, hab, fun A hA => ⟨fun z => absurd z h1, fun _ => hA⟩⟩
def in_d (n s x k : Nat) : Nat := (x + s + k) % n
theorem in_p {n s x : Nat} (h : 1 ≤ n ∧ n ≤ 6) : bk_p n (in_d n s x) := by
  unfold bk_p in_d
  have : n = 1 ∨ n = 2 ∨ n = 3 ∨ n = 4 ∨ n = 5 ∨ n = 6 := by omega
  refine ⟨fun k hk => Nat.mod_lt _ (by omega), fun i j hi hj e => ?_⟩
  rcases this with e | e | e | e | e | e <;> subst e <;> omega
theorem in_m {n x s k : Nat} (h : 1 ≤ n ∧ n ≤ 6) (hx : x < n) (hs : s < 2) (hk : k < n) : in_d n s x k = if n ≤ x + s + k then x + s + k - n else x + s + k := by
  unfold in_d
  have : n = 1 ∨ n = 2 ∨ n = 3 ∨ n = 4 ∨ n = 5 ∨ n = 6 := by omega
  split <;> rcases this with e | e | e | e | e | e <;> subst e <;> omega
def in_o (n i : Nat) : Prop := ∀ s x k, s < 2 → x < n → k < n → i ≠ s * 36 + x * 6 + k
def in_I (n : Nat) (l rk : Nat → Nat) (D : Nat → Nat → Nat → Prop) : Prop :=
  (∀ s x, s < 2 → x < n → bk_D n l rk (s * 36 + x * 6) (in_d n s x) (D s x)) ∧ (∀ i, in_o n i → l i = 0)
theorem in_st {n : Nat} {l rk : Nat → Nat} {D D' : Nat → Nat → Nat → Prop} (h : 1 ≤ n ∧ n ≤ 6) (hI : in_I n l rk D) {s x k : Nat} (hs : s < 2) (hx : x < n) (hk : k < n) (hD : ∀ s' x' j, s' < 2 → D' s' x' j → D s' x' j ∨ (s' = s ∧ x' = x ∧ j = k)) :
    in_I n (nu_u l (s * 36 + x * 6 + k) (in_d n s x k)) (nu_u rk (s * 36 + x * 6 + in_d n s x k) k) D' := by
  have dl := (in_p (s := s) (x := x) h).1 k hk
  refine ⟨fun s' x' hs' hx' => ?_, fun i hi => ?_⟩
  · by_cases e : s' = s ∧ x' = x
    · rw [e.1, e.2]
      refine bk_st (in_p h) (hI.1 s x hs hx) hk fun j hj => ?_
      rcases hD s x j hs hj with z | z
      · exact Or.inl z
      · exact Or.inr z.2.2
    · intro j hj hj'
      have a := hI.1 s' x' hs' hx' j hj (by
        rcases hD s' x' j hs' hj' with z | z
        · exact z
        · exact absurd ⟨z.1, z.2.1⟩ e)
      have dj := (in_p (s := s') (x := x') h).1 j hj
      rw [nu_n (by omega), nu_n (by omega)]
      exact a
  · rw [nu_n (hi s x k hs hx hk)]
    exact hI.2 i hi
def in_w (pw aw x y : Nat) : Nat := if y < x then pw else if 6 ≤ y ∧ y < 6 + x then aw else 0
theorem in_ws {pw aw x : Nat} {W : Nat → Int32} (hx : x < 6) (h : ∀ y, W y = nI (in_w pw aw x y)) : ∀ y, upd (upd W x (nI pw)) (6 + x) (nI aw) y = nI (in_w pw aw (x + 1) y) := fun y => by
  unfold in_w
  by_cases e1 : y = 6 + x
  · rw [e1, pk_us, if_neg (by omega), if_pos (by omega)]
  · rw [pk_un e1]
    by_cases e2 : y = x
    · rw [e2, pk_us, if_pos (by omega)]
    · rw [pk_un e2, h y]
      unfold in_w
      by_cases z : y < x
      · rw [if_pos z, if_pos (by omega)]
      · rw [if_neg z, if_neg (show ¬ y < x + 1 by omega)]
        by_cases z2 : 6 ≤ y ∧ y < 6 + x
        · rw [if_pos z2, if_pos (by omega)]
        · rw [if_neg z2, if_neg (by omega)]
theorem in_wb {pw aw x y : Nat} (h1 : pw ≤ 20) (h2 : aw ≤ 20) : in_w pw aw x y ≤ 20 := by
  unfold in_w
  split
  · exact h1
  · split <;> omega
section
variable {m : sm_M} {f_solved f_shownSet f_rotationCount f_source f_sink f_nodes f_unlimited f_greatestFlow : Int32} {a_list a_rank a_weights a_top a_bar a_leave a_ideal a_filter a_row a_residual a_parent a_queue : Nat → Int32}
theorem xc_k {f_n : Int32} {a b j : Nat} {p : Int32} (c : ∀ A : Int32 → Prop, A (nI j) → ((nI a ≤ p → ((p ≤ nI b → A p) ∧ (¬ p ≤ nI b → A (nI b)))) ∧ (¬ nI a ≤ p → A (nI a)))) {post : Int32 → Prop} (h : post (nI j)) : wpX_clamp post (f_n, f_solved, f_shownSet, f_rotationCount, f_source, f_sink, f_nodes, f_unlimited, f_greatestFlow, a_list, a_rank, a_weights, a_top, a_bar, a_leave, a_ideal, a_filter, a_row, a_residual, a_parent, a_queue) p (nI a) (nI b) := c post h
theorem xi_200 (hn : 1 ≤ m.1 ∧ m.1 ≤ 6) {x : Nat} (hx : x < m.1) {x4 x5 : Int32} {post : SX → Prop} {J : Int32 → Int32 → Int32 → Int32 → Int32 → Int32 → Int32 → Int32 → Int32 → Int32 → (Nat → Int32) → (Nat → Int32) → (Nat → Int32) → (Nat → Int32) → (Nat → Int32) → (Nat → Int32) → (Nat → Int32) → (Nat → Int32) → (Nat → Int32) → (Nat → Int32) → (Nat → Int32) → (Nat → Int32) → Prop}
    (h : ∀ (l rk : Nat → Nat) (ls rn : Nat → Int32), (∀ i, ls i = nI (l i)) → (∀ i, rn i = nI (rk i)) → in_I m.1 l rk (fun _ x' j => x' < x + 1) → J (nI (x + 1)) (nI m.1) f_solved f_shownSet f_rotationCount f_source f_sink f_nodes f_unlimited f_greatestFlow ls rn a_weights a_top a_bar a_leave a_ideal a_filter a_row a_residual a_parent a_queue) :
    ∀ f k (l rk : Nat → Nat) (ls rn : Nat → Int32), k ≤ m.1 → m.1 - k < f → (∀ i, ls i = nI (l i)) → (∀ i, rn i = nI (rk i)) → in_I m.1 l rk (fun _ x' j => x' < x ∨ (x' = x ∧ j < k)) → wX_init_200 post J x4 x5 (nI x) f (nI k) (nI m.1) f_solved f_shownSet f_rotationCount f_source f_sink f_nodes f_unlimited f_greatestFlow ls rn a_weights a_top a_bar a_leave a_ideal a_filter a_row a_residual a_parent a_queue := by
  intro f
  induction f with
  | zero => intro i _ _ _ _ _ h; omega
  | succ f ih =>
    intro k l rk ls rn hk hf hls hrn hI
    refine pk_le m.1 k (fun z => nm_r (nI_1 x) (h l rk ls rn hls hrn ⟨fun s x' hs hx' j hj hj' => hI.1 s x' hs hx' j hj (by omega), hI.2⟩)) (fun z => ?_)
    have n0 : ¬ nI m.1 = 0 := nI_ne0 (by omega) (by omega)
    have e0 : nI x + nI k - (nI x + nI k) / nI m.1 * nI m.1 = nI (in_d m.1 0 x k) := by
      rw [nI_add]
      exact pk_rem (by omega) (by omega) (by omega)
    have e1 : nI x + 1 + nI k - (nI x + 1 + nI k) / nI m.1 * nI m.1 = nI (in_d m.1 1 x k) := by
      rw [nI_1, nI_add]
      exact pk_rem (by omega) (by omega) (by omega)
    have d0 := (in_p (s := 0) (x := x) hn).1 k z
    have d1 := (in_p (s := 1) (x := x) hn).1 k z
    refine ⟨n0, xw_p (s := 0) (x := x) (k := k) (e := in_d m.1 0 x k) (by omega) (by omega) (by omega) (by omega) ?_ rfl rfl rfl e0⟩
    refine ⟨n0, xw_p (s := 1) (x := x) (k := k) (e := in_d m.1 1 x k) (by omega) (by omega) (by omega) (by omega) ?_ rfl rfl rfl e1⟩
    have s0 := in_st hn hI (s := 0) (x := x) (k := k) (D' := fun s' x' j => x' < x ∨ (x' = x ∧ (j < k ∨ (s' = 0 ∧ j = k)))) (by omega) hx z (fun s' x' j _ hj => by omega)
    have s1 := in_st hn s0 (s := 1) (x := x) (k := k) (D' := fun s' x' j => x' < x ∨ (x' = x ∧ j < k + 1)) (by omega) hx z (fun s' x' j _ hj => by omega)
    have up : ∀ (A : Nat → Int32) (F : Nat → Nat) (i v : Nat), (∀ j, A j = nI (F j)) → ∀ j, upd A i (nI v) j = nI (nu_u F i v j) := fun A F i v hA j => by
      by_cases e : j = i
      · rw [e, pk_us, nu_s]
      · rw [pk_un e, nu_n e]; exact hA j
    exact nm_r (nI_1 k) (ih (k + 1) _ _ _ _ (by omega) (by omega) (up _ _ _ _ (up _ _ _ _ hls)) (up _ _ _ _ (up _ _ _ _ hrn)) s1)
theorem xi_167 (hn : 1 ≤ m.1 ∧ m.1 ≤ 6) {pw aw : Nat} {post : SX → Prop}
    (h : ∀ (l rk : Nat → Nat) (ls rn wt : Nat → Int32), (∀ i, ls i = nI (l i)) → (∀ i, rn i = nI (rk i)) → (∀ y, wt y = nI (in_w pw aw m.1 y)) → in_I m.1 l rk (fun _ x' _ => x' < m.1) → post ((nI m.1), f_solved, f_shownSet, f_rotationCount, f_source, f_sink, f_nodes, f_unlimited, f_greatestFlow, ls, rn, wt, a_top, a_bar, a_leave, a_ideal, a_filter, a_row, a_residual, a_parent, a_queue)) :
    ∀ f x (l rk : Nat → Nat) (ls rn wt : Nat → Int32), x ≤ m.1 → m.1 - x < f → (∀ i, ls i = nI (l i)) → (∀ i, rn i = nI (rk i)) → (∀ y, wt y = nI (in_w pw aw x y)) → in_I m.1 l rk (fun _ x' _ => x' < x) → wX_init_167 post (nI pw) (nI aw) f (nI x) (nI m.1) f_solved f_shownSet f_rotationCount f_source f_sink f_nodes f_unlimited f_greatestFlow ls rn wt a_top a_bar a_leave a_ideal a_filter a_row a_residual a_parent a_queue := by
  intro f
  induction f with
  | zero => intro i _ _ _ _ _ _ h; omega
  | succ f ih =>
    intro x l rk ls rn wt hx hf hls hrn hwt hI
    refine pk_le m.1 x (fun z => ?_) (fun z => ?_)
    · have : x = m.1 := by omega
      subst this
      exact h l rk ls rn wt hls hrn hwt hI
    · have e6 : 6 + nI x = nI (6 + x) := by rw [← nI_add]; rfl
      refine ⟨pk_in x 12 (by omega), nm_r (e' := upd wt x (nI pw)) (by rw [nI_clamp (by omega)]) ⟨pk_in (6 + x) 12 (by omega) e6, nm_r (e' := upd (upd wt x (nI pw)) (6 + x) (nI aw)) (by rw [e6, nI_clamp (by omega)]) ⟨m.1 + 1, ?_⟩⟩⟩
      refine xi_200 hn z (fun l' rk' ls' rn' g1 g2 g3 => ih (x + 1) l' rk' ls' rn' _ (by omega) (by omega) g1 g2 (in_ws (by omega) hwt) g3) (m.1 + 1) 0 l rk ls rn (by omega) (by omega) hls hrn ⟨fun s x' hs hx' j hj hj' => hI.1 s x' hs hx' j hj (by omega), hI.2⟩
end
section
variable {m : sm_M} {g_count g_rotationCount g_shownSet g_solved : Int32} {b_lists b_weights b_match b_found b_leadP b_leadK : Nat → Int32}
theorem yi_164 (hn : 1 ≤ m.1 ∧ m.1 ≤ 6) {x k : Nat} (hx : x < m.1) (hk : k < m.1) {x2 x3 : Int32} {post : SY → Prop} {J68 J113 : Int32 → (Nat → Int32) → (Nat → Int32) → (Nat → Int32) → (Nat → Int32) → (Nat → Int32) → (Nat → Int32) → Prop}
    (h : J113 (nI (k + 1)) (upd (upd b_lists (x * 6 + k) (nI (in_d m.1 0 x k))) (36 + x * 6 + k) (nI (in_d m.1 1 x k))) b_weights b_match b_found b_leadP b_leadK) {z0 z1 : Int32} (h0 : z0 = nI (in_d m.1 0 x k)) (h1 : z1 = nI (x * 6 + k)) : wY_init_164 post J68 J113 x2 x3 (nI x) (nI k) z0 z1 (nI m.1) g_count g_rotationCount g_shownSet g_solved b_lists b_weights b_match b_found b_leadP b_leadK := by
  subst h0 h1
  have e1 : 36 + nI x * 6 + nI k = nI (36 + x * 6 + k) := by
    rw [← nI_add, ← nI_add, ← pk_mul]
    rfl
  have e2 : nI x + 1 + nI k = nI (x + 1 + k) := by rw [nI_1, nI_add]
  have im := in_m hn hx (s := 1) (by omega) hk
  refine And.intro (pk_in (x * 6 + k) 72 (by omega)) (nm_r (e' := upd b_lists (x * 6 + k) (nI (in_d m.1 0 x k))) (by rw [nI_clamp (by omega)]) ?_)
  refine pk_le m.1 (x + 1 + k) (fun z => ?_) (fun z => ?_) rfl e2
  · rw [if_pos z] at im
    exact ⟨pk_in (36 + x * 6 + k) 72 (by omega) e1, nm_r (e' := upd (upd b_lists (x * 6 + k) (nI (in_d m.1 0 x k))) (36 + x * 6 + k) (nI (in_d m.1 1 x k))) (by rw [e1, e2, nI_clamp (by omega), pk_sub z, im]) (nm_r (nI_1 k) h)⟩
  · rw [if_neg (by omega)] at im
    exact ⟨pk_in (36 + x * 6 + k) 72 (by omega) e1, nm_r (e' := upd (upd b_lists (x * 6 + k) (nI (in_d m.1 0 x k))) (36 + x * 6 + k) (nI (in_d m.1 1 x k))) (by rw [e1, e2, nI_clamp (by omega), im]) (nm_r (nI_1 k) h)⟩
/-- Y's list table on its way -/
def in_L (n : Nat) (ls : Nat → Int32) (D : Nat → Nat → Nat → Prop) : Prop := (∀ s x j, s < 2 → x < n → j < n → D s x j → ls (s * 36 + x * 6 + j) = nI (in_d n s x j)) ∧ (∀ i, in_o n i → ls i = nI 0)
theorem in_Ls {n : Nat} {ls : Nat → Int32} {x k : Nat} (hn : 1 ≤ n ∧ n ≤ 6) (hx : x < n) (hk : k < n) (h : in_L n ls (fun _ x' j => x' < x ∨ (x' = x ∧ j < k))) : in_L n (upd (upd ls (x * 6 + k) (nI (in_d n 0 x k))) (36 + x * 6 + k) (nI (in_d n 1 x k))) (fun _ x' j => x' < x ∨ (x' = x ∧ j < k + 1)) := by
  refine ⟨fun s x' j hs hx' hj hD => ?_, fun i hi => ?_⟩
  · by_cases e1 : s = 1 ∧ x' = x ∧ j = k
    · rw [e1.1, e1.2.1, e1.2.2, Nat.one_mul, pk_us]
    · rw [pk_un (by omega)]
      by_cases e2 : s = 0 ∧ x' = x ∧ j = k
      · rw [e2.1, e2.2.1, e2.2.2, Nat.zero_mul, Nat.zero_add, pk_us]
      · rw [pk_un (by omega)]
        exact h.1 s x' j hs hx' hj (by omega)
  · have a := hi 1 x k (by omega) hx hk
    have b := hi 0 x k (by omega) hx hk
    rw [pk_un (by omega), pk_un (by omega)]
    exact h.2 i hi
theorem yi_113 (hn : 1 ≤ m.1 ∧ m.1 ≤ 6) {x : Nat} (hx : x < m.1) {x2 x3 : Int32} {post : SY → Prop} {J68 : Int32 → (Nat → Int32) → (Nat → Int32) → (Nat → Int32) → (Nat → Int32) → (Nat → Int32) → (Nat → Int32) → Prop}
    (h : ∀ ls : Nat → Int32, in_L m.1 ls (fun _ x' _ => x' < x + 1) → J68 (nI (x + 1)) ls b_weights b_match b_found b_leadP b_leadK) :
    ∀ f k (ls : Nat → Int32), k ≤ m.1 → m.1 - k < f → in_L m.1 ls (fun _ x' j => x' < x ∨ (x' = x ∧ j < k)) → wY_init_113 post J68 x2 x3 (nI x) (nI m.1) g_count g_rotationCount g_shownSet g_solved f (nI k) ls b_weights b_match b_found b_leadP b_leadK := by
  intro f
  induction f with
  | zero => intro i _ _ h; omega
  | succ f ih =>
    intro k ls hk hf hI
    refine pk_le m.1 k (fun z => nm_r (nI_1 x) (h ls ⟨fun s x' j hs hx' hj hD => hI.1 s x' j hs hx' hj (by omega), hI.2⟩)) (fun z => ?_)
    have e2 : nI x + nI k = nI (x + k) := nI_add x k
    have e3 : nI x * 6 + nI k = nI (x * 6 + k) := by rw [← nI_add, ← pk_mul]; rfl
    have im := in_m hn hx (s := 0) (by omega) z
    rw [Nat.add_zero] at im
    have nx := ih (k + 1) _ (by omega) (by omega) (in_Ls hn hx z hI)
    refine pk_le m.1 (x + k) (fun y => ?_) (fun y => ?_) rfl e2
    · rw [if_pos y] at im
      exact yi_164 hn hx z nx (by rw [e2, pk_sub y, im]) e3
    · rw [if_neg (by omega)] at im
      exact yi_164 hn hx z nx (by rw [e2, im]) e3
theorem yc_k {f_n : Int32} {a b j : Nat} {p : Int32} (c : ∀ A : Int32 → Prop, A (nI j) → ((nI a ≤ p → ((p ≤ nI b → A p) ∧ (¬ p ≤ nI b → A (nI b)))) ∧ (¬ nI a ≤ p → A (nI a)))) {post : Int32 → Prop} (h : post (nI j)) : wpY_clamp post (f_n, g_count, g_rotationCount, g_shownSet, g_solved, b_lists, b_weights, b_match, b_found, b_leadP, b_leadK) p (nI a) (nI b) := c post h
theorem yi_68 (hn : 1 ≤ m.1 ∧ m.1 ≤ 6) {pw aw : Nat} {p1 p2 : Int32} (c1 : ∀ A : Int32 → Prop, A (nI pw) → ((nI 0 ≤ p1 → ((p1 ≤ nI 20 → A p1) ∧ (¬ p1 ≤ nI 20 → A (nI 20)))) ∧ (¬ nI 0 ≤ p1 → A (nI 0)))) (c2 : ∀ A : Int32 → Prop, A (nI aw) → ((nI 0 ≤ p2 → ((p2 ≤ nI 20 → A p2) ∧ (¬ p2 ≤ nI 20 → A (nI 20)))) ∧ (¬ nI 0 ≤ p2 → A (nI 0)))) {post : SY → Prop}
    (h : ∀ ls wt : Nat → Int32, in_L m.1 ls (fun _ x' _ => x' < m.1) → (∀ y, wt y = nI (in_w pw aw m.1 y)) → post ((nI m.1), g_count, g_rotationCount, g_shownSet, g_solved, ls, wt, b_match, b_found, b_leadP, b_leadK)) :
    ∀ f x (ls wt : Nat → Int32), x ≤ m.1 → m.1 - x < f → in_L m.1 ls (fun _ x' _ => x' < x) → (∀ y, wt y = nI (in_w pw aw x y)) → wY_init_68 post p1 p2 (nI m.1) g_count g_rotationCount g_shownSet g_solved f (nI x) ls wt b_match b_found b_leadP b_leadK := by
  intro f
  induction f with
  | zero => intro i _ _ _ h; omega
  | succ f ih =>
    intro x ls wt hx hf hI hwt
    refine pk_le m.1 x (fun z => ?_) (fun z => ?_)
    · have : x = m.1 := by omega
      subst this
      exact h ls wt hI hwt
    · have e6 : 6 + nI x = nI (6 + x) := by rw [← nI_add]; rfl
      refine yc_k c1 ?_
      refine ⟨pk_in x 12 (by omega), nm_r (e' := upd wt x (nI pw)) (by rw [nI_clamp (by omega)]) ?_⟩
      refine yc_k c2 ?_
      refine ⟨pk_in (6 + x) 12 (by omega) e6, nm_r (e' := upd (upd wt x (nI pw)) (6 + x) (nI aw)) (by rw [e6, nI_clamp (by omega)]) ⟨m.1 + 1, ?_⟩⟩
      exact yi_113 hn z (fun ls' g => ih (x + 1) ls' _ (by omega) (by omega) g (in_ws (by omega) hwt)) (m.1 + 1) 0 ls (by omega) (by omega) ⟨fun s x' j hs hx' hj hD => hI.1 s x' j hs hx' hj (by omega), hI.2⟩
end
end
section
/-! the relation -/
def rl_F (m : sm_M) (w : Nat → Nat) (fs sh rc gc grc gsh : Int32) (list rank wts top bar leave idl fil found leadP leadK : Nat → Int32) : Prop :=
  sm_ok m ∧ (∀ i, list i = nI (m.2.1 i)) ∧ (∀ i, rank i = nI (m.2.2 i)) ∧ (∀ i, wts i = nI (w i)) ∧ (∀ i, w i ≤ 20) ∧
  (fs = 0 ∨ (fs = 1 ∧ ∃ (c : Nat) (ld : Nat → Nat) (lv : Nat → Nat → Nat) (cnt : Nat) (G : Nat → Nat → Nat), rc = nI c ∧ grc = nI c ∧ sh = gsh ∧ gc = nI cnt ∧ xv_S m c ld lv top bar leave idl fil ∧ yv_F m cnt G found ∧ yv_L m c ld leadP leadK))
/-- the relation at the head of a turn -/
def i_Rel (_ : Nat) (u : SX) (v : SY) : Prop := match u with
  | (f_n, f_solved, f_shownSet, f_rotationCount, f_source, f_sink, f_nodes, f_unlimited, f_greatestFlow, a_list, a_rank, a_weights, a_top, a_bar, a_leave, a_ideal, a_filter, a_row, a_residual, a_parent, a_queue) => match v with
    | (g_n, g_count, g_rotationCount, g_shownSet, g_solved, b_lists, b_weights, b_match, b_found, b_leadP, b_leadK) => ∃ (m : sm_M) (w : Nat → Nat), f_n = nI m.1 ∧ g_n = nI m.1 ∧ b_lists = a_list ∧ b_weights = a_weights ∧ g_solved = f_solved ∧ rl_F m w f_solved f_shownSet f_rotationCount g_count g_rotationCount g_shownSet a_list a_rank a_weights a_top a_bar a_leave a_ideal a_filter b_found b_leadP b_leadK
theorem rl_in {k : Nat} {m : sm_M} {w : Nat → Nat} {f_solved f_shownSet f_rotationCount f_source f_sink f_nodes f_unlimited f_greatestFlow : Int32} {a_list a_rank a_weights a_top a_bar a_leave a_ideal a_filter a_row a_residual a_parent a_queue : Nat → Int32} {g_count g_rotationCount g_shownSet : Int32} {b_match b_found b_leadP b_leadK : Nat → Int32} (h : rl_F m w f_solved f_shownSet f_rotationCount g_count g_rotationCount g_shownSet a_list a_rank a_weights a_top a_bar a_leave a_ideal a_filter b_found b_leadP b_leadK) : i_Rel k ((nI m.1), f_solved, f_shownSet, f_rotationCount, f_source, f_sink, f_nodes, f_unlimited, f_greatestFlow, a_list, a_rank, a_weights, a_top, a_bar, a_leave, a_ideal, a_filter, a_row, a_residual, a_parent, a_queue) ((nI m.1), g_count, g_rotationCount, g_shownSet, f_solved, a_list, a_weights, b_match, b_found, b_leadP, b_leadK) :=
  Exists.intro m (Exists.intro w ⟨rfl, rfl, rfl, rfl, rfl, h⟩)
theorem rl_el {P : SX → SY → Prop} {k : Nat} {u : SX} {v : SY} (I : i_Rel k u v)
    (h : ∀ (m : sm_M) (w : Nat → Nat) {f_solved f_shownSet f_rotationCount f_source f_sink f_nodes f_unlimited f_greatestFlow : Int32} {a_list a_rank a_weights a_top a_bar a_leave a_ideal a_filter a_row a_residual a_parent a_queue : Nat → Int32} {g_count g_rotationCount g_shownSet : Int32} {b_match b_found b_leadP b_leadK : Nat → Int32}, rl_F m w f_solved f_shownSet f_rotationCount g_count g_rotationCount g_shownSet a_list a_rank a_weights a_top a_bar a_leave a_ideal a_filter b_found b_leadP b_leadK → P ((nI m.1), f_solved, f_shownSet, f_rotationCount, f_source, f_sink, f_nodes, f_unlimited, f_greatestFlow, a_list, a_rank, a_weights, a_top, a_bar, a_leave, a_ideal, a_filter, a_row, a_residual, a_parent, a_queue) ((nI m.1), g_count, g_rotationCount, g_shownSet, f_solved, a_list, a_weights, b_match, b_found, b_leadP, b_leadK)) : P u v := by
  obtain ⟨f_n, f_solved, f_shownSet, f_rotationCount, f_source, f_sink, f_nodes, f_unlimited, f_greatestFlow, a_list, a_rank, a_weights, a_top, a_bar, a_leave, a_ideal, a_filter, a_row, a_residual, a_parent, a_queue⟩ := u
  obtain ⟨g_n, g_count, g_rotationCount, g_shownSet, g_solved, b_lists, b_weights, b_match, b_found, b_leadP, b_leadK⟩ := v
  have I' : ∃ (m : sm_M) (w : Nat → Nat), f_n = nI m.1 ∧ g_n = nI m.1 ∧ b_lists = a_list ∧ b_weights = a_weights ∧ g_solved = f_solved ∧ rl_F m w f_solved f_shownSet f_rotationCount g_count g_rotationCount g_shownSet a_list a_rank a_weights a_top a_bar a_leave a_ideal a_filter b_found b_leadP b_leadK := I
  obtain ⟨m, w, e1, e2, e3, e4, e5, hF⟩ := I'
  rw [e1, e2, e3, e4, e5]
  exact h m w hF
theorem i_up {k : Nat} {u : SX} {v : SY} (h : i_Rel k u v) : i_Rel (k + 4) u v := h
theorem i_vc0 (k0 : Int32) (k1 : Int32) (k2 : Int32) : wpX_init (fun u => wpY_init (fun v => i_Rel 3 u v) k0 k1 k2) k0 k1 k2 := by
  obtain ⟨n, n1, n6, cn⟩ := cl_v k0 1 6 (by omega) (by omega)
  obtain ⟨pw, p1, p2, cp⟩ := cl_v k1 0 20 (by omega) (by omega)
  obtain ⟨aw, a1, a2, ca⟩ := cl_v k2 0 20 (by omega) (by omega)
  unfold wpX_init
  refine xc_k cn ?_
  refine xc_k cp ?_
  refine xc_k ca ?_
  have w0 : ∀ y, nI 0 = nI (in_w pw aw 0 y) := fun y => by
    unfold in_w
    rw [if_neg (by omega), if_neg (by omega)]
  refine ⟨n + 1, xi_167 (m := (n, fun _ => 0, fun _ => 0)) ⟨n1, n6⟩ (fun l rk ls rn wt g1 g2 g3 g4 => ?_) (n + 1) 0 (fun _ => 0) (fun _ => 0) (fun _ => 0) (fun _ => 0) (fun _ => 0) (Nat.zero_le _) (by show n - 0 < n + 1; omega) (fun _ => rfl) (fun _ => rfl) w0 ⟨fun s x _ _ k _ z => by omega, fun _ _ => rfl⟩⟩
  unfold wpY_init
  refine yc_k cn ?_
  refine ⟨n + 1, yi_68 (m := (n, fun _ => 0, fun _ => 0)) ⟨n1, n6⟩ cp ca (fun ls' wt' q1 q2 => ?_) (n + 1) 0 (fun _ => 0) (fun _ => 0) (Nat.zero_le _) (by show n - 0 < n + 1; omega) ⟨fun s x j _ _ _ z => by omega, fun _ _ => rfl⟩ w0⟩
  have ew : wt' = wt := funext fun y => (q2 y).trans (g3 y).symm
  have el : ls' = ls := funext fun i => by
    by_cases z : in_o n i
    · rw [q1.2 i z, g1 i, g4.2 i z]
    · have : ∃ s x k, s < 2 ∧ x < n ∧ k < n ∧ i = s * 36 + x * 6 + k := Classical.byContradiction fun hn => z fun s x k hs hx hk e => hn ⟨s, x, k, hs, hx, hk, e⟩
      obtain ⟨s, x, k, hs, hx, hk, e⟩ := this
      rw [e, q1.1 s x k hs hx hk hx, g1, (g4.1 s x hs hx k hk hx).1]
  rw [ew, el]
  exact rl_in (m := (n, l, rk)) (w := in_w pw aw n) ⟨bk_of ⟨n1, n6⟩ (fun s x hs hx => bk_full (in_p ⟨n1, n6⟩) (g4.1 s x hs hx) (fun _ _ => hx)), g1, g2, g3, fun _ => in_wb p2 a2, Or.inl rfl⟩
theorem i_vc_setList {k : Nat} {u : SX} {v : SY} (I : i_Rel k u v) (hk : k + 4 ≤ 2051) (v1 : Int32) (v2 : Int32) (v3 : Int32) : wpX_setList (fun r u' => wpY_setList (fun r' v' => r' = r ∧ i_Rel (k + 4) u' v') v v1 v2 v3) u v1 v2 v3 := by
  refine rl_el (P := fun u v => wpX_setList (fun r u' => wpY_setList (fun r' v' => r' = r ∧ i_Rel (k + 4) u' v') v v1 v2 v3) u v1 v2 v3) I ?_
  intro m w f_solved f_shownSet f_rotationCount f_source f_sink f_nodes f_unlimited f_greatestFlow a_list a_rank a_weights a_top a_bar a_leave a_ideal a_filter a_row a_residual a_parent a_queue g_count g_rotationCount g_shownSet b_match b_found b_leadP b_leadK hF
  obtain ⟨o, hl, hr, hwt, hw, hs⟩ := id hF
  by_cases g : pr_ps m.1 v1 v2 ∧ ∃ K, K < 2 ^ 31 ∧ v3 = nI K ∧ dg_g m.1 K
  · obtain ⟨⟨s, x, hs2, hx, e1, e2⟩, K, hK, e3, hg⟩ := g
    subst e1 e2 e3
    refine xw_g o hl hr hs2 hx hK hg (fun l rk ls rn g1 g2 g3 => ?_)
    refine yg_g o hs2 hx hK hg (fun ls' q1 q2 => ⟨rfl, ?_⟩)
    have el : ls' = ls := funext fun i => by
      by_cases z : ∀ k, k < m.1 → i ≠ s * 36 + x * 6 + k
      · rw [q2 i z, hl i, g1 i, (g3.2 i z).1]
      · have : ∃ k, k < m.1 ∧ i = s * 36 + x * 6 + k := Classical.byContradiction fun hn => z fun k hk e => hn ⟨k, hk, e⟩
        obtain ⟨k, hk, e⟩ := this
        rw [e, q1 k hk, g1, (g3.1 k hk trivial).1]
    rw [el]
    exact rl_in (m := (m.1, l, rk)) (w := w) ⟨wl_ok o hx hg.2 g3 (fun _ _ => trivial), g1, g2, hwt, hw, Or.inl rfl⟩
  · exact xw_b o g (yg_b o g ⟨rfl, rl_in hF⟩)
theorem i_vc_setWeight {k : Nat} {u : SX} {v : SY} (I : i_Rel k u v) (hk : k + 4 ≤ 2051) (v1 : Int32) (v2 : Int32) (v3 : Int32) : wpX_setWeight (fun r u' => wpY_setWeight (fun r' v' => r' = r ∧ i_Rel (k + 4) u' v') v v1 v2 v3) u v1 v2 v3 := by
  refine rl_el (P := fun u v => wpX_setWeight (fun r u' => wpY_setWeight (fun r' v' => r' = r ∧ i_Rel (k + 4) u' v') v v1 v2 v3) u v1 v2 v3) I ?_
  intro m w f_solved f_shownSet f_rotationCount f_source f_sink f_nodes f_unlimited f_greatestFlow a_list a_rank a_weights a_top a_bar a_leave a_ideal a_filter a_row a_residual a_parent a_queue g_count g_rotationCount g_shownSet b_match b_found b_leadP b_leadK hF
  obtain ⟨o, hl, hr, hwt, hw, hs⟩ := id hF
  have o6 := o.1.2
  unfold wpX_setWeight wpY_setWeight
  by_cases g : pr_ps m.1 v1 v2
  · obtain ⟨s, x, hs2, hx, e1, e2⟩ := g
    subst e1 e2
    refine xp_t o hs2 hx (br_f (by decide) ?_)
    by_cases z : v3 < 0
    · refine br_t z ?_
      exact yb_t o hs2 hx (br_t rfl (br_t z ⟨rfl, rl_in hF⟩))
    · refine br_f z ?_
      by_cases y : v3 ≤ 20
      · obtain ⟨t, ht, e3⟩ := nI_of2 (M := 20) (n := 20) (by decide) z y
        have e : nI s * 6 + nI x = nI (s * 6 + x) := by rw [← nI_add, ← pk_mul]; rfl
        refine br_t y ⟨pk_in (s * 6 + x) 12 (by omega) e, nm_e ?_⟩
        refine yb_t o hs2 hx (br_t rfl (br_f z (br_t y ⟨pk_in (s * 6 + x) 12 (by omega) e, nm_e ⟨rfl, ?_⟩⟩)))
        refine rl_in (m := m) (w := nu_u w (s * 6 + x) t) ⟨o, hl, hr, fun i => ?_, fun i => ?_, hs⟩
        · rw [e, nI_clamp (by omega), e3]
          by_cases q : i = s * 6 + x
          · rw [q, pk_us, nu_s]
          · rw [pk_un q, nu_n q]; exact hwt i
        · by_cases q : i = s * 6 + x
          · rw [q, nu_s]; exact ht
          · rw [nu_n q]; exact hw i
      · refine br_f y ?_
        exact yb_t o hs2 hx (br_t rfl (br_f z (br_f y ⟨rfl, rl_in hF⟩)))
  · refine xp_f o g (br_t rfl ?_)
    exact yb_f o g (br_f (by decide) ⟨rfl, rl_in hF⟩)
theorem i_vc_choice {k : Nat} {u : SX} {v : SY} (I : i_Rel k u v) (hk : k + 4 ≤ 2051) (v1 : Int32) (v2 : Int32) (v3 : Int32) : wpX_choice (fun r => wpY_choice (fun r' => r' = r ∧ i_Rel (k + 4) u v) v v1 v2 v3) u v1 v2 v3 := by
  refine rl_el (P := fun u v => wpX_choice (fun r => wpY_choice (fun r' => r' = r ∧ i_Rel (k + 4) u v) v v1 v2 v3) u v1 v2 v3) I ?_
  intro m w f_solved f_shownSet f_rotationCount f_source f_sink f_nodes f_unlimited f_greatestFlow a_list a_rank a_weights a_top a_bar a_leave a_ideal a_filter a_row a_residual a_parent a_queue g_count g_rotationCount g_shownSet b_match b_found b_leadP b_leadK hF
  obtain ⟨o, hl, hr, hwt, hw, hs⟩ := id hF
  have o6 := o.1.2
  unfold wpX_choice wpY_choice
  by_cases g : pr_ps m.1 v1 v2
  · obtain ⟨s, x, hs2, hx, e1, e2⟩ := g
    subst e1 e2
    refine xp_t o hs2 hx (br_f (by decide) ?_)
    by_cases z : pr_ix m.1 v3
    · obtain ⟨t, ht, e3⟩ := z
      subst e3
      have e : nI s * 36 + nI x * 6 + nI t = nI (s * 36 + x * 6 + t) := by
        rw [← nI_add, ← nI_add, ← pk_mul, ← pk_mul]
        rfl
      refine xi_t o ht (br_f (by decide) ?_)
      refine xs_g s x t ⟨pk_in (s * 36 + x * 6 + t) 72 (by omega), ?_⟩
      refine yb_t o hs2 hx (br_t rfl (br_f (nI_pos (by omega)) (br_t (nI_lt ht (by omega)) ⟨pk_in (s * 36 + x * 6 + t) 72 (by omega) e, ?_⟩)))
      exact ⟨by rw [e], rl_in hF⟩
    · refine xi_f o z (br_t rfl ?_)
      refine yb_t o hs2 hx (br_t rfl ?_)
      rcases pr_n (by omega) z with y | ⟨y1, y2⟩
      · exact br_t y ⟨rfl, rl_in hF⟩
      · exact br_f y1 (br_f (fun q => Int32.lt_irrefl (Int32.lt_of_lt_of_le q y2)) ⟨rfl, rl_in hF⟩)
  · refine xp_f o g (br_t rfl ?_)
    exact yb_f o g (br_f (by decide) ⟨rfl, rl_in hF⟩)
theorem i_vc_weight {k : Nat} {u : SX} {v : SY} (I : i_Rel k u v) (hk : k + 4 ≤ 2051) (v1 : Int32) (v2 : Int32) : wpX_weight (fun r => wpY_weight (fun r' => r' = r ∧ i_Rel (k + 4) u v) v v1 v2) u v1 v2 := by
  refine rl_el (P := fun u v => wpX_weight (fun r => wpY_weight (fun r' => r' = r ∧ i_Rel (k + 4) u v) v v1 v2) u v1 v2) I ?_
  intro m w f_solved f_shownSet f_rotationCount f_source f_sink f_nodes f_unlimited f_greatestFlow a_list a_rank a_weights a_top a_bar a_leave a_ideal a_filter a_row a_residual a_parent a_queue g_count g_rotationCount g_shownSet b_match b_found b_leadP b_leadK hF
  obtain ⟨o, hl, hr, hwt, hw, hs⟩ := id hF
  have o6 := o.1.2
  unfold wpX_weight wpY_weight
  by_cases g : pr_ps m.1 v1 v2
  · obtain ⟨s, x, hs2, hx, e1, e2⟩ := g
    subst e1 e2
    have e : nI s * 6 + nI x = nI (s * 6 + x) := by rw [← nI_add, ← pk_mul]; rfl
    refine xp_t o hs2 hx (br_f (by decide) ⟨pk_in (s * 6 + x) 12 (by omega) e, ?_⟩)
    exact yb_t o hs2 hx (br_t rfl ⟨pk_in (s * 6 + x) 12 (by omega) e, rfl, rl_in hF⟩)
  · refine xp_f o g (br_t rfl ?_)
    exact yb_f o g (br_f (by decide) ⟨rfl, rl_in hF⟩)
end
section
/-! the owed statements over the solved tables -/
theorem yv_Lu {m : sm_M} {c c' : Nat} {ld ld' : Nat → Nat} {lP lK : Nat → Int32} (h : sm_RL m 36 c ld) (h' : sm_RL m 36 c' ld') (hL : yv_L m c' ld' lP lK) : yv_L m c ld lP lK ∧ c' = c := by
  obtain ⟨e, el⟩ := sm_RLu h h'
  subst e
  refine ⟨fun r hr => ?_, rfl⟩
  rw [el r hr]
  exact hL r hr
section
variable {m : sm_M} {g_count g_rotationCount g_shownSet g_solved : Int32} {b_lists b_weights b_match b_found b_leadP b_leadK : Nat → Int32}
theorem yp_41 (o : sm_ok m) (hl : ∀ i, b_lists i = nI (m.2.1 i)) {cnt : Nat} {G : Nat → Nat → Nat} (hF : yv_F m cnt G b_found) {c : Nat} {ld : Nat → Nat} (hL : yv_L m c ld b_leadP b_leadK) (hR : sm_RL m 36 c ld) {r p : Nat} (hr : r < c) (hp : p < m.1) {v3 : Int32} {post : Int32 → Prop}
    (h1 : ∀ k, sm_mv m p k → (∀ q, q < m.1 → sm_br m p (k + 1) q = sm_bj m (ld r) q) → (v3 = 0 → post (nI (sm_l m p k))) ∧ (¬ v3 = 0 → post (nI (sm_l m p (sm_bj m (ld r) p))))) (h0 : (∀ k, sm_mv m p k → ¬ ∀ q, q < m.1 → sm_br m p (k + 1) q = sm_bj m (ld r) q) → post (-4)) :
    ∀ f i, i ≤ m.1 → m.1 - i < f → (∀ k, k < i → sm_mv m p k → ¬ ∀ q, q < m.1 → sm_br m p (k + 1) q = sm_bj m (ld r) q) → wY_rotationPartner_41 post (nI r) (nI p) v3 (nI m.1) (nI cnt) (nI c) g_shownSet g_solved b_lists b_weights b_match b_found b_leadP b_leadK f (nI i) := by
  have o6 := o.1.2
  have c15 := sm_RL15 o hR
  intro f
  induction f with
  | zero => intro i _ h; omega
  | succ f ih =>
    intro i hi hf hh
    refine pk_le m.1 i (fun z => h0 fun k mv => hh k (by have := sm_mvk mv; omega) mv) (fun z => ?_)
    have nx : (sm_mv m p i → ¬ ∀ q, q < m.1 → sm_br m p (i + 1) q = sm_bj m (ld r) q) → wY_rotationPartner_41 post (nI r) (nI p) v3 (nI m.1) (nI cnt) (nI c) g_shownSet g_solved b_lists b_weights b_match b_found b_leadP b_leadK f (nI (i + 1)) := fun g => ih (i + 1) (by omega) (by omega) fun k hk => by
      rcases Nat.lt_or_ge k i with y | y
      · exact hh k y
      · have : k = i := by omega
        rw [this]; exact g
    refine yo_m o hF hp z (fun mv => br_f (by decide) ?_) (fun mv => br_t rfl (nm_r (nI_1 i) (nx fun w => absurd w mv)))
    refine yt_r o hF hL hR hp z (fun r' hr' e => ?_) (fun hn => ?_)
    · refine pk_eq r' r (fun y => ?_) (fun y => nm_r (nI_1 i) (nx fun _ g => y (sm_RLd hR hr' hr fun q hq => (e q hq).symm.trans (g q hq))))
      subst y
      have g := h1 i mv e
      have ei : nI p * 6 + nI i = nI (p * 6 + i) := by rw [← nI_add, ← pk_mul]; rfl
      have b := (sm_bS o hR hr).1.1 p hp
      have eb : nI p * 6 + nI (sm_bj m (ld r') p) = nI (p * 6 + sm_bj m (ld r') p) := by rw [← nI_add, ← pk_mul]; rfl
      refine ⟨fun w => ⟨pk_in (p * 6 + i) 72 (by omega) ei, ?_⟩, fun w => ?_⟩
      · rw [ei, nI_clamp (by omega), hl]
        exact g.1 w
      · refine yb_b o hF hL hR hr hp ⟨pk_in (p * 6 + sm_bj m (ld r') p) 72 (by omega) eb, ?_⟩
        rw [eb, nI_clamp (by omega), hl]
        exact g.2 w
    · have ne : ¬ (-1 : Int32) = nI r := fun e => by
        have := nI_pos' (n := r) (by omega)
        rw [← e] at this
        exact absurd this (by decide)
      exact br_f ne (nm_r (nI_1 i) (nx fun _ g => hn r hr g))
theorem yp_37 (o : sm_ok m) (hl : ∀ i, b_lists i = nI (m.2.1 i)) {M : Nat → Nat} (hm : ∀ q, q < m.1 → b_match q = nI (M q)) (hM : sm_St m M) {x : Nat} (hx : x < m.1) {post : Int32 → SY → Prop} (h : post (nI x) ((nI m.1), g_count, g_rotationCount, g_shownSet, g_solved, b_lists, b_weights, b_match, b_found, b_leadP, b_leadK)) :
    ∀ f i, i ≤ x → m.1 - i < f → wY_partner_37 post (nI (sm_h m M x)) (nI m.1) g_count g_rotationCount g_shownSet g_solved b_lists b_weights b_match b_found b_leadP b_leadK f (nI i) := by
  have o6 := o.1.2
  intro f
  induction f with
  | zero => intro i _ h; omega
  | succ f ih =>
    intro i hi hf
    refine pk_le m.1 i (fun z => by omega) (fun z => ?_)
    have h1 := sm_hl o z (hM.1 i z)
    have h2 := sm_hl o hx (hM.1 x hx)
    refine yh_h o hl hm hM.1 z ?_
    refine pk_eq (sm_h m M i) (sm_h m M x) (fun y => ?_) (fun y => ?_)
    · rw [hM.2.1 i x z hx y]; exact h
    · have : i ≠ x := fun w => y (by rw [w])
      exact nm_r (nI_1 i) (ih (i + 1) (by omega) (by omega))
end
theorem i_vc_solve {k : Nat} {u : SX} {v : SY} (I : i_Rel k u v) (hk : k + 4 ≤ 2051) : wpX_solve (fun r u' => wpY_solve (fun r' v' => r' = r ∧ i_Rel (k + 4) u' v') v) u := by
  refine rl_el (P := fun u v => wpX_solve (fun r u' => wpY_solve (fun r' v' => r' = r ∧ i_Rel (k + 4) u' v') v) u) I ?_
  intro m w f_solved f_shownSet f_rotationCount f_source f_sink f_nodes f_unlimited f_greatestFlow a_list a_rank a_weights a_top a_bar a_leave a_ideal a_filter a_row a_residual a_parent a_queue g_count g_rotationCount g_shownSet b_match b_found b_leadP b_leadK hF
  obtain ⟨o, hl, hr, hwt, hw, hs⟩ := id hF
  have o6 := o.1.2
  rcases hs with h0 | ⟨h1, c, ld, lv, cnt, G, e1, e2, e3, e4, hS, hG, hL⟩
  · refine xn_s o hl hr h0 (fun c ld lv row' top' bar' leave' idl fil hS => ?_)
    refine yw_s o hl (fun cnt c' G ld' mt fd lP lK hG hR hL => ?_)
    obtain ⟨hL', ec⟩ := yv_Lu hS.1.1 hR hL
    subst ec
    exact ⟨rfl, rl_in (w := w) ⟨o, hl, hr, hwt, hw, Or.inr ⟨rfl, c', ld, lv, cnt, G, rfl, rfl, rfl, rfl, hS, hG, hL'⟩⟩⟩
  · subst e1 h1
    refine br_f (by decide) ?_
    refine yw_s o hl (fun cnt c' G ld' mt fd lP lK hG hR hL => ?_)
    obtain ⟨hL', ec⟩ := yv_Lu hS.1.1 hR hL
    subst ec
    exact ⟨rfl, rl_in (w := w) ⟨o, hl, hr, hwt, hw, Or.inr ⟨rfl, c', ld, lv, cnt, G, rfl, rfl, rfl, rfl, hS, hG, hL'⟩⟩⟩
theorem i_vc_rotations {k : Nat} {u : SX} {v : SY} (I : i_Rel k u v) (hk : k + 4 ≤ 2051) : wpX_rotations (fun r => wpY_rotations (fun r' => r' = r ∧ i_Rel (k + 4) u v) v) u := by
  refine rl_el (P := fun u v => wpX_rotations (fun r => wpY_rotations (fun r' => r' = r ∧ i_Rel (k + 4) u v) v) u) I ?_
  intro m w f_solved f_shownSet f_rotationCount f_source f_sink f_nodes f_unlimited f_greatestFlow a_list a_rank a_weights a_top a_bar a_leave a_ideal a_filter a_row a_residual a_parent a_queue g_count g_rotationCount g_shownSet b_match b_found b_leadP b_leadK hF
  obtain ⟨o, hl, hr, hwt, hw, hs⟩ := id hF
  have o6 := o.1.2
  rcases hs with h0 | ⟨h1, c, ld, lv, cnt, G, e1, e2, e3, e4, hS, hG, hL⟩
  · exact br_t h0 (br_t h0 ⟨rfl, rl_in hF⟩)
  · have n0 : ¬ f_solved = 0 := by rw [h1]; decide
    exact br_f n0 (br_f n0 ⟨e2.trans e1.symm, rl_in hF⟩)
theorem i_vc_shown {k : Nat} {u : SX} {v : SY} (I : i_Rel k u v) (hk : k + 4 ≤ 2051) : wpX_shown (fun r => wpY_shown (fun r' => r' = r ∧ i_Rel (k + 4) u v) v) u := by
  refine rl_el (P := fun u v => wpX_shown (fun r => wpY_shown (fun r' => r' = r ∧ i_Rel (k + 4) u v) v) u) I ?_
  intro m w f_solved f_shownSet f_rotationCount f_source f_sink f_nodes f_unlimited f_greatestFlow a_list a_rank a_weights a_top a_bar a_leave a_ideal a_filter a_row a_residual a_parent a_queue g_count g_rotationCount g_shownSet b_match b_found b_leadP b_leadK hF
  obtain ⟨o, hl, hr, hwt, hw, hs⟩ := id hF
  have o6 := o.1.2
  rcases hs with h0 | ⟨h1, c, ld, lv, cnt, G, e1, e2, e3, e4, hS, hG, hL⟩
  · exact br_t h0 (br_t h0 ⟨rfl, rl_in hF⟩)
  · have n0 : ¬ f_solved = 0 := by rw [h1]; decide
    exact br_f n0 (br_f n0 ⟨e3.symm, rl_in hF⟩)
theorem i_vc_precedes {k : Nat} {u : SX} {v : SY} (I : i_Rel k u v) (hk : k + 4 ≤ 2051) (v1 : Int32) (v2 : Int32) : wpX_precedes (fun r => wpY_precedes (fun r' => r' = r ∧ i_Rel (k + 4) u v) v v1 v2) u v1 v2 := by
  refine rl_el (P := fun u v => wpX_precedes (fun r => wpY_precedes (fun r' => r' = r ∧ i_Rel (k + 4) u v) v v1 v2) u v1 v2) I ?_
  intro m w f_solved f_shownSet f_rotationCount f_source f_sink f_nodes f_unlimited f_greatestFlow a_list a_rank a_weights a_top a_bar a_leave a_ideal a_filter a_row a_residual a_parent a_queue g_count g_rotationCount g_shownSet b_match b_found b_leadP b_leadK hF
  obtain ⟨o, hl, hr, hwt, hw, hs⟩ := id hF
  have o6 := o.1.2
  rcases hs with h0 | ⟨h1, c, ld, lv, cnt, G, e1, e2, e3, e4, hS, hG, hL⟩
  · exact br_t h0 (br_t h0 ⟨rfl, rl_in hF⟩)
  · have n0 : ¬ f_solved = 0 := by rw [h1]; decide
    have c15 := sm_RL15 o hS.1.1
    subst e1 e2 e3 e4
    refine br_f n0 ?_
    by_cases g1 : pr_ix c v1
    · obtain ⟨r, hrc, er⟩ := g1
      subst er
      refine xz_t c15 hrc (br_f (by decide) ?_)
      by_cases g2 : pr_ix c v2
      · obtain ⟨s, hsc, es⟩ := g2
        subst es
        refine xz_t c15 hsc (br_f (by decide) ?_)
        have Y : ∀ a : Int32, ((sm_le m (sm_bj m (ld r)) (sm_bj m (ld s)) ∧ r ≠ s) → a = 1) → (¬ (sm_le m (sm_bj m (ld r)) (sm_bj m (ld s)) ∧ r ≠ s) → a = 0) → wpY_precedes (fun r' => r' = a ∧ i_Rel (k + 4) ((nI m.1), f_solved, f_shownSet, (nI c), f_source, f_sink, f_nodes, f_unlimited, f_greatestFlow, a_list, a_rank, a_weights, a_top, a_bar, a_leave, a_ideal, a_filter, a_row, a_residual, a_parent, a_queue) ((nI m.1), (nI cnt), (nI c), f_shownSet, f_solved, a_list, a_weights, b_match, b_found, b_leadP, b_leadK)) ((nI m.1), (nI cnt), (nI c), f_shownSet, f_solved, a_list, a_weights, b_match, b_found, b_leadP, b_leadK) (nI r) (nI s) := fun a a1 a0 => by
          refine br_f n0 ?_
          refine yn_t c15 hrc (br_t rfl ?_)
          refine yn_t c15 hsc (br_t rfl ?_)
          refine yf_b o hG hL hS.1.1 hrc hsc (fun l ne => br_f (by decide) ⟨(a1 ⟨l, ne⟩).symm, rl_in hF⟩) (fun l => br_t rfl ⟨(a0 l).symm, rl_in hF⟩)
        refine pk_eq r s (fun y => Y 0 (fun z => absurd y z.2) (fun _ => rfl)) (fun y => ⟨pk_in s 15 (by omega), ?_⟩)
        refine xc_c (by omega) (fun b => br_f (by decide) (Y 1 (fun _ => rfl) (fun z => ?_))) (fun b => br_t rfl (Y 0 (fun z => ?_) (fun _ => rfl)))
        · rw [nI_clamp (by omega)] at b
          exact absurd ⟨((hS.2.2.1 s r hsc (by omega)).mp b).2, y⟩ z
        · rw [nI_clamp (by omega), (hS.2.2.1 s r hsc (by omega)).mpr ⟨hrc, z.1⟩] at b
          exact Bool.noConfusion b
      · refine xz_f c15 g2 (br_t rfl ?_)
        refine br_f n0 ?_
        refine yn_t c15 hrc (br_t rfl ?_)
        exact yn_f c15 g2 (br_f (by decide) ⟨rfl, rl_in hF⟩)
    · refine xz_f c15 g1 (br_t rfl ?_)
      refine br_f n0 ?_
      exact yn_f c15 g1 (br_f (by decide) ⟨rfl, rl_in hF⟩)
theorem i_vc_stablePair {k : Nat} {u : SX} {v : SY} (I : i_Rel k u v) (hk : k + 4 ≤ 2051) (v1 : Int32) (v2 : Int32) : wpX_stablePair (fun r => wpY_stablePair (fun r' => r' = r ∧ i_Rel (k + 4) u v) v v1 v2) u v1 v2 := by
  refine rl_el (P := fun u v => wpX_stablePair (fun r => wpY_stablePair (fun r' => r' = r ∧ i_Rel (k + 4) u v) v v1 v2) u v1 v2) I ?_
  intro m w f_solved f_shownSet f_rotationCount f_source f_sink f_nodes f_unlimited f_greatestFlow a_list a_rank a_weights a_top a_bar a_leave a_ideal a_filter a_row a_residual a_parent a_queue g_count g_rotationCount g_shownSet b_match b_found b_leadP b_leadK hF
  obtain ⟨o, hl, hr, hwt, hw, hs⟩ := id hF
  have o6 := o.1.2
  rcases hs with h0 | ⟨h1, c, ld, lv, cnt, G, e1, e2, e3, e4, hS, hG, hL⟩
  · exact br_t h0 (br_t h0 ⟨rfl, rl_in hF⟩)
  · have n0 : ¬ f_solved = 0 := by rw [h1]; decide
    have c15 := sm_RL15 o hS.1.1
    subst e1 e2 e3 e4
    refine br_f n0 ?_
    by_cases g1 : pr_ix m.1 v1
    · obtain ⟨p, hp, ep⟩ := g1
      subst ep
      refine xi_t o hp (br_f (by decide) ?_)
      by_cases g2 : pr_ix m.1 v2
      · obtain ⟨a, ha, ea⟩ := g2
        subst ea
        have rk := o.2.2.1 p a hp ha
        have tb := (sm_tpS o).1.1 p hp
        refine xi_t o ha (br_f (by decide) ?_)
        have Y : ∀ x : Int32, (sm_oc m p (sm_r m p a) → x = 1) → (¬ sm_oc m p (sm_r m p a) → x = 0) → wpY_stablePair (fun r' => r' = x ∧ i_Rel (k + 4) ((nI m.1), f_solved, f_shownSet, (nI c), f_source, f_sink, f_nodes, f_unlimited, f_greatestFlow, a_list, a_rank, a_weights, a_top, a_bar, a_leave, a_ideal, a_filter, a_row, a_residual, a_parent, a_queue) ((nI m.1), (nI cnt), (nI c), f_shownSet, f_solved, a_list, a_weights, b_match, b_found, b_leadP, b_leadK)) ((nI m.1), (nI cnt), (nI c), f_shownSet, f_solved, a_list, a_weights, b_match, b_found, b_leadP, b_leadK) (nI p) (nI a) := fun x a1 a0 => by
          refine br_f n0 ?_
          refine yb_t o (s := 0) (by omega) hp (br_t rfl ?_)
          refine yb_t o (s := 1) (by omega) ha (br_t rfl ?_)
          refine yr_0 o hl hp ha ?_
          refine yo_o o hG hp rk.1 (fun l => br_f (by decide) ⟨(a1 l).symm, rl_in hF⟩) (fun l => br_t rfl ⟨(a0 l).symm, rl_in hF⟩)
        refine xs_0 p a ⟨pk_in (p * 6 + a) 72 (by omega), nm_r (e' := nI (sm_r m p a)) (rd_c (p * 6 + a) (hr _)) ⟨pk_in p 6 (by omega), ?_⟩⟩
        refine pk_eq (sm_tp m p) (sm_r m p a) (fun y => ⟨c + 1, ?_⟩) (fun y => ⟨c + 1, ?_⟩) (rd_c p (hS.2.1 p hp)) rfl
        · exact xj_61 o hS hp rk.1 (fun z => Y 1 (fun _ => rfl) (fun w => absurd z w)) (fun z => Y 0 (fun w => absurd w z) (fun _ => rfl)) (c + 1) 0 1 (by omega) (by omega) (Or.inl ⟨rfl, Or.inl y⟩)
        · exact xj_61 o hS hp rk.1 (fun z => Y 1 (fun _ => rfl) (fun w => absurd z w)) (fun z => Y 0 (fun w => absurd w z) (fun _ => rfl)) (c + 1) 0 0 (by omega) (by omega) (Or.inr ⟨rfl, fun z => z.elim y (fun ⟨r, hr', _⟩ => by omega)⟩)
      · refine xi_f o g2 (br_t rfl ?_)
        refine br_f n0 ?_
        refine yb_t o (s := 0) (by omega) hp (br_t rfl ?_)
        exact yb_f o (fun ⟨s, x, _, hx, _, e⟩ => g2 ⟨x, hx, e⟩) (br_f (by decide) ⟨rfl, rl_in hF⟩)
    · refine xi_f o g1 (br_t rfl ?_)
      refine br_f n0 ?_
      exact yb_f o (fun ⟨s, x, _, hx, _, e⟩ => g1 ⟨x, hx, e⟩) (br_f (by decide) ⟨rfl, rl_in hF⟩)
theorem i_vc_rotationPartner {k : Nat} {u : SX} {v : SY} (I : i_Rel k u v) (hk : k + 4 ≤ 2051) (v1 : Int32) (v2 : Int32) (v3 : Int32) : wpX_rotationPartner (fun r => wpY_rotationPartner (fun r' => r' = r ∧ i_Rel (k + 4) u v) v v1 v2 v3) u v1 v2 v3 := by
  refine rl_el (P := fun u v => wpX_rotationPartner (fun r => wpY_rotationPartner (fun r' => r' = r ∧ i_Rel (k + 4) u v) v v1 v2 v3) u v1 v2 v3) I ?_
  intro m w f_solved f_shownSet f_rotationCount f_source f_sink f_nodes f_unlimited f_greatestFlow a_list a_rank a_weights a_top a_bar a_leave a_ideal a_filter a_row a_residual a_parent a_queue g_count g_rotationCount g_shownSet b_match b_found b_leadP b_leadK hF
  obtain ⟨o, hl, hr, hwt, hw, hs⟩ := id hF
  have o6 := o.1.2
  rcases hs with h0 | ⟨h1, c, ld, lv, cnt, G, e1, e2, e3, e4, hS, hG, hL⟩
  · exact br_t h0 (br_t h0 ⟨rfl, rl_in hF⟩)
  · have n0 : ¬ f_solved = 0 := by rw [h1]; decide
    have c15 := sm_RL15 o hS.1.1
    subst e1 e2 e3 e4
    refine br_f n0 ?_
    by_cases g1 : pr_ix c v1
    · obtain ⟨r, hrc, er⟩ := g1
      subst er
      refine xz_t c15 hrc (br_f (by decide) ?_)
      by_cases g2 : pr_ix m.1 v2
      · obtain ⟨p, hp, ep⟩ := g2
        subst ep
        refine xi_t o hp (br_f (by decide) ?_)
        by_cases z1 : v3 < 0
        · refine br_t z1 ?_
          refine br_f n0 ?_
          refine yn_t c15 hrc (br_t rfl ?_)
          exact yb_t o (s := 0) (by omega) hp (br_t rfl (br_t z1 ⟨rfl, rl_in hF⟩))
        · refine br_f z1 ?_
          by_cases z2 : v3 ≤ 1
          · refine br_t z2 ?_
            have e : nI r * 6 + nI p = nI (r * 6 + p) := by rw [← nI_add, ← pk_mul]; rfl
            have lvk : ∀ k, lv r p = k + 1 ↔ (sm_mv m p k ∧ ∀ q, q < m.1 → sm_br m p (k + 1) q = sm_bj m (ld r) q) := fun k => by
              rw [hS.1.2.1 r p k hrc hp]
              exact ⟨fun z => z.2, fun z => ⟨by have := sm_mvk z.1; omega, z⟩⟩
            have bb := (sm_bS o hS.1.1 hrc).1.1 p hp
            have lb : lv r p ≤ 6 := by
              rcases Nat.eq_zero_or_pos (lv r p) with z | z
              · omega
              · obtain ⟨q, eq⟩ : ∃ q, lv r p = q + 1 := ⟨lv r p - 1, by omega⟩
                have := sm_mvk ((lvk q).mp eq).1
                omega
            have Y : ∀ a : Int32, (lv r p = 0 → a = -4) → (∀ q, lv r p = q + 1 → (v3 = 0 → a = nI (sm_l m p q)) ∧ (¬ v3 = 0 → a = nI (sm_l m p (sm_bj m (ld r) p)))) → wpY_rotationPartner (fun r' => r' = a ∧ i_Rel (k + 4) ((nI m.1), f_solved, f_shownSet, (nI c), f_source, f_sink, f_nodes, f_unlimited, f_greatestFlow, a_list, a_rank, a_weights, a_top, a_bar, a_leave, a_ideal, a_filter, a_row, a_residual, a_parent, a_queue) ((nI m.1), (nI cnt), (nI c), f_shownSet, f_solved, a_list, a_weights, b_match, b_found, b_leadP, b_leadK)) ((nI m.1), (nI cnt), (nI c), f_shownSet, f_solved, a_list, a_weights, b_match, b_found, b_leadP, b_leadK) (nI r) (nI p) v3 := fun a a0 a1 => by
              refine br_f n0 ?_
              refine yn_t c15 hrc (br_t rfl ?_)
              refine yb_t o (s := 0) (by omega) hp (br_t rfl (br_f z1 (br_t z2 ⟨m.1 + 1, ?_⟩)))
              refine yp_41 o hl hG hL hS.1.1 hrc hp (fun q mv e => ⟨fun w => ⟨?_, rl_in hF⟩, fun w => ⟨?_, rl_in hF⟩⟩) (fun hn => ⟨(a0 ?_).symm, rl_in hF⟩) (m.1 + 1) 0 (by omega) (by omega) (fun q hq => by omega)
              · exact ((a1 q ((lvk q).mpr ⟨mv, e⟩)).1 w).symm
              · exact ((a1 q ((lvk q).mpr ⟨mv, e⟩)).2 w).symm
              · rcases Nat.eq_zero_or_pos (lv r p) with z | z
                · exact z
                · obtain ⟨q, eq⟩ : ∃ q, lv r p = q + 1 := ⟨lv r p - 1, by omega⟩
                  exact absurd ((lvk q).mp eq).2 (hn q ((lvk q).mp eq).1)
            refine nm_r e ⟨pk_in (r * 6 + p) 90 (by omega), ?_⟩
            refine pk_pg (lv r p) (rd_c (r * 6 + p) (hS.1.2.2.2.1 r p (by omega) hp)) (by omega) (fun y => ?_) (fun y => Y (-4) (fun _ => rfl) (fun q eq => by omega))
            obtain ⟨q, eq⟩ : ∃ q, lv r p = q + 1 := ⟨lv r p - 1, by omega⟩
            have hq := sm_mvk ((lvk q).mp eq).1
            refine br_c (fun w => ⟨pk_in (r * 6 + p) 90 (by omega), ?_⟩) (fun w => ⟨pk_in (r * 6 + p) 90 (by omega), ?_⟩)
            · refine xs_0 p q ⟨pk_in (p * 6 + q) 72 (by omega), ?_⟩ rfl (rd_c (r * 6 + p) (by rw [hS.1.2.2.2.1 r p (by omega) hp, eq, nI_pred]))
              rw [nI_clamp (by omega), hl]
              exact Y _ (fun z => by omega) (fun q' eq' => ⟨fun _ => by
                have : q' = q := by omega
                rw [this]; rfl, fun u => absurd w u⟩)
            · refine xs_0 p (sm_bj m (ld r) p) ⟨pk_in (p * 6 + sm_bj m (ld r) p) 72 (by omega), ?_⟩ rfl (rd_c (r * 6 + p) (hS.1.2.2.1 r p hrc hp))
              rw [nI_clamp (by omega), hl]
              exact Y _ (fun z => by omega) (fun q' eq' => ⟨fun u => absurd u w, fun _ => rfl⟩)
          · refine br_f z2 ?_
            refine br_f n0 ?_
            refine yn_t c15 hrc (br_t rfl ?_)
            exact yb_t o (s := 0) (by omega) hp (br_t rfl (br_f z1 (br_f z2 ⟨rfl, rl_in hF⟩)))
      · refine xi_f o g2 (br_t rfl ?_)
        refine br_f n0 ?_
        refine yn_t c15 hrc (br_t rfl ?_)
        exact yb_f o (fun ⟨s, x, _, hx, _, e⟩ => g2 ⟨x, hx, e⟩) (br_f (by decide) ⟨rfl, rl_in hF⟩)
    · refine xz_f c15 g1 (br_t rfl ?_)
      refine br_f n0 ?_
      exact yn_f c15 g1 (br_f (by decide) ⟨rfl, rl_in hF⟩)
theorem i_vc_select {k : Nat} {u : SX} {v : SY} (I : i_Rel k u v) (hk : k + 4 ≤ 2051) (v1 : Int32) : wpX_select (fun r u' => wpY_select (fun r' v' => r' = r ∧ i_Rel (k + 4) u' v') v v1) u v1 := by
  refine rl_el (P := fun u v => wpX_select (fun r u' => wpY_select (fun r' v' => r' = r ∧ i_Rel (k + 4) u' v') v v1) u v1) I ?_
  intro m w f_solved f_shownSet f_rotationCount f_source f_sink f_nodes f_unlimited f_greatestFlow a_list a_rank a_weights a_top a_bar a_leave a_ideal a_filter a_row a_residual a_parent a_queue g_count g_rotationCount g_shownSet b_match b_found b_leadP b_leadK hF
  obtain ⟨o, hl, hr, hwt, hw, hs⟩ := id hF
  have o6 := o.1.2
  rcases hs with h0 | ⟨h1, c, ld, lv, cnt, G, e1, e2, e3, e4, hS, hG, hL⟩
  · exact br_t h0 (br_t h0 ⟨rfl, rl_in hF⟩)
  · have n0 : ¬ f_solved = 0 := by rw [h1]; decide
    have c15 := sm_RL15 o hS.1.1
    subst e1 e2 e3 e4
    refine br_f n0 ?_
    by_cases z1 : v1 < 0
    · exact br_t z1 (br_f n0 (br_t z1 ⟨rfl, rl_in hF⟩))
    · refine br_f z1 ?_
      by_cases z2 : v1 < ((1 : Int32) <<< (nI c &&& 31))
      · refine br_t z2 ?_
        refine Exists.intro (c + 1) (xm_2 o hS (fun g => br_f (by decide) ?_) (fun g => br_t rfl ?_) (c + 1) 0 (by omega) (by omega) (fun s r hs' => by omega))
        · refine br_f n0 (br_f z1 (br_t z2 ⟨c + 1, ?_⟩))
          exact ym_28 o hG hL hS.1.1 (fun _ => ⟨rfl, rl_in (w := w) ⟨o, hl, hr, hwt, hw, Or.inr ⟨h1, c, ld, lv, cnt, G, rfl, rfl, rfl, rfl, hS, hG, hL⟩⟩⟩) (fun z => absurd g z) (c + 1) 0 (by omega) (by omega) (fun s r hs' => by omega)
        · refine br_f n0 (br_f z1 (br_t z2 ⟨c + 1, ?_⟩))
          exact ym_28 o hG hL hS.1.1 (fun z => absurd z g) (fun _ => ⟨rfl, rl_in hF⟩) (c + 1) 0 (by omega) (by omega) (fun s r hs' => by omega)
      · exact br_f z2 (br_f n0 (br_f z1 (br_f z2 ⟨rfl, rl_in hF⟩)))
theorem i_vc_add {k : Nat} {u : SX} {v : SY} (I : i_Rel k u v) (hk : k + 4 ≤ 2051) (v1 : Int32) : wpX_add (fun r u' => wpY_add (fun r' v' => r' = r ∧ i_Rel (k + 4) u' v') v v1) u v1 := by
  refine rl_el (P := fun u v => wpX_add (fun r u' => wpY_add (fun r' v' => r' = r ∧ i_Rel (k + 4) u' v') v v1) u v1) I ?_
  intro m w f_solved f_shownSet f_rotationCount f_source f_sink f_nodes f_unlimited f_greatestFlow a_list a_rank a_weights a_top a_bar a_leave a_ideal a_filter a_row a_residual a_parent a_queue g_count g_rotationCount g_shownSet b_match b_found b_leadP b_leadK hF
  obtain ⟨o, hl, hr, hwt, hw, hs⟩ := id hF
  have o6 := o.1.2
  rcases hs with h0 | ⟨h1, c, ld, lv, cnt, G, e1, e2, e3, e4, hS, hG, hL⟩
  · exact br_t h0 (br_t h0 ⟨rfl, rl_in hF⟩)
  · have n0 : ¬ f_solved = 0 := by rw [h1]; decide
    have c15 := sm_RL15 o hS.1.1
    subst e1 e2 e3 e4
    refine br_f n0 ?_
    by_cases g1 : pr_ix c v1
    · obtain ⟨r, hrc, er⟩ := g1
      subst er
      refine xz_t c15 hrc (br_f (by decide) ⟨pk_in r 15 (by omega), nm_e ?_⟩)
      refine br_f n0 ?_
      refine yn_t c15 hrc (br_t rfl ⟨c + 1, ?_⟩)
      refine ya_22 o hG hL hS.1.1 hrc (sh0 := f_shownSet) (fun sh hsh => ?_) (c + 1) 0 f_shownSet (by omega) (by omega) (fun i hi => ⟨Or.inl, fun z => z.elim id (fun y => by omega)⟩)
      have e : sh = f_shownSet ||| a_ideal (nI r).toNatClampNeg := b_ext fun i hi => by
        rw [nI_clamp (by omega), b_or]
        have a := hsh i hi
        have b := hS.2.2.1 r i hrc hi
        cases h2 : bt f_shownSet i
        · cases h3 : bt (a_ideal r) i
          · refine Bool.eq_false_iff.mpr fun z => ?_
            rcases a.mp z with y | y
            · rw [h2] at y; exact Bool.noConfusion y
            · rw [b.mpr y] at h3; exact Bool.noConfusion h3
          · exact a.mpr (Or.inr (b.mp h3))
        · rw [a.mpr (Or.inl h2)]; rfl
      subst e
      exact ⟨rfl, rl_in (w := w) ⟨o, hl, hr, hwt, hw, Or.inr ⟨h1, c, ld, lv, cnt, G, rfl, rfl, rfl, rfl, hS, hG, hL⟩⟩⟩
    · refine xz_f c15 g1 (br_t rfl ?_)
      refine br_f n0 ?_
      exact yn_f c15 g1 (br_f (by decide) ⟨rfl, rl_in hF⟩)
theorem i_vc_drop {k : Nat} {u : SX} {v : SY} (I : i_Rel k u v) (hk : k + 4 ≤ 2051) (v1 : Int32) : wpX_drop (fun r u' => wpY_drop (fun r' v' => r' = r ∧ i_Rel (k + 4) u' v') v v1) u v1 := by
  refine rl_el (P := fun u v => wpX_drop (fun r u' => wpY_drop (fun r' v' => r' = r ∧ i_Rel (k + 4) u' v') v v1) u v1) I ?_
  intro m w f_solved f_shownSet f_rotationCount f_source f_sink f_nodes f_unlimited f_greatestFlow a_list a_rank a_weights a_top a_bar a_leave a_ideal a_filter a_row a_residual a_parent a_queue g_count g_rotationCount g_shownSet b_match b_found b_leadP b_leadK hF
  obtain ⟨o, hl, hr, hwt, hw, hs⟩ := id hF
  have o6 := o.1.2
  rcases hs with h0 | ⟨h1, c, ld, lv, cnt, G, e1, e2, e3, e4, hS, hG, hL⟩
  · exact br_t h0 (br_t h0 ⟨rfl, rl_in hF⟩)
  · have n0 : ¬ f_solved = 0 := by rw [h1]; decide
    have c15 := sm_RL15 o hS.1.1
    subst e1 e2 e3 e4
    refine br_f n0 ?_
    by_cases g1 : pr_ix c v1
    · obtain ⟨r, hrc, er⟩ := g1
      subst er
      refine xz_t c15 hrc (br_f (by decide) ⟨pk_in r 15 (by omega), nm_e ?_⟩)
      refine br_f n0 ?_
      refine yn_t c15 hrc (br_t rfl ⟨c + 1, ?_⟩)
      refine yd_22 o hG hL hS.1.1 hrc (sh0 := f_shownSet) (fun sh hsh => ?_) (c + 1) 0 f_shownSet (by omega) (by omega) (fun i hi => ⟨fun z => ⟨z, fun y => by omega⟩, fun z => z.1⟩)
      have e : sh = f_shownSet &&& (a_filter (nI r).toNatClampNeg ^^^ (-1)) := b_ext fun i hi => by
        rw [nI_clamp (by omega), b_and, b_xor, b_m1 i hi]
        have a := hsh i hi
        have b := hS.2.2.2 r i hrc hi
        cases h2 : bt f_shownSet i
        · refine Bool.eq_false_iff.mpr fun z => ?_
          rw [(a.mp z).1] at h2; exact Bool.noConfusion h2
        · cases h3 : bt (a_filter r) i
          · refine a.mpr ⟨h2, fun y => ?_⟩
            rw [b.mpr y] at h3; exact Bool.noConfusion h3
          · exact Bool.eq_false_iff.mpr fun z => (a.mp z).2 (b.mp h3)
      subst e
      exact ⟨rfl, rl_in (w := w) ⟨o, hl, hr, hwt, hw, Or.inr ⟨h1, c, ld, lv, cnt, G, rfl, rfl, rfl, rfl, hS, hG, hL⟩⟩⟩
    · refine xz_f c15 g1 (br_t rfl ?_)
      refine br_f n0 ?_
      exact yn_f c15 g1 (br_f (by decide) ⟨rfl, rl_in hF⟩)
theorem i_vc_optimum {k : Nat} {u : SX} {v : SY} (I : i_Rel k u v) (hk : k + 4 ≤ 2051) : wpX_optimum (fun r u' => wpY_optimum (fun r' v' => r' = r ∧ i_Rel (k + 4) u' v') v) u := by
  refine rl_el (P := fun u v => wpX_optimum (fun r u' => wpY_optimum (fun r' v' => r' = r ∧ i_Rel (k + 4) u' v') v) u) I ?_
  intro m w f_solved f_shownSet f_rotationCount f_source f_sink f_nodes f_unlimited f_greatestFlow a_list a_rank a_weights a_top a_bar a_leave a_ideal a_filter a_row a_residual a_parent a_queue g_count g_rotationCount g_shownSet b_match b_found b_leadP b_leadK hF
  obtain ⟨o, hl, hr, hwt, hw, hs⟩ := id hF
  have o6 := o.1.2
  rcases hs with h0 | ⟨h1, c, ld, lv, cnt, G, e1, e2, e3, e4, hS, hG, hL⟩
  · exact br_t h0 (br_t h0 ⟨rfl, rl_in hF⟩)
  · subst e1 e2 e3 e4
    refine xg_o o hl hr hwt hw hS h1 (fun sh res par que hsh => ?_)
    refine yq_o o hl hwt hw hG hL hS.1.1 h1 (fun b sh' mt hb hbest hsh' => ?_)
    have e : sh' = sh := b_ext fun i hi => by
      have a := hsh cnt b G hG.1 hb hbest i hi
      have a' := hsh' i hi
      cases h2 : bt sh i
      · refine Bool.eq_false_iff.mpr fun z => ?_
        rw [a.mpr (a'.mp z)] at h2; exact Bool.noConfusion h2
      · exact a'.mpr (a.mp h2)
    subst e
    exact ⟨rfl, rl_in (w := w) ⟨o, hl, hr, hwt, hw, Or.inr ⟨h1, c, ld, lv, cnt, G, rfl, rfl, rfl, rfl, hS, hG, hL⟩⟩⟩
theorem i_vc_partner {k : Nat} {u : SX} {v : SY} (I : i_Rel k u v) (hk : k + 4 ≤ 2051) (v1 : Int32) (v2 : Int32) : wpX_partner (fun r => wpY_partner (fun r' v' => r' = r ∧ i_Rel (k + 4) u v') v v1 v2) u v1 v2 := by
  refine rl_el (P := fun u v => wpX_partner (fun r => wpY_partner (fun r' v' => r' = r ∧ i_Rel (k + 4) u v') v v1 v2) u v1 v2) I ?_
  intro m w f_solved f_shownSet f_rotationCount f_source f_sink f_nodes f_unlimited f_greatestFlow a_list a_rank a_weights a_top a_bar a_leave a_ideal a_filter a_row a_residual a_parent a_queue g_count g_rotationCount g_shownSet b_match b_found b_leadP b_leadK hF
  obtain ⟨o, hl, hr, hwt, hw, hs⟩ := id hF
  have o6 := o.1.2
  rcases hs with h0 | ⟨h1, c, ld, lv, cnt, G, e1, e2, e3, e4, hS, hG, hL⟩
  · exact br_t h0 (br_t h0 ⟨rfl, rl_in hF⟩)
  · have n0 : ¬ f_solved = 0 := by rw [h1]; decide
    have c15 := sm_RL15 o hS.1.1
    subst e1 e2 e3 e4
    refine br_f n0 ?_
    by_cases g : pr_ps m.1 v1 v2
    · obtain ⟨s, x, hs2, hx, es, ex⟩ := g
      subst es ex
      have RS := sr_RS o hS.1.1 f_shownSet
      refine xp_t o hs2 hx (br_f (by decide) ?_)
      refine pk_eq s 0 (fun y => ?_) (fun y => ?_)
      · refine xh_a o hl hS hx ?_
        refine br_f n0 ?_
        refine yb_t o hs2 hx (br_t rfl ?_)
        refine yd_l o hG hL hS.1.1 (fun mt hm => br_t (by rw [y]; rfl) ?_)
        exact yh_h o hl hm RS.1 hx ⟨rfl, rl_in hF⟩
      · obtain ⟨p, hp, ep⟩ := sm_sur o RS hx
        refine xh_p o hl hS hp ?_ (by rw [ep])
        refine br_f n0 ?_
        refine yb_t o hs2 hx (br_t rfl ?_)
        refine yd_l o hG hL hS.1.1 (fun mt hm => br_f (nI_ne0 (by omega) (by omega)) ⟨m.1 + 1, ?_⟩)
        have a := yp_37 (m := m) (g_count := nI cnt) (g_rotationCount := nI c) (g_shownSet := f_shownSet) (g_solved := f_solved) (b_lists := a_list) (b_weights := a_weights) (b_match := mt) (b_found := b_found) (b_leadP := b_leadP) (b_leadK := b_leadK) o hl hm RS hp (post := fun r' v' => r' = nI p ∧ i_Rel (k + 4) ((nI m.1), f_solved, f_shownSet, (nI c), f_source, f_sink, f_nodes, f_unlimited, f_greatestFlow, a_list, a_rank, a_weights, a_top, a_bar, a_leave, a_ideal, a_filter, a_row, a_residual, a_parent, a_queue) v') ⟨rfl, rl_in hF⟩ (m.1 + 1) 0 (by omega) (by omega)
        rw [ep] at a
        exact a
    · refine xp_f o g (br_t rfl ?_)
      refine br_f n0 ?_
      exact yb_f o g (br_f (by decide) ⟨rfl, rl_in hF⟩)
theorem i_vc_total {k : Nat} {u : SX} {v : SY} (I : i_Rel k u v) (hk : k + 4 ≤ 2051) : wpX_total (fun r => wpY_total (fun r' v' => r' = r ∧ i_Rel (k + 4) u v') v) u := by
  refine rl_el (P := fun u v => wpX_total (fun r => wpY_total (fun r' v' => r' = r ∧ i_Rel (k + 4) u v') v) u) I ?_
  intro m w f_solved f_shownSet f_rotationCount f_source f_sink f_nodes f_unlimited f_greatestFlow a_list a_rank a_weights a_top a_bar a_leave a_ideal a_filter a_row a_residual a_parent a_queue g_count g_rotationCount g_shownSet b_match b_found b_leadP b_leadK hF
  obtain ⟨o, hl, hr, hwt, hw, hs⟩ := id hF
  have o6 := o.1.2
  rcases hs with h0 | ⟨h1, c, ld, lv, cnt, G, e1, e2, e3, e4, hS, hG, hL⟩
  · exact br_t h0 (br_t h0 ⟨rfl, rl_in hF⟩)
  · have n0 : ¬ f_solved = 0 := by rw [h1]; decide
    have c15 := sm_RL15 o hS.1.1
    subst e1 e2 e3 e4
    have RS := sr_RS o hS.1.1 f_shownSet
    refine br_f n0 ⟨m.1 + 1, ?_⟩
    refine xh_t o hl hr hwt hS ?_ (m.1 + 1) 0 (by omega) (by omega)
    refine br_f n0 ?_
    refine yd_l o hG hL hS.1.1 (fun mt hm => ?_)
    exact ye_t o hl hwt hm RS.1 ⟨rfl, rl_in hF⟩
end
