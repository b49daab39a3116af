section
/-! pure rows to paste: stores, nI and lN arithmetic, masks, shifts, narrowing, branches by naturals (pk_le, pk_lt, pk_eq), loops (lp1 .. lp16: the measure of the state; rp1 ..: recursion), negatives. Take what you need -/
theorem pk_us {f : Nat → Int32} {k : Nat} {x : Int32} : upd f k x k = x := if_pos rfl
theorem pk_un {f : Nat → Int32} {k j : Nat} {x : Int32} (h : j ≠ k) : upd f k x j = f j := if_neg h
theorem pk_uLs {f : Nat → Int64} {k : Nat} {x : Int64} : vp_updL f k x k = x := if_pos rfl
theorem pk_uLn {f : Nat → Int64} {k j : Nat} {x : Int64} (h : j ≠ k) : vp_updL f k x j = f j := if_neg h
theorem pk_sub {a b : Nat} (h : b ≤ a) : nI a - nI b = nI (a - b) := by
  obtain ⟨c, rfl⟩ : ∃ c, a = c + b := ⟨a - b, by omega⟩
  rw [← nI_add, Int32.add_sub_cancel, Nat.add_sub_cancel]
theorem pk_m1 (n : Nat) : nI (n + 1) + (-1) = nI n := by
  rw [← nI_1, Int32.add_assoc, show (1 : Int32) + (-1) = 0 from rfl, Int32.add_zero]
theorem pk_mul (a b : Nat) : nI a * nI b = nI (a * b) := (Int32.ofNat_mul a b).symm
theorem pk_div {a d : Nat} (ha : a < 2 ^ 31) (h0 : 0 < d) (hd : d < 2 ^ 31) : nI a / nI d = nI (a / d) := by
  apply Int32.toInt_inj.mp
  rw [lg_idiv_nonneg (by rw [nI_toInt ha]; omega) (by rw [nI_toInt hd]; omega), nI_toInt ha, nI_toInt hd, nI_toInt (Nat.lt_of_le_of_lt (Nat.div_le_self a d) ha)]
  first | rfl | exact (Int.natCast_ediv _ _).symm
theorem pk_rem {a d : Nat} (ha : a < 2 ^ 31) (h0 : 0 < d) (hd : d < 2 ^ 31) : nI a - nI a / nI d * nI d = nI (a % d) := by
  rw [pk_div ha h0 hd, pk_mul, pk_sub (Nat.div_mul_le_self a d)]
  exact congrArg nI (by have := Nat.div_add_mod' a d; omega)
theorem pk_sub_toInt {a b : Nat} (ha : a < 2 ^ 30) (hb : b < 2 ^ 30) : (nI a - nI b).toInt = (a : Int) - b := by
  rw [Int32.toInt_sub, nI_toInt (by omega), nI_toInt (by omega)]
  exact Int.bmod_eq_of_le (by omega) (by omega)
theorem pk_sneg {a b : Nat} (hb : b < 2 ^ 30) (h : a < b) : nI a - nI b < 0 := by
  rw [Int32.lt_iff_toInt_lt, pk_sub_toInt (by omega) hb, show (0 : Int32).toInt = 0 from by decide]
  omega
theorem pk_ix (x : Int32) {n : Nat} (hn : n < 2 ^ 31) : x < 0 ∨ nI n ≤ x ∨ ∃ j : Nat, j < n ∧ x = nI j := by
  by_cases h : x < 0
  · exact Or.inl h
  · obtain ⟨j, hj, rfl⟩ := nI_of h
    by_cases h2 : j < n
    · exact Or.inr (Or.inr ⟨j, h2, rfl⟩)
    · exact Or.inr (Or.inl (nI_le (by omega) hj))
theorem pk_le {x y : Int32} {A B : Prop} (a b : Nat) (f : a ≤ b → A) (g : b < a → B) (hx : x = nI a := by rfl) (hy : y = nI b := by rfl) (ha : a < 2 ^ 31 := by omega) (hb : b < 2 ^ 31 := by omega) : (x ≤ y → A) ∧ (¬ x ≤ y → B) := by
  subst hx hy
  rw [nI_leI ha hb]
  exact ⟨f, fun z => g (by omega)⟩
theorem pk_lt {x y : Int32} {A B : Prop} (a b : Nat) (f : a < b → A) (g : b ≤ a → B) (hx : x = nI a := by rfl) (hy : y = nI b := by rfl) (ha : a < 2 ^ 31 := by omega) (hb : b < 2 ^ 31 := by omega) : (x < y → A) ∧ (¬ x < y → B) := by
  subst hx hy
  rw [nI_ltI ha hb]
  exact ⟨f, fun z => g (by omega)⟩
theorem pk_eq {x y : Int32} {A B : Prop} (a b : Nat) (f : a = b → A) (g : a ≠ b → B) (hx : x = nI a := by rfl) (hy : y = nI b := by rfl) (ha : a < 2 ^ 31 := by omega) (hb : b < 2 ^ 31 := by omega) : (x = y → A) ∧ (¬ x = y → B) := by
  subst hx hy
  rw [nI_eq ha hb]
  exact ⟨f, g⟩
theorem pk_in {x : Int32} (n N : Nat) (h : n < N) (hx : x = nI n := by rfl) (hN : N < 2 ^ 31 := by omega) : vp_in x N := by
  subst hx
  exact vp_in_nI h hN
theorem pk_cl {x : Int32} (n : Nat) (hx : x = nI n := by rfl) (h : n < 2 ^ 31 := by omega) : x.toNatClampNeg = n := by
  subst hx
  exact nI_clamp h
theorem pk_tn {n : Nat} (h : n < 2 ^ 32) : (nI n).toBitVec.toNat = n := Nat.mod_eq_of_lt h
theorem pk_and (x : Int32) {m : Int32} (k : Nat) (hm : m.toBitVec.toNat = 2 ^ k - 1) : x &&& m = nI (x.toBitVec.toNat % 2 ^ k) := by
  apply Int32.toBitVec_inj.mp
  apply BitVec.eq_of_toNat_eq
  rw [Int32.toBitVec_and, BitVec.toNat_and, hm, Nat.and_two_pow_sub_one_eq_mod]
  show _ = (BitVec.ofNat 32 _).toNat
  rw [BitVec.toNat_ofNat]
  exact (Nat.mod_eq_of_lt (Nat.lt_of_le_of_lt (Nat.mod_le _ _) x.toBitVec.isLt)).symm
theorem pk_andN {n : Nat} (h : n < 2 ^ 32) {m : Int32} (k : Nat) (hm : m.toBitVec.toNat = 2 ^ k - 1) : nI n &&& m = nI (n % 2 ^ k) := by
  rw [pk_and _ k hm, pk_tn h]
theorem pk_andE (x : Int32) {m : Int32} (k : Nat) (hm : m.toBitVec.toNat = 2 ^ k - 1) : ∃ j : Nat, j < 2 ^ k ∧ x &&& m = nI j := ⟨_, Nat.mod_lt _ (Nat.two_pow_pos k), pk_and x k hm⟩
theorem pk_andIn (x : Int32) {m : Int32} (k : Nat) (hm : m.toBitVec.toNat = 2 ^ k - 1) (hk : k ≤ 30) : vp_in (x &&& m) (2 ^ k) := by
  obtain ⟨j, hj, e⟩ := pk_andE x k hm
  rw [e]
  exact vp_in_nI hj (Nat.lt_of_le_of_lt (Nat.pow_le_pow_right (by decide) hk) (by decide))
theorem pk_shl (a s : Int32) (k : Nat) (hs : (s.toBitVec.smod 32).toNat = k) : (a <<< s).toBitVec.toNat = a.toBitVec.toNat * 2 ^ k % 2 ^ 32 := by
  show (a.toBitVec <<< (s.toBitVec.smod 32).toNat).toNat = _
  rw [hs, BitVec.toNat_shiftLeft, Nat.shiftLeft_eq]
theorem pk_shlN {n : Nat} (s : Int32) (k : Nat) (hs : (s.toBitVec.smod 32).toNat = k) (h : n * 2 ^ k < 2 ^ 32) : nI n <<< s = nI (n * 2 ^ k) := by
  apply Int32.toBitVec_inj.mp
  apply BitVec.eq_of_toNat_eq
  have hn : n < 2 ^ 32 := Nat.lt_of_le_of_lt (Nat.le_mul_of_pos_right n (Nat.two_pow_pos k)) h
  rw [pk_shl _ _ k hs, pk_tn hn, pk_tn h, Nat.mod_eq_of_lt h]
theorem pk_shr (a s : Int32) (k : Nat) (hs : (s.toBitVec.smod 32).toNat = k) : (a >>> s).toInt = a.toInt >>> k := by
  show (a.toBitVec.sshiftRight (s.toBitVec.smod 32).toNat).toInt = _
  rw [hs, BitVec.toInt_sshiftRight]
  rfl
theorem pk_shrN {n : Nat} (h : n < 2 ^ 31) (s : Int32) (k : Nat) (hs : (s.toBitVec.smod 32).toNat = k) : nI n >>> s = nI (n / 2 ^ k) := by
  apply Int32.toInt_inj.mp
  have h2 : n / 2 ^ k ≤ n := Nat.div_le_self _ _
  rw [pk_shr _ _ k hs, nI_toInt h, nI_toInt (by omega), Int.shiftRight_eq_div_pow]
  rfl
theorem pk_ushr (x s : Int32) (k : Nat) (hs : ((s.toUInt32 &&& Int32.toUInt32 31).toBitVec % 32).toNat = k) : (x.toUInt32 >>> (s.toUInt32 &&& Int32.toUInt32 31)).toInt32.toBitVec.toNat = x.toBitVec.toNat / 2 ^ k := by
  have e : (x.toUInt32 >>> (s.toUInt32 &&& Int32.toUInt32 31)).toInt32.toBitVec = x.toBitVec >>> k := by
    rw [← hs]
    exact UInt32.toBitVec_shiftRight _ _
  rw [e, BitVec.toNat_ushiftRight, Nat.shiftRight_eq_div_pow]
theorem pk_ushrN {n : Nat} (hn : n < 2 ^ 32) (s : Int32) (k : Nat) (hs : ((s.toUInt32 &&& Int32.toUInt32 31).toBitVec % 32).toNat = k) : ((nI n).toUInt32 >>> (s.toUInt32 &&& Int32.toUInt32 31)).toInt32 = nI (n / 2 ^ k) := by
  apply Int32.toBitVec_inj.mp
  apply BitVec.eq_of_toNat_eq
  rw [pk_ushr _ s k hs, pk_tn hn, pk_tn (Nat.lt_of_le_of_lt (Nat.div_le_self _ _) hn)]
theorem pk_nb (z : Int32) : narrow .byte (.int z.toInt8.toInt32) = .int z.toInt8.toInt32 := congrArg Value.int (by simp)
theorem pk_ns (z : Int32) : narrow .short (.int z.toInt16.toInt32) = .int z.toInt16.toInt32 := congrArg Value.int (by simp)
theorem pk_fb (r : Int32) : fits .byte (.int r.toInt8.toInt32) = true := by
  have ⟨a, b⟩ := lg_i2b_range r
  have h1 : (-128 : Int32).toInt = -128 := by decide
  have h2 : (127 : Int32).toInt = 127 := by decide
  simp only [fits, Bool.and_eq_true, decide_eq_true_eq, Int32.le_iff_toInt_le, h1, h2]
  omega
theorem pk_fs (r : Int32) : fits .short (.int r.toInt16.toInt32) = true := by
  have ⟨a, b⟩ := lg_i2s_range r
  have h1 : (-32768 : Int32).toInt = -32768 := by decide
  have h2 : (32767 : Int32).toInt = 32767 := by decide
  simp only [fits, Bool.and_eq_true, decide_eq_true_eq, Int32.le_iff_toInt_le, h1, h2]
  omega
theorem pk_charN {q : Nat} (hq : q < 65536) : narrow .char (.int (nI q)) = .int (nI q) ∧ fits .char (.int (nI q)) = true := by
  constructor
  · have e : (nI q).toUInt32.toUInt16.toUInt32.toInt32 = nI q := by
      apply Int32.toBitVec_inj.mp
      apply BitVec.eq_of_toNat_eq
      show (nI q).toUInt32.toUInt16.toUInt32.toNat = q % 2 ^ 32
      rw [UInt16.toNat_toUInt32, UInt32.toNat_toUInt16, show (nI q).toUInt32.toNat = q % 2 ^ 32 from rfl]
      omega
    exact congrArg Value.int e
  · have a : (0 : Int32) ≤ nI q := nI_pos' (by omega)
    have b : nI q ≤ 65535 := nI_le (b := 65535) (by omega) (by decide)
    show (decide ((0 : Int32) ≤ nI q) && decide (nI q ≤ 65535)) = true
    rw [decide_eq_true a, decide_eq_true b]
    rfl
theorem pk_char (x : Int32) : (x.toUInt32 % 65536).toInt32 = nI (x.toBitVec.toNat % 65536) := by
  apply Int32.toBitVec_inj.mp
  apply BitVec.eq_of_toNat_eq
  rw [pk_tn (by omega)]
  show (x.toUInt32 % 65536).toNat = _
  rw [UInt32.toNat_mod]
  rfl
theorem pk_nc (x : Int32) : narrow .char (.int (x.toUInt32 % 65536).toInt32) = .int (x.toUInt32 % 65536).toInt32 := by
  rw [pk_char]
  exact (pk_charN (Nat.mod_lt _ (by decide))).1
theorem pk_fc (x : Int32) : fits .char (.int (x.toUInt32 % 65536).toInt32) = true := by
  rw [pk_char]
  exact (pk_charN (Nat.mod_lt _ (by decide))).2
theorem pk_vb (z : Int32) : vp_nar .byte z.toInt8.toInt32 = z.toInt8.toInt32 := by rw [vp_nar_byte]; simp
theorem pk_vs (z : Int32) : vp_nar .short z.toInt16.toInt32 = z.toInt16.toInt32 := by rw [vp_nar_short]; simp
theorem pk_vc (z : Int32) : vp_nar .char (z.toUInt32 % 65536).toInt32 = (z.toUInt32 % 65536).toInt32 := Value.int.inj (pk_nc z)
theorem pk_lT {n : Nat} (h : n < 2 ^ 63) : (lN n).toInt = (n : Int) := lg_ofNat_toInt h
theorem pk_lLT {a b : Nat} (ha : a < 2 ^ 63) (hb : b < 2 ^ 63) : lN a < lN b ↔ a < b := by
  rw [Int64.lt_iff_toInt_lt, pk_lT ha, pk_lT hb]; omega
theorem pk_lLE {a b : Nat} (ha : a < 2 ^ 63) (hb : b < 2 ^ 63) : lN a ≤ lN b ↔ a ≤ b := by
  rw [Int64.le_iff_toInt_le, pk_lT ha, pk_lT hb]; omega
theorem pk_lEQ {a b : Nat} (ha : a < 2 ^ 63) (hb : b < 2 ^ 63) : lN a = lN b ↔ a = b := by
  rw [← Int64.toInt_inj, pk_lT ha, pk_lT hb]; omega
theorem pk_lOf {x : Int64} (h : ¬ x < 0) : ∃ k : Nat, k < 2 ^ 63 ∧ x = lN k := by
  rw [Int64.lt_iff_toInt_lt] at h
  have h0 : (0 : Int64).toInt = 0 := by decide
  have hx := Int64.toInt_lt x
  refine ⟨x.toInt.toNat, by omega, Int64.toInt_inj.mp ?_⟩
  rw [pk_lT (by omega)]
  omega
theorem pk_lDiv {a b : Nat} (ha : a < 2 ^ 63) (h0 : 0 < b) (hb : b < 2 ^ 63) : lN a / lN b = lN (a / b) := by
  apply Int64.toInt_inj.mp
  rw [lg_ldiv_nonneg (by rw [pk_lT ha]; omega) (by rw [pk_lT hb]; omega), pk_lT ha, pk_lT hb, pk_lT (Nat.lt_of_le_of_lt (Nat.div_le_self a b) ha)]
  rfl
theorem pk_lRem {a b : Nat} (ha : a < 2 ^ 63) (h0 : 0 < b) (hb : b < 2 ^ 63) : lN a - lN a / lN b * lN b = lN (a % b) := by
  rw [pk_lDiv ha h0 hb, lN_mul, lN_sub (Nat.div_mul_le_self a b)]
  exact congrArg lN (by have := Nat.div_add_mod' a b; omega)
theorem pk_loop {σ : Type} (W : Nat → Nat → σ → Prop) (I : Nat → σ → Prop) (e i0 : Nat) (s : σ) (hi : i0 ≤ e) (h0 : I i0 s) (hx : ∀ n s, I e s → W (n + 1) e s)
    (hs : ∀ n i s, i < e → I i s → (∀ s', I (i + 1) s' → W n (i + 1) s') → W (n + 1) i s) : ∃ n, W n i0 s :=
  ⟨e + 1, loop_i W I e hx hs (e + 1) i0 s hi (by omega) h0⟩
theorem pk_loopD {σ : Type} (W : Nat → Nat → σ → Prop) (I : Nat → σ → Prop) (hx : ∀ n s, I 0 s → W (n + 1) 0 s)
    (hs : ∀ n i s, I (i + 1) s → (∀ s', I i s' → W n i s') → W (n + 1) (i + 1) s) : ∀ (e : Nat) (s : σ), I e s → W (e + 1) e s := by
  intro e
  induction e with
  | zero => exact fun s h => hx 0 s h
  | succ e ih => exact fun s h => hs (e + 1) e s h (fun s' h' => ih s' h')
theorem lp1 {A1 : Type} (W : Nat → A1 → Prop) (I : A1 → Prop) (μ : A1 → Nat) (hs : ∀ (n : Nat) (a1 : A1), I a1 → (∀ (b1 : A1), I b1 → μ b1 < μ a1 → W n b1) → W (n + 1) a1) (a1 : A1) (h : I a1) : ∃ n, W n a1 :=
  loop_m (σ := A1) (fun n s => W n s) (fun s => I s) (fun s => μ s) (fun n s hI hk => hs n s hI (fun b1 h9 hm => hk b1 h9 hm)) a1 h
theorem lp2 {A1 A2 : Type} (W : Nat → A1 → A2 → Prop) (I : A1 → A2 → Prop) (μ : A1 → A2 → Nat) (hs : ∀ (n : Nat) (a1 : A1) (a2 : A2), I a1 a2 → (∀ (b1 : A1) (b2 : A2), I b1 b2 → μ b1 b2 < μ a1 a2 → W n b1 b2) → W (n + 1) a1 a2) (a1 : A1) (a2 : A2) (h : I a1 a2) : ∃ n, W n a1 a2 :=
  loop_m (σ := A1 × A2) (fun n s => W n s.1 s.2) (fun s => I s.1 s.2) (fun s => μ s.1 s.2) (fun n s hI hk => hs n s.1 s.2 hI (fun b1 b2 h9 hm => hk (b1, b2) h9 hm)) (a1, a2) h
theorem lp3 {A1 A2 A3 : Type} (W : Nat → A1 → A2 → A3 → Prop) (I : A1 → A2 → A3 → Prop) (μ : A1 → A2 → A3 → Nat) (hs : ∀ (n : Nat) (a1 : A1) (a2 : A2) (a3 : A3), I a1 a2 a3 → (∀ (b1 : A1) (b2 : A2) (b3 : A3), I b1 b2 b3 → μ b1 b2 b3 < μ a1 a2 a3 → W n b1 b2 b3) → W (n + 1) a1 a2 a3) (a1 : A1) (a2 : A2) (a3 : A3) (h : I a1 a2 a3) : ∃ n, W n a1 a2 a3 :=
  loop_m (σ := A1 × A2 × A3) (fun n s => W n s.1 s.2.1 s.2.2) (fun s => I s.1 s.2.1 s.2.2) (fun s => μ s.1 s.2.1 s.2.2) (fun n s hI hk => hs n s.1 s.2.1 s.2.2 hI (fun b1 b2 b3 h9 hm => hk (b1, b2, b3) h9 hm)) (a1, a2, a3) h
theorem lp4 {A1 A2 A3 A4 : Type} (W : Nat → A1 → A2 → A3 → A4 → Prop) (I : A1 → A2 → A3 → A4 → Prop) (μ : A1 → A2 → A3 → A4 → Nat) (hs : ∀ (n : Nat) (a1 : A1) (a2 : A2) (a3 : A3) (a4 : A4), I a1 a2 a3 a4 → (∀ (b1 : A1) (b2 : A2) (b3 : A3) (b4 : A4), I b1 b2 b3 b4 → μ b1 b2 b3 b4 < μ a1 a2 a3 a4 → W n b1 b2 b3 b4) → W (n + 1) a1 a2 a3 a4) (a1 : A1) (a2 : A2) (a3 : A3) (a4 : A4) (h : I a1 a2 a3 a4) : ∃ n, W n a1 a2 a3 a4 :=
  loop_m (σ := A1 × A2 × A3 × A4) (fun n s => W n s.1 s.2.1 s.2.2.1 s.2.2.2) (fun s => I s.1 s.2.1 s.2.2.1 s.2.2.2) (fun s => μ s.1 s.2.1 s.2.2.1 s.2.2.2) (fun n s hI hk => hs n s.1 s.2.1 s.2.2.1 s.2.2.2 hI (fun b1 b2 b3 b4 h9 hm => hk (b1, b2, b3, b4) h9 hm)) (a1, a2, a3, a4) h
theorem lp5 {A1 A2 A3 A4 A5 : Type} (W : Nat → A1 → A2 → A3 → A4 → A5 → Prop) (I : A1 → A2 → A3 → A4 → A5 → Prop) (μ : A1 → A2 → A3 → A4 → A5 → Nat) (hs : ∀ (n : Nat) (a1 : A1) (a2 : A2) (a3 : A3) (a4 : A4) (a5 : A5), I a1 a2 a3 a4 a5 → (∀ (b1 : A1) (b2 : A2) (b3 : A3) (b4 : A4) (b5 : A5), I b1 b2 b3 b4 b5 → μ b1 b2 b3 b4 b5 < μ a1 a2 a3 a4 a5 → W n b1 b2 b3 b4 b5) → W (n + 1) a1 a2 a3 a4 a5) (a1 : A1) (a2 : A2) (a3 : A3) (a4 : A4) (a5 : A5) (h : I a1 a2 a3 a4 a5) : ∃ n, W n a1 a2 a3 a4 a5 :=
  loop_m (σ := A1 × A2 × A3 × A4 × A5) (fun n s => W n s.1 s.2.1 s.2.2.1 s.2.2.2.1 s.2.2.2.2) (fun s => I s.1 s.2.1 s.2.2.1 s.2.2.2.1 s.2.2.2.2) (fun s => μ s.1 s.2.1 s.2.2.1 s.2.2.2.1 s.2.2.2.2) (fun n s hI hk => hs n s.1 s.2.1 s.2.2.1 s.2.2.2.1 s.2.2.2.2 hI (fun b1 b2 b3 b4 b5 h9 hm => hk (b1, b2, b3, b4, b5) h9 hm)) (a1, a2, a3, a4, a5) h
theorem lp6 {A1 A2 A3 A4 A5 A6 : Type} (W : Nat → A1 → A2 → A3 → A4 → A5 → A6 → Prop) (I : A1 → A2 → A3 → A4 → A5 → A6 → Prop) (μ : A1 → A2 → A3 → A4 → A5 → A6 → Nat) (hs : ∀ (n : Nat) (a1 : A1) (a2 : A2) (a3 : A3) (a4 : A4) (a5 : A5) (a6 : A6), I a1 a2 a3 a4 a5 a6 → (∀ (b1 : A1) (b2 : A2) (b3 : A3) (b4 : A4) (b5 : A5) (b6 : A6), I b1 b2 b3 b4 b5 b6 → μ b1 b2 b3 b4 b5 b6 < μ a1 a2 a3 a4 a5 a6 → W n b1 b2 b3 b4 b5 b6) → W (n + 1) a1 a2 a3 a4 a5 a6) (a1 : A1) (a2 : A2) (a3 : A3) (a4 : A4) (a5 : A5) (a6 : A6) (h : I a1 a2 a3 a4 a5 a6) : ∃ n, W n a1 a2 a3 a4 a5 a6 :=
  loop_m (σ := A1 × A2 × A3 × A4 × A5 × A6) (fun n s => W n s.1 s.2.1 s.2.2.1 s.2.2.2.1 s.2.2.2.2.1 s.2.2.2.2.2) (fun s => I s.1 s.2.1 s.2.2.1 s.2.2.2.1 s.2.2.2.2.1 s.2.2.2.2.2) (fun s => μ s.1 s.2.1 s.2.2.1 s.2.2.2.1 s.2.2.2.2.1 s.2.2.2.2.2) (fun n s hI hk => hs n s.1 s.2.1 s.2.2.1 s.2.2.2.1 s.2.2.2.2.1 s.2.2.2.2.2 hI (fun b1 b2 b3 b4 b5 b6 h9 hm => hk (b1, b2, b3, b4, b5, b6) h9 hm)) (a1, a2, a3, a4, a5, a6) h
theorem lp7 {A1 A2 A3 A4 A5 A6 A7 : Type} (W : Nat → A1 → A2 → A3 → A4 → A5 → A6 → A7 → Prop) (I : A1 → A2 → A3 → A4 → A5 → A6 → A7 → Prop) (μ : A1 → A2 → A3 → A4 → A5 → A6 → A7 → Nat) (hs : ∀ (n : Nat) (a1 : A1) (a2 : A2) (a3 : A3) (a4 : A4) (a5 : A5) (a6 : A6) (a7 : A7), I a1 a2 a3 a4 a5 a6 a7 → (∀ (b1 : A1) (b2 : A2) (b3 : A3) (b4 : A4) (b5 : A5) (b6 : A6) (b7 : A7), I b1 b2 b3 b4 b5 b6 b7 → μ b1 b2 b3 b4 b5 b6 b7 < μ a1 a2 a3 a4 a5 a6 a7 → W n b1 b2 b3 b4 b5 b6 b7) → W (n + 1) a1 a2 a3 a4 a5 a6 a7) (a1 : A1) (a2 : A2) (a3 : A3) (a4 : A4) (a5 : A5) (a6 : A6) (a7 : A7) (h : I a1 a2 a3 a4 a5 a6 a7) : ∃ n, W n a1 a2 a3 a4 a5 a6 a7 :=
  loop_m (σ := A1 × A2 × A3 × A4 × A5 × A6 × A7) (fun n s => W n s.1 s.2.1 s.2.2.1 s.2.2.2.1 s.2.2.2.2.1 s.2.2.2.2.2.1 s.2.2.2.2.2.2) (fun s => I s.1 s.2.1 s.2.2.1 s.2.2.2.1 s.2.2.2.2.1 s.2.2.2.2.2.1 s.2.2.2.2.2.2) (fun s => μ s.1 s.2.1 s.2.2.1 s.2.2.2.1 s.2.2.2.2.1 s.2.2.2.2.2.1 s.2.2.2.2.2.2) (fun n s hI hk => hs n s.1 s.2.1 s.2.2.1 s.2.2.2.1 s.2.2.2.2.1 s.2.2.2.2.2.1 s.2.2.2.2.2.2 hI (fun b1 b2 b3 b4 b5 b6 b7 h9 hm => hk (b1, b2, b3, b4, b5, b6, b7) h9 hm)) (a1, a2, a3, a4, a5, a6, a7) h
theorem lp8 {A1 A2 A3 A4 A5 A6 A7 A8 : Type} (W : Nat → A1 → A2 → A3 → A4 → A5 → A6 → A7 → A8 → Prop) (I : A1 → A2 → A3 → A4 → A5 → A6 → A7 → A8 → Prop) (μ : A1 → A2 → A3 → A4 → A5 → A6 → A7 → A8 → Nat) (hs : ∀ (n : Nat) (a1 : A1) (a2 : A2) (a3 : A3) (a4 : A4) (a5 : A5) (a6 : A6) (a7 : A7) (a8 : A8), I a1 a2 a3 a4 a5 a6 a7 a8 → (∀ (b1 : A1) (b2 : A2) (b3 : A3) (b4 : A4) (b5 : A5) (b6 : A6) (b7 : A7) (b8 : A8), I b1 b2 b3 b4 b5 b6 b7 b8 → μ b1 b2 b3 b4 b5 b6 b7 b8 < μ a1 a2 a3 a4 a5 a6 a7 a8 → W n b1 b2 b3 b4 b5 b6 b7 b8) → W (n + 1) a1 a2 a3 a4 a5 a6 a7 a8) (a1 : A1) (a2 : A2) (a3 : A3) (a4 : A4) (a5 : A5) (a6 : A6) (a7 : A7) (a8 : A8) (h : I a1 a2 a3 a4 a5 a6 a7 a8) : ∃ n, W n a1 a2 a3 a4 a5 a6 a7 a8 :=
  loop_m (σ := A1 × A2 × A3 × A4 × A5 × A6 × A7 × A8) (fun n s => W n s.1 s.2.1 s.2.2.1 s.2.2.2.1 s.2.2.2.2.1 s.2.2.2.2.2.1 s.2.2.2.2.2.2.1 s.2.2.2.2.2.2.2) (fun s => I s.1 s.2.1 s.2.2.1 s.2.2.2.1 s.2.2.2.2.1 s.2.2.2.2.2.1 s.2.2.2.2.2.2.1 s.2.2.2.2.2.2.2) (fun s => μ s.1 s.2.1 s.2.2.1 s.2.2.2.1 s.2.2.2.2.1 s.2.2.2.2.2.1 s.2.2.2.2.2.2.1 s.2.2.2.2.2.2.2) (fun n s hI hk => hs n s.1 s.2.1 s.2.2.1 s.2.2.2.1 s.2.2.2.2.1 s.2.2.2.2.2.1 s.2.2.2.2.2.2.1 s.2.2.2.2.2.2.2 hI (fun b1 b2 b3 b4 b5 b6 b7 b8 h9 hm => hk (b1, b2, b3, b4, b5, b6, b7, b8) h9 hm)) (a1, a2, a3, a4, a5, a6, a7, a8) h
theorem lp9 {A1 A2 A3 A4 A5 A6 A7 A8 A9 : Type} (W : Nat → A1 → A2 → A3 → A4 → A5 → A6 → A7 → A8 → A9 → Prop) (I : A1 → A2 → A3 → A4 → A5 → A6 → A7 → A8 → A9 → Prop) (μ : A1 → A2 → A3 → A4 → A5 → A6 → A7 → A8 → A9 → Nat) (hs : ∀ (n : Nat) (a1 : A1) (a2 : A2) (a3 : A3) (a4 : A4) (a5 : A5) (a6 : A6) (a7 : A7) (a8 : A8) (a9 : A9), I a1 a2 a3 a4 a5 a6 a7 a8 a9 → (∀ (b1 : A1) (b2 : A2) (b3 : A3) (b4 : A4) (b5 : A5) (b6 : A6) (b7 : A7) (b8 : A8) (b9 : A9), I b1 b2 b3 b4 b5 b6 b7 b8 b9 → μ b1 b2 b3 b4 b5 b6 b7 b8 b9 < μ a1 a2 a3 a4 a5 a6 a7 a8 a9 → W n b1 b2 b3 b4 b5 b6 b7 b8 b9) → W (n + 1) a1 a2 a3 a4 a5 a6 a7 a8 a9) (a1 : A1) (a2 : A2) (a3 : A3) (a4 : A4) (a5 : A5) (a6 : A6) (a7 : A7) (a8 : A8) (a9 : A9) (h : I a1 a2 a3 a4 a5 a6 a7 a8 a9) : ∃ n, W n a1 a2 a3 a4 a5 a6 a7 a8 a9 :=
  loop_m (σ := A1 × A2 × A3 × A4 × A5 × A6 × A7 × A8 × A9) (fun n s => W n s.1 s.2.1 s.2.2.1 s.2.2.2.1 s.2.2.2.2.1 s.2.2.2.2.2.1 s.2.2.2.2.2.2.1 s.2.2.2.2.2.2.2.1 s.2.2.2.2.2.2.2.2) (fun s => I s.1 s.2.1 s.2.2.1 s.2.2.2.1 s.2.2.2.2.1 s.2.2.2.2.2.1 s.2.2.2.2.2.2.1 s.2.2.2.2.2.2.2.1 s.2.2.2.2.2.2.2.2) (fun s => μ s.1 s.2.1 s.2.2.1 s.2.2.2.1 s.2.2.2.2.1 s.2.2.2.2.2.1 s.2.2.2.2.2.2.1 s.2.2.2.2.2.2.2.1 s.2.2.2.2.2.2.2.2) (fun n s hI hk => hs n s.1 s.2.1 s.2.2.1 s.2.2.2.1 s.2.2.2.2.1 s.2.2.2.2.2.1 s.2.2.2.2.2.2.1 s.2.2.2.2.2.2.2.1 s.2.2.2.2.2.2.2.2 hI (fun b1 b2 b3 b4 b5 b6 b7 b8 b9 h9 hm => hk (b1, b2, b3, b4, b5, b6, b7, b8, b9) h9 hm)) (a1, a2, a3, a4, a5, a6, a7, a8, a9) h
theorem lp10 {A1 A2 A3 A4 A5 A6 A7 A8 A9 A10 : Type} (W : Nat → A1 → A2 → A3 → A4 → A5 → A6 → A7 → A8 → A9 → A10 → Prop) (I : A1 → A2 → A3 → A4 → A5 → A6 → A7 → A8 → A9 → A10 → Prop) (μ : A1 → A2 → A3 → A4 → A5 → A6 → A7 → A8 → A9 → A10 → Nat) (hs : ∀ (n : Nat) (a1 : A1) (a2 : A2) (a3 : A3) (a4 : A4) (a5 : A5) (a6 : A6) (a7 : A7) (a8 : A8) (a9 : A9) (a10 : A10), I a1 a2 a3 a4 a5 a6 a7 a8 a9 a10 → (∀ (b1 : A1) (b2 : A2) (b3 : A3) (b4 : A4) (b5 : A5) (b6 : A6) (b7 : A7) (b8 : A8) (b9 : A9) (b10 : A10), I b1 b2 b3 b4 b5 b6 b7 b8 b9 b10 → μ b1 b2 b3 b4 b5 b6 b7 b8 b9 b10 < μ a1 a2 a3 a4 a5 a6 a7 a8 a9 a10 → W n b1 b2 b3 b4 b5 b6 b7 b8 b9 b10) → W (n + 1) a1 a2 a3 a4 a5 a6 a7 a8 a9 a10) (a1 : A1) (a2 : A2) (a3 : A3) (a4 : A4) (a5 : A5) (a6 : A6) (a7 : A7) (a8 : A8) (a9 : A9) (a10 : A10) (h : I a1 a2 a3 a4 a5 a6 a7 a8 a9 a10) : ∃ n, W n a1 a2 a3 a4 a5 a6 a7 a8 a9 a10 :=
  loop_m (σ := A1 × A2 × A3 × A4 × A5 × A6 × A7 × A8 × A9 × A10) (fun n s => W n s.1 s.2.1 s.2.2.1 s.2.2.2.1 s.2.2.2.2.1 s.2.2.2.2.2.1 s.2.2.2.2.2.2.1 s.2.2.2.2.2.2.2.1 s.2.2.2.2.2.2.2.2.1 s.2.2.2.2.2.2.2.2.2) (fun s => I s.1 s.2.1 s.2.2.1 s.2.2.2.1 s.2.2.2.2.1 s.2.2.2.2.2.1 s.2.2.2.2.2.2.1 s.2.2.2.2.2.2.2.1 s.2.2.2.2.2.2.2.2.1 s.2.2.2.2.2.2.2.2.2) (fun s => μ s.1 s.2.1 s.2.2.1 s.2.2.2.1 s.2.2.2.2.1 s.2.2.2.2.2.1 s.2.2.2.2.2.2.1 s.2.2.2.2.2.2.2.1 s.2.2.2.2.2.2.2.2.1 s.2.2.2.2.2.2.2.2.2) (fun n s hI hk => hs n s.1 s.2.1 s.2.2.1 s.2.2.2.1 s.2.2.2.2.1 s.2.2.2.2.2.1 s.2.2.2.2.2.2.1 s.2.2.2.2.2.2.2.1 s.2.2.2.2.2.2.2.2.1 s.2.2.2.2.2.2.2.2.2 hI (fun b1 b2 b3 b4 b5 b6 b7 b8 b9 b10 h9 hm => hk (b1, b2, b3, b4, b5, b6, b7, b8, b9, b10) h9 hm)) (a1, a2, a3, a4, a5, a6, a7, a8, a9, a10) h
theorem lp11 {A1 A2 A3 A4 A5 A6 A7 A8 A9 A10 A11 : Type} (W : Nat → A1 → A2 → A3 → A4 → A5 → A6 → A7 → A8 → A9 → A10 → A11 → Prop) (I : A1 → A2 → A3 → A4 → A5 → A6 → A7 → A8 → A9 → A10 → A11 → Prop) (μ : A1 → A2 → A3 → A4 → A5 → A6 → A7 → A8 → A9 → A10 → A11 → Nat) (hs : ∀ (n : Nat) (a1 : A1) (a2 : A2) (a3 : A3) (a4 : A4) (a5 : A5) (a6 : A6) (a7 : A7) (a8 : A8) (a9 : A9) (a10 : A10) (a11 : A11), I a1 a2 a3 a4 a5 a6 a7 a8 a9 a10 a11 → (∀ (b1 : A1) (b2 : A2) (b3 : A3) (b4 : A4) (b5 : A5) (b6 : A6) (b7 : A7) (b8 : A8) (b9 : A9) (b10 : A10) (b11 : A11), I b1 b2 b3 b4 b5 b6 b7 b8 b9 b10 b11 → μ b1 b2 b3 b4 b5 b6 b7 b8 b9 b10 b11 < μ a1 a2 a3 a4 a5 a6 a7 a8 a9 a10 a11 → W n b1 b2 b3 b4 b5 b6 b7 b8 b9 b10 b11) → W (n + 1) a1 a2 a3 a4 a5 a6 a7 a8 a9 a10 a11) (a1 : A1) (a2 : A2) (a3 : A3) (a4 : A4) (a5 : A5) (a6 : A6) (a7 : A7) (a8 : A8) (a9 : A9) (a10 : A10) (a11 : A11) (h : I a1 a2 a3 a4 a5 a6 a7 a8 a9 a10 a11) : ∃ n, W n a1 a2 a3 a4 a5 a6 a7 a8 a9 a10 a11 :=
  loop_m (σ := A1 × A2 × A3 × A4 × A5 × A6 × A7 × A8 × A9 × A10 × A11) (fun n s => W n s.1 s.2.1 s.2.2.1 s.2.2.2.1 s.2.2.2.2.1 s.2.2.2.2.2.1 s.2.2.2.2.2.2.1 s.2.2.2.2.2.2.2.1 s.2.2.2.2.2.2.2.2.1 s.2.2.2.2.2.2.2.2.2.1 s.2.2.2.2.2.2.2.2.2.2) (fun s => I s.1 s.2.1 s.2.2.1 s.2.2.2.1 s.2.2.2.2.1 s.2.2.2.2.2.1 s.2.2.2.2.2.2.1 s.2.2.2.2.2.2.2.1 s.2.2.2.2.2.2.2.2.1 s.2.2.2.2.2.2.2.2.2.1 s.2.2.2.2.2.2.2.2.2.2) (fun s => μ s.1 s.2.1 s.2.2.1 s.2.2.2.1 s.2.2.2.2.1 s.2.2.2.2.2.1 s.2.2.2.2.2.2.1 s.2.2.2.2.2.2.2.1 s.2.2.2.2.2.2.2.2.1 s.2.2.2.2.2.2.2.2.2.1 s.2.2.2.2.2.2.2.2.2.2) (fun n s hI hk => hs n s.1 s.2.1 s.2.2.1 s.2.2.2.1 s.2.2.2.2.1 s.2.2.2.2.2.1 s.2.2.2.2.2.2.1 s.2.2.2.2.2.2.2.1 s.2.2.2.2.2.2.2.2.1 s.2.2.2.2.2.2.2.2.2.1 s.2.2.2.2.2.2.2.2.2.2 hI (fun b1 b2 b3 b4 b5 b6 b7 b8 b9 b10 b11 h9 hm => hk (b1, b2, b3, b4, b5, b6, b7, b8, b9, b10, b11) h9 hm)) (a1, a2, a3, a4, a5, a6, a7, a8, a9, a10, a11) h
theorem lp12 {A1 A2 A3 A4 A5 A6 A7 A8 A9 A10 A11 A12 : Type} (W : Nat → A1 → A2 → A3 → A4 → A5 → A6 → A7 → A8 → A9 → A10 → A11 → A12 → Prop) (I : A1 → A2 → A3 → A4 → A5 → A6 → A7 → A8 → A9 → A10 → A11 → A12 → Prop) (μ : A1 → A2 → A3 → A4 → A5 → A6 → A7 → A8 → A9 → A10 → A11 → A12 → Nat) (hs : ∀ (n : Nat) (a1 : A1) (a2 : A2) (a3 : A3) (a4 : A4) (a5 : A5) (a6 : A6) (a7 : A7) (a8 : A8) (a9 : A9) (a10 : A10) (a11 : A11) (a12 : A12), I a1 a2 a3 a4 a5 a6 a7 a8 a9 a10 a11 a12 → (∀ (b1 : A1) (b2 : A2) (b3 : A3) (b4 : A4) (b5 : A5) (b6 : A6) (b7 : A7) (b8 : A8) (b9 : A9) (b10 : A10) (b11 : A11) (b12 : A12), I b1 b2 b3 b4 b5 b6 b7 b8 b9 b10 b11 b12 → μ b1 b2 b3 b4 b5 b6 b7 b8 b9 b10 b11 b12 < μ a1 a2 a3 a4 a5 a6 a7 a8 a9 a10 a11 a12 → W n b1 b2 b3 b4 b5 b6 b7 b8 b9 b10 b11 b12) → W (n + 1) a1 a2 a3 a4 a5 a6 a7 a8 a9 a10 a11 a12) (a1 : A1) (a2 : A2) (a3 : A3) (a4 : A4) (a5 : A5) (a6 : A6) (a7 : A7) (a8 : A8) (a9 : A9) (a10 : A10) (a11 : A11) (a12 : A12) (h : I a1 a2 a3 a4 a5 a6 a7 a8 a9 a10 a11 a12) : ∃ n, W n a1 a2 a3 a4 a5 a6 a7 a8 a9 a10 a11 a12 :=
  loop_m (σ := A1 × A2 × A3 × A4 × A5 × A6 × A7 × A8 × A9 × A10 × A11 × A12) (fun n s => W n s.1 s.2.1 s.2.2.1 s.2.2.2.1 s.2.2.2.2.1 s.2.2.2.2.2.1 s.2.2.2.2.2.2.1 s.2.2.2.2.2.2.2.1 s.2.2.2.2.2.2.2.2.1 s.2.2.2.2.2.2.2.2.2.1 s.2.2.2.2.2.2.2.2.2.2.1 s.2.2.2.2.2.2.2.2.2.2.2) (fun s => I s.1 s.2.1 s.2.2.1 s.2.2.2.1 s.2.2.2.2.1 s.2.2.2.2.2.1 s.2.2.2.2.2.2.1 s.2.2.2.2.2.2.2.1 s.2.2.2.2.2.2.2.2.1 s.2.2.2.2.2.2.2.2.2.1 s.2.2.2.2.2.2.2.2.2.2.1 s.2.2.2.2.2.2.2.2.2.2.2) (fun s => μ s.1 s.2.1 s.2.2.1 s.2.2.2.1 s.2.2.2.2.1 s.2.2.2.2.2.1 s.2.2.2.2.2.2.1 s.2.2.2.2.2.2.2.1 s.2.2.2.2.2.2.2.2.1 s.2.2.2.2.2.2.2.2.2.1 s.2.2.2.2.2.2.2.2.2.2.1 s.2.2.2.2.2.2.2.2.2.2.2) (fun n s hI hk => hs n s.1 s.2.1 s.2.2.1 s.2.2.2.1 s.2.2.2.2.1 s.2.2.2.2.2.1 s.2.2.2.2.2.2.1 s.2.2.2.2.2.2.2.1 s.2.2.2.2.2.2.2.2.1 s.2.2.2.2.2.2.2.2.2.1 s.2.2.2.2.2.2.2.2.2.2.1 s.2.2.2.2.2.2.2.2.2.2.2 hI (fun b1 b2 b3 b4 b5 b6 b7 b8 b9 b10 b11 b12 h9 hm => hk (b1, b2, b3, b4, b5, b6, b7, b8, b9, b10, b11, b12) h9 hm)) (a1, a2, a3, a4, a5, a6, a7, a8, a9, a10, a11, a12) h
theorem lp13 {A1 A2 A3 A4 A5 A6 A7 A8 A9 A10 A11 A12 A13 : Type} (W : Nat → A1 → A2 → A3 → A4 → A5 → A6 → A7 → A8 → A9 → A10 → A11 → A12 → A13 → Prop) (I : A1 → A2 → A3 → A4 → A5 → A6 → A7 → A8 → A9 → A10 → A11 → A12 → A13 → Prop) (μ : A1 → A2 → A3 → A4 → A5 → A6 → A7 → A8 → A9 → A10 → A11 → A12 → A13 → Nat) (hs : ∀ (n : Nat) (a1 : A1) (a2 : A2) (a3 : A3) (a4 : A4) (a5 : A5) (a6 : A6) (a7 : A7) (a8 : A8) (a9 : A9) (a10 : A10) (a11 : A11) (a12 : A12) (a13 : A13), I a1 a2 a3 a4 a5 a6 a7 a8 a9 a10 a11 a12 a13 → (∀ (b1 : A1) (b2 : A2) (b3 : A3) (b4 : A4) (b5 : A5) (b6 : A6) (b7 : A7) (b8 : A8) (b9 : A9) (b10 : A10) (b11 : A11) (b12 : A12) (b13 : A13), I b1 b2 b3 b4 b5 b6 b7 b8 b9 b10 b11 b12 b13 → μ b1 b2 b3 b4 b5 b6 b7 b8 b9 b10 b11 b12 b13 < μ a1 a2 a3 a4 a5 a6 a7 a8 a9 a10 a11 a12 a13 → W n b1 b2 b3 b4 b5 b6 b7 b8 b9 b10 b11 b12 b13) → W (n + 1) a1 a2 a3 a4 a5 a6 a7 a8 a9 a10 a11 a12 a13) (a1 : A1) (a2 : A2) (a3 : A3) (a4 : A4) (a5 : A5) (a6 : A6) (a7 : A7) (a8 : A8) (a9 : A9) (a10 : A10) (a11 : A11) (a12 : A12) (a13 : A13) (h : I a1 a2 a3 a4 a5 a6 a7 a8 a9 a10 a11 a12 a13) : ∃ n, W n a1 a2 a3 a4 a5 a6 a7 a8 a9 a10 a11 a12 a13 :=
  loop_m (σ := A1 × A2 × A3 × A4 × A5 × A6 × A7 × A8 × A9 × A10 × A11 × A12 × A13) (fun n s => W n s.1 s.2.1 s.2.2.1 s.2.2.2.1 s.2.2.2.2.1 s.2.2.2.2.2.1 s.2.2.2.2.2.2.1 s.2.2.2.2.2.2.2.1 s.2.2.2.2.2.2.2.2.1 s.2.2.2.2.2.2.2.2.2.1 s.2.2.2.2.2.2.2.2.2.2.1 s.2.2.2.2.2.2.2.2.2.2.2.1 s.2.2.2.2.2.2.2.2.2.2.2.2) (fun s => I s.1 s.2.1 s.2.2.1 s.2.2.2.1 s.2.2.2.2.1 s.2.2.2.2.2.1 s.2.2.2.2.2.2.1 s.2.2.2.2.2.2.2.1 s.2.2.2.2.2.2.2.2.1 s.2.2.2.2.2.2.2.2.2.1 s.2.2.2.2.2.2.2.2.2.2.1 s.2.2.2.2.2.2.2.2.2.2.2.1 s.2.2.2.2.2.2.2.2.2.2.2.2) (fun s => μ s.1 s.2.1 s.2.2.1 s.2.2.2.1 s.2.2.2.2.1 s.2.2.2.2.2.1 s.2.2.2.2.2.2.1 s.2.2.2.2.2.2.2.1 s.2.2.2.2.2.2.2.2.1 s.2.2.2.2.2.2.2.2.2.1 s.2.2.2.2.2.2.2.2.2.2.1 s.2.2.2.2.2.2.2.2.2.2.2.1 s.2.2.2.2.2.2.2.2.2.2.2.2) (fun n s hI hk => hs n s.1 s.2.1 s.2.2.1 s.2.2.2.1 s.2.2.2.2.1 s.2.2.2.2.2.1 s.2.2.2.2.2.2.1 s.2.2.2.2.2.2.2.1 s.2.2.2.2.2.2.2.2.1 s.2.2.2.2.2.2.2.2.2.1 s.2.2.2.2.2.2.2.2.2.2.1 s.2.2.2.2.2.2.2.2.2.2.2.1 s.2.2.2.2.2.2.2.2.2.2.2.2 hI (fun b1 b2 b3 b4 b5 b6 b7 b8 b9 b10 b11 b12 b13 h9 hm => hk (b1, b2, b3, b4, b5, b6, b7, b8, b9, b10, b11, b12, b13) h9 hm)) (a1, a2, a3, a4, a5, a6, a7, a8, a9, a10, a11, a12, a13) h
theorem lp14 {A1 A2 A3 A4 A5 A6 A7 A8 A9 A10 A11 A12 A13 A14 : Type} (W : Nat → A1 → A2 → A3 → A4 → A5 → A6 → A7 → A8 → A9 → A10 → A11 → A12 → A13 → A14 → Prop) (I : A1 → A2 → A3 → A4 → A5 → A6 → A7 → A8 → A9 → A10 → A11 → A12 → A13 → A14 → Prop) (μ : A1 → A2 → A3 → A4 → A5 → A6 → A7 → A8 → A9 → A10 → A11 → A12 → A13 → A14 → Nat) (hs : ∀ (n : Nat) (a1 : A1) (a2 : A2) (a3 : A3) (a4 : A4) (a5 : A5) (a6 : A6) (a7 : A7) (a8 : A8) (a9 : A9) (a10 : A10) (a11 : A11) (a12 : A12) (a13 : A13) (a14 : A14), I a1 a2 a3 a4 a5 a6 a7 a8 a9 a10 a11 a12 a13 a14 → (∀ (b1 : A1) (b2 : A2) (b3 : A3) (b4 : A4) (b5 : A5) (b6 : A6) (b7 : A7) (b8 : A8) (b9 : A9) (b10 : A10) (b11 : A11) (b12 : A12) (b13 : A13) (b14 : A14), I b1 b2 b3 b4 b5 b6 b7 b8 b9 b10 b11 b12 b13 b14 → μ b1 b2 b3 b4 b5 b6 b7 b8 b9 b10 b11 b12 b13 b14 < μ a1 a2 a3 a4 a5 a6 a7 a8 a9 a10 a11 a12 a13 a14 → W n b1 b2 b3 b4 b5 b6 b7 b8 b9 b10 b11 b12 b13 b14) → W (n + 1) a1 a2 a3 a4 a5 a6 a7 a8 a9 a10 a11 a12 a13 a14) (a1 : A1) (a2 : A2) (a3 : A3) (a4 : A4) (a5 : A5) (a6 : A6) (a7 : A7) (a8 : A8) (a9 : A9) (a10 : A10) (a11 : A11) (a12 : A12) (a13 : A13) (a14 : A14) (h : I a1 a2 a3 a4 a5 a6 a7 a8 a9 a10 a11 a12 a13 a14) : ∃ n, W n a1 a2 a3 a4 a5 a6 a7 a8 a9 a10 a11 a12 a13 a14 :=
  loop_m (σ := A1 × A2 × A3 × A4 × A5 × A6 × A7 × A8 × A9 × A10 × A11 × A12 × A13 × A14) (fun n s => W n s.1 s.2.1 s.2.2.1 s.2.2.2.1 s.2.2.2.2.1 s.2.2.2.2.2.1 s.2.2.2.2.2.2.1 s.2.2.2.2.2.2.2.1 s.2.2.2.2.2.2.2.2.1 s.2.2.2.2.2.2.2.2.2.1 s.2.2.2.2.2.2.2.2.2.2.1 s.2.2.2.2.2.2.2.2.2.2.2.1 s.2.2.2.2.2.2.2.2.2.2.2.2.1 s.2.2.2.2.2.2.2.2.2.2.2.2.2) (fun s => I s.1 s.2.1 s.2.2.1 s.2.2.2.1 s.2.2.2.2.1 s.2.2.2.2.2.1 s.2.2.2.2.2.2.1 s.2.2.2.2.2.2.2.1 s.2.2.2.2.2.2.2.2.1 s.2.2.2.2.2.2.2.2.2.1 s.2.2.2.2.2.2.2.2.2.2.1 s.2.2.2.2.2.2.2.2.2.2.2.1 s.2.2.2.2.2.2.2.2.2.2.2.2.1 s.2.2.2.2.2.2.2.2.2.2.2.2.2) (fun s => μ s.1 s.2.1 s.2.2.1 s.2.2.2.1 s.2.2.2.2.1 s.2.2.2.2.2.1 s.2.2.2.2.2.2.1 s.2.2.2.2.2.2.2.1 s.2.2.2.2.2.2.2.2.1 s.2.2.2.2.2.2.2.2.2.1 s.2.2.2.2.2.2.2.2.2.2.1 s.2.2.2.2.2.2.2.2.2.2.2.1 s.2.2.2.2.2.2.2.2.2.2.2.2.1 s.2.2.2.2.2.2.2.2.2.2.2.2.2) (fun n s hI hk => hs n s.1 s.2.1 s.2.2.1 s.2.2.2.1 s.2.2.2.2.1 s.2.2.2.2.2.1 s.2.2.2.2.2.2.1 s.2.2.2.2.2.2.2.1 s.2.2.2.2.2.2.2.2.1 s.2.2.2.2.2.2.2.2.2.1 s.2.2.2.2.2.2.2.2.2.2.1 s.2.2.2.2.2.2.2.2.2.2.2.1 s.2.2.2.2.2.2.2.2.2.2.2.2.1 s.2.2.2.2.2.2.2.2.2.2.2.2.2 hI (fun b1 b2 b3 b4 b5 b6 b7 b8 b9 b10 b11 b12 b13 b14 h9 hm => hk (b1, b2, b3, b4, b5, b6, b7, b8, b9, b10, b11, b12, b13, b14) h9 hm)) (a1, a2, a3, a4, a5, a6, a7, a8, a9, a10, a11, a12, a13, a14) h
theorem lp15 {A1 A2 A3 A4 A5 A6 A7 A8 A9 A10 A11 A12 A13 A14 A15 : Type} (W : Nat → A1 → A2 → A3 → A4 → A5 → A6 → A7 → A8 → A9 → A10 → A11 → A12 → A13 → A14 → A15 → Prop) (I : A1 → A2 → A3 → A4 → A5 → A6 → A7 → A8 → A9 → A10 → A11 → A12 → A13 → A14 → A15 → Prop) (μ : A1 → A2 → A3 → A4 → A5 → A6 → A7 → A8 → A9 → A10 → A11 → A12 → A13 → A14 → A15 → Nat) (hs : ∀ (n : Nat) (a1 : A1) (a2 : A2) (a3 : A3) (a4 : A4) (a5 : A5) (a6 : A6) (a7 : A7) (a8 : A8) (a9 : A9) (a10 : A10) (a11 : A11) (a12 : A12) (a13 : A13) (a14 : A14) (a15 : A15), I a1 a2 a3 a4 a5 a6 a7 a8 a9 a10 a11 a12 a13 a14 a15 → (∀ (b1 : A1) (b2 : A2) (b3 : A3) (b4 : A4) (b5 : A5) (b6 : A6) (b7 : A7) (b8 : A8) (b9 : A9) (b10 : A10) (b11 : A11) (b12 : A12) (b13 : A13) (b14 : A14) (b15 : A15), I b1 b2 b3 b4 b5 b6 b7 b8 b9 b10 b11 b12 b13 b14 b15 → μ b1 b2 b3 b4 b5 b6 b7 b8 b9 b10 b11 b12 b13 b14 b15 < μ a1 a2 a3 a4 a5 a6 a7 a8 a9 a10 a11 a12 a13 a14 a15 → W n b1 b2 b3 b4 b5 b6 b7 b8 b9 b10 b11 b12 b13 b14 b15) → W (n + 1) a1 a2 a3 a4 a5 a6 a7 a8 a9 a10 a11 a12 a13 a14 a15) (a1 : A1) (a2 : A2) (a3 : A3) (a4 : A4) (a5 : A5) (a6 : A6) (a7 : A7) (a8 : A8) (a9 : A9) (a10 : A10) (a11 : A11) (a12 : A12) (a13 : A13) (a14 : A14) (a15 : A15) (h : I a1 a2 a3 a4 a5 a6 a7 a8 a9 a10 a11 a12 a13 a14 a15) : ∃ n, W n a1 a2 a3 a4 a5 a6 a7 a8 a9 a10 a11 a12 a13 a14 a15 :=
  loop_m (σ := A1 × A2 × A3 × A4 × A5 × A6 × A7 × A8 × A9 × A10 × A11 × A12 × A13 × A14 × A15) (fun n s => W n s.1 s.2.1 s.2.2.1 s.2.2.2.1 s.2.2.2.2.1 s.2.2.2.2.2.1 s.2.2.2.2.2.2.1 s.2.2.2.2.2.2.2.1 s.2.2.2.2.2.2.2.2.1 s.2.2.2.2.2.2.2.2.2.1 s.2.2.2.2.2.2.2.2.2.2.1 s.2.2.2.2.2.2.2.2.2.2.2.1 s.2.2.2.2.2.2.2.2.2.2.2.2.1 s.2.2.2.2.2.2.2.2.2.2.2.2.2.1 s.2.2.2.2.2.2.2.2.2.2.2.2.2.2) (fun s => I s.1 s.2.1 s.2.2.1 s.2.2.2.1 s.2.2.2.2.1 s.2.2.2.2.2.1 s.2.2.2.2.2.2.1 s.2.2.2.2.2.2.2.1 s.2.2.2.2.2.2.2.2.1 s.2.2.2.2.2.2.2.2.2.1 s.2.2.2.2.2.2.2.2.2.2.1 s.2.2.2.2.2.2.2.2.2.2.2.1 s.2.2.2.2.2.2.2.2.2.2.2.2.1 s.2.2.2.2.2.2.2.2.2.2.2.2.2.1 s.2.2.2.2.2.2.2.2.2.2.2.2.2.2) (fun s => μ s.1 s.2.1 s.2.2.1 s.2.2.2.1 s.2.2.2.2.1 s.2.2.2.2.2.1 s.2.2.2.2.2.2.1 s.2.2.2.2.2.2.2.1 s.2.2.2.2.2.2.2.2.1 s.2.2.2.2.2.2.2.2.2.1 s.2.2.2.2.2.2.2.2.2.2.1 s.2.2.2.2.2.2.2.2.2.2.2.1 s.2.2.2.2.2.2.2.2.2.2.2.2.1 s.2.2.2.2.2.2.2.2.2.2.2.2.2.1 s.2.2.2.2.2.2.2.2.2.2.2.2.2.2) (fun n s hI hk => hs n s.1 s.2.1 s.2.2.1 s.2.2.2.1 s.2.2.2.2.1 s.2.2.2.2.2.1 s.2.2.2.2.2.2.1 s.2.2.2.2.2.2.2.1 s.2.2.2.2.2.2.2.2.1 s.2.2.2.2.2.2.2.2.2.1 s.2.2.2.2.2.2.2.2.2.2.1 s.2.2.2.2.2.2.2.2.2.2.2.1 s.2.2.2.2.2.2.2.2.2.2.2.2.1 s.2.2.2.2.2.2.2.2.2.2.2.2.2.1 s.2.2.2.2.2.2.2.2.2.2.2.2.2.2 hI (fun b1 b2 b3 b4 b5 b6 b7 b8 b9 b10 b11 b12 b13 b14 b15 h9 hm => hk (b1, b2, b3, b4, b5, b6, b7, b8, b9, b10, b11, b12, b13, b14, b15) h9 hm)) (a1, a2, a3, a4, a5, a6, a7, a8, a9, a10, a11, a12, a13, a14, a15) h
theorem lp16 {A1 A2 A3 A4 A5 A6 A7 A8 A9 A10 A11 A12 A13 A14 A15 A16 : Type} (W : Nat → A1 → A2 → A3 → A4 → A5 → A6 → A7 → A8 → A9 → A10 → A11 → A12 → A13 → A14 → A15 → A16 → Prop) (I : A1 → A2 → A3 → A4 → A5 → A6 → A7 → A8 → A9 → A10 → A11 → A12 → A13 → A14 → A15 → A16 → Prop) (μ : A1 → A2 → A3 → A4 → A5 → A6 → A7 → A8 → A9 → A10 → A11 → A12 → A13 → A14 → A15 → A16 → Nat) (hs : ∀ (n : Nat) (a1 : A1) (a2 : A2) (a3 : A3) (a4 : A4) (a5 : A5) (a6 : A6) (a7 : A7) (a8 : A8) (a9 : A9) (a10 : A10) (a11 : A11) (a12 : A12) (a13 : A13) (a14 : A14) (a15 : A15) (a16 : A16), I a1 a2 a3 a4 a5 a6 a7 a8 a9 a10 a11 a12 a13 a14 a15 a16 → (∀ (b1 : A1) (b2 : A2) (b3 : A3) (b4 : A4) (b5 : A5) (b6 : A6) (b7 : A7) (b8 : A8) (b9 : A9) (b10 : A10) (b11 : A11) (b12 : A12) (b13 : A13) (b14 : A14) (b15 : A15) (b16 : A16), I b1 b2 b3 b4 b5 b6 b7 b8 b9 b10 b11 b12 b13 b14 b15 b16 → μ b1 b2 b3 b4 b5 b6 b7 b8 b9 b10 b11 b12 b13 b14 b15 b16 < μ a1 a2 a3 a4 a5 a6 a7 a8 a9 a10 a11 a12 a13 a14 a15 a16 → W n b1 b2 b3 b4 b5 b6 b7 b8 b9 b10 b11 b12 b13 b14 b15 b16) → W (n + 1) a1 a2 a3 a4 a5 a6 a7 a8 a9 a10 a11 a12 a13 a14 a15 a16) (a1 : A1) (a2 : A2) (a3 : A3) (a4 : A4) (a5 : A5) (a6 : A6) (a7 : A7) (a8 : A8) (a9 : A9) (a10 : A10) (a11 : A11) (a12 : A12) (a13 : A13) (a14 : A14) (a15 : A15) (a16 : A16) (h : I a1 a2 a3 a4 a5 a6 a7 a8 a9 a10 a11 a12 a13 a14 a15 a16) : ∃ n, W n a1 a2 a3 a4 a5 a6 a7 a8 a9 a10 a11 a12 a13 a14 a15 a16 :=
  loop_m (σ := A1 × A2 × A3 × A4 × A5 × A6 × A7 × A8 × A9 × A10 × A11 × A12 × A13 × A14 × A15 × A16) (fun n s => W n s.1 s.2.1 s.2.2.1 s.2.2.2.1 s.2.2.2.2.1 s.2.2.2.2.2.1 s.2.2.2.2.2.2.1 s.2.2.2.2.2.2.2.1 s.2.2.2.2.2.2.2.2.1 s.2.2.2.2.2.2.2.2.2.1 s.2.2.2.2.2.2.2.2.2.2.1 s.2.2.2.2.2.2.2.2.2.2.2.1 s.2.2.2.2.2.2.2.2.2.2.2.2.1 s.2.2.2.2.2.2.2.2.2.2.2.2.2.1 s.2.2.2.2.2.2.2.2.2.2.2.2.2.2.1 s.2.2.2.2.2.2.2.2.2.2.2.2.2.2.2) (fun s => I s.1 s.2.1 s.2.2.1 s.2.2.2.1 s.2.2.2.2.1 s.2.2.2.2.2.1 s.2.2.2.2.2.2.1 s.2.2.2.2.2.2.2.1 s.2.2.2.2.2.2.2.2.1 s.2.2.2.2.2.2.2.2.2.1 s.2.2.2.2.2.2.2.2.2.2.1 s.2.2.2.2.2.2.2.2.2.2.2.1 s.2.2.2.2.2.2.2.2.2.2.2.2.1 s.2.2.2.2.2.2.2.2.2.2.2.2.2.1 s.2.2.2.2.2.2.2.2.2.2.2.2.2.2.1 s.2.2.2.2.2.2.2.2.2.2.2.2.2.2.2) (fun s => μ s.1 s.2.1 s.2.2.1 s.2.2.2.1 s.2.2.2.2.1 s.2.2.2.2.2.1 s.2.2.2.2.2.2.1 s.2.2.2.2.2.2.2.1 s.2.2.2.2.2.2.2.2.1 s.2.2.2.2.2.2.2.2.2.1 s.2.2.2.2.2.2.2.2.2.2.1 s.2.2.2.2.2.2.2.2.2.2.2.1 s.2.2.2.2.2.2.2.2.2.2.2.2.1 s.2.2.2.2.2.2.2.2.2.2.2.2.2.1 s.2.2.2.2.2.2.2.2.2.2.2.2.2.2.1 s.2.2.2.2.2.2.2.2.2.2.2.2.2.2.2) (fun n s hI hk => hs n s.1 s.2.1 s.2.2.1 s.2.2.2.1 s.2.2.2.2.1 s.2.2.2.2.2.1 s.2.2.2.2.2.2.1 s.2.2.2.2.2.2.2.1 s.2.2.2.2.2.2.2.2.1 s.2.2.2.2.2.2.2.2.2.1 s.2.2.2.2.2.2.2.2.2.2.1 s.2.2.2.2.2.2.2.2.2.2.2.1 s.2.2.2.2.2.2.2.2.2.2.2.2.1 s.2.2.2.2.2.2.2.2.2.2.2.2.2.1 s.2.2.2.2.2.2.2.2.2.2.2.2.2.2.1 s.2.2.2.2.2.2.2.2.2.2.2.2.2.2.2 hI (fun b1 b2 b3 b4 b5 b6 b7 b8 b9 b10 b11 b12 b13 b14 b15 b16 h9 hm => hk (b1, b2, b3, b4, b5, b6, b7, b8, b9, b10, b11, b12, b13, b14, b15, b16) h9 hm)) (a1, a2, a3, a4, a5, a6, a7, a8, a9, a10, a11, a12, a13, a14, a15, a16) h
theorem pk_least (P : Nat → Prop) (h : ∃ k, P k) : ∃ k, P k ∧ ∀ j, j < k → ¬ P j := by
  obtain ⟨k, hk⟩ := h
  induction k using Nat.strongRecOn with
  | ind k ih =>
    by_cases e : ∃ j, j < k ∧ P j
    · obtain ⟨j, hj, pj⟩ := e
      exact ih j hj pj
    · exact ⟨k, hk, fun j hj pj => e ⟨j, hj, pj⟩⟩
theorem rp1 {ρ A1 : Type} (W : Nat → (ρ → Prop) → A1 → Prop) (ok : A1 → Prop) (μ : A1 → Nat) (val : A1 → ρ)
    (hs : ∀ (d : Nat) (post : ρ → Prop) (a1 : A1), ok a1 → post (val a1) → (∀ (post' : ρ → Prop) (b1 : A1), ok b1 → μ b1 < μ a1 → post' (val b1) → W d post' b1) → W (d + 1) post a1) :
    ∀ (d : Nat) (post : ρ → Prop) (a1 : A1), ok a1 → μ a1 < d → post (val a1) → W d post a1 := by
  intro d
  induction d with
  | zero => intro post a1 _ h; omega
  | succ d ih =>
    intro post a1 ho hm hp
    exact hs d post a1 ho hp (fun post' b1 ho' hm' hp' => ih post' b1 ho' (by omega) hp')
theorem rp2 {ρ A1 A2 : Type} (W : Nat → (ρ → Prop) → A1 → A2 → Prop) (ok : A1 → A2 → Prop) (μ : A1 → A2 → Nat) (val : A1 → A2 → ρ)
    (hs : ∀ (d : Nat) (post : ρ → Prop) (a1 : A1) (a2 : A2), ok a1 a2 → post (val a1 a2) → (∀ (post' : ρ → Prop) (b1 : A1) (b2 : A2), ok b1 b2 → μ b1 b2 < μ a1 a2 → post' (val b1 b2) → W d post' b1 b2) → W (d + 1) post a1 a2) :
    ∀ (d : Nat) (post : ρ → Prop) (a1 : A1) (a2 : A2), ok a1 a2 → μ a1 a2 < d → post (val a1 a2) → W d post a1 a2 := by
  intro d
  induction d with
  | zero => intro post a1 a2 _ h; omega
  | succ d ih =>
    intro post a1 a2 ho hm hp
    exact hs d post a1 a2 ho hp (fun post' b1 b2 ho' hm' hp' => ih post' b1 b2 ho' (by omega) hp')
theorem rp3 {ρ A1 A2 A3 : Type} (W : Nat → (ρ → Prop) → A1 → A2 → A3 → Prop) (ok : A1 → A2 → A3 → Prop) (μ : A1 → A2 → A3 → Nat) (val : A1 → A2 → A3 → ρ)
    (hs : ∀ (d : Nat) (post : ρ → Prop) (a1 : A1) (a2 : A2) (a3 : A3), ok a1 a2 a3 → post (val a1 a2 a3) → (∀ (post' : ρ → Prop) (b1 : A1) (b2 : A2) (b3 : A3), ok b1 b2 b3 → μ b1 b2 b3 < μ a1 a2 a3 → post' (val b1 b2 b3) → W d post' b1 b2 b3) → W (d + 1) post a1 a2 a3) :
    ∀ (d : Nat) (post : ρ → Prop) (a1 : A1) (a2 : A2) (a3 : A3), ok a1 a2 a3 → μ a1 a2 a3 < d → post (val a1 a2 a3) → W d post a1 a2 a3 := by
  intro d
  induction d with
  | zero => intro post a1 a2 a3 _ h; omega
  | succ d ih =>
    intro post a1 a2 a3 ho hm hp
    exact hs d post a1 a2 a3 ho hp (fun post' b1 b2 b3 ho' hm' hp' => ih post' b1 b2 b3 ho' (by omega) hp')
theorem rp4 {ρ A1 A2 A3 A4 : Type} (W : Nat → (ρ → Prop) → A1 → A2 → A3 → A4 → Prop) (ok : A1 → A2 → A3 → A4 → Prop) (μ : A1 → A2 → A3 → A4 → Nat) (val : A1 → A2 → A3 → A4 → ρ)
    (hs : ∀ (d : Nat) (post : ρ → Prop) (a1 : A1) (a2 : A2) (a3 : A3) (a4 : A4), ok a1 a2 a3 a4 → post (val a1 a2 a3 a4) → (∀ (post' : ρ → Prop) (b1 : A1) (b2 : A2) (b3 : A3) (b4 : A4), ok b1 b2 b3 b4 → μ b1 b2 b3 b4 < μ a1 a2 a3 a4 → post' (val b1 b2 b3 b4) → W d post' b1 b2 b3 b4) → W (d + 1) post a1 a2 a3 a4) :
    ∀ (d : Nat) (post : ρ → Prop) (a1 : A1) (a2 : A2) (a3 : A3) (a4 : A4), ok a1 a2 a3 a4 → μ a1 a2 a3 a4 < d → post (val a1 a2 a3 a4) → W d post a1 a2 a3 a4 := by
  intro d
  induction d with
  | zero => intro post a1 a2 a3 a4 _ h; omega
  | succ d ih =>
    intro post a1 a2 a3 a4 ho hm hp
    exact hs d post a1 a2 a3 a4 ho hp (fun post' b1 b2 b3 b4 ho' hm' hp' => ih post' b1 b2 b3 b4 ho' (by omega) hp')
theorem rp5 {ρ A1 A2 A3 A4 A5 : Type} (W : Nat → (ρ → Prop) → A1 → A2 → A3 → A4 → A5 → Prop) (ok : A1 → A2 → A3 → A4 → A5 → Prop) (μ : A1 → A2 → A3 → A4 → A5 → Nat) (val : A1 → A2 → A3 → A4 → A5 → ρ)
    (hs : ∀ (d : Nat) (post : ρ → Prop) (a1 : A1) (a2 : A2) (a3 : A3) (a4 : A4) (a5 : A5), ok a1 a2 a3 a4 a5 → post (val a1 a2 a3 a4 a5) → (∀ (post' : ρ → Prop) (b1 : A1) (b2 : A2) (b3 : A3) (b4 : A4) (b5 : A5), ok b1 b2 b3 b4 b5 → μ b1 b2 b3 b4 b5 < μ a1 a2 a3 a4 a5 → post' (val b1 b2 b3 b4 b5) → W d post' b1 b2 b3 b4 b5) → W (d + 1) post a1 a2 a3 a4 a5) :
    ∀ (d : Nat) (post : ρ → Prop) (a1 : A1) (a2 : A2) (a3 : A3) (a4 : A4) (a5 : A5), ok a1 a2 a3 a4 a5 → μ a1 a2 a3 a4 a5 < d → post (val a1 a2 a3 a4 a5) → W d post a1 a2 a3 a4 a5 := by
  intro d
  induction d with
  | zero => intro post a1 a2 a3 a4 a5 _ h; omega
  | succ d ih =>
    intro post a1 a2 a3 a4 a5 ho hm hp
    exact hs d post a1 a2 a3 a4 a5 ho hp (fun post' b1 b2 b3 b4 b5 ho' hm' hp' => ih post' b1 b2 b3 b4 b5 ho' (by omega) hp')
theorem rp6 {ρ A1 A2 A3 A4 A5 A6 : Type} (W : Nat → (ρ → Prop) → A1 → A2 → A3 → A4 → A5 → A6 → Prop) (ok : A1 → A2 → A3 → A4 → A5 → A6 → Prop) (μ : A1 → A2 → A3 → A4 → A5 → A6 → Nat) (val : A1 → A2 → A3 → A4 → A5 → A6 → ρ)
    (hs : ∀ (d : Nat) (post : ρ → Prop) (a1 : A1) (a2 : A2) (a3 : A3) (a4 : A4) (a5 : A5) (a6 : A6), ok a1 a2 a3 a4 a5 a6 → post (val a1 a2 a3 a4 a5 a6) → (∀ (post' : ρ → Prop) (b1 : A1) (b2 : A2) (b3 : A3) (b4 : A4) (b5 : A5) (b6 : A6), ok b1 b2 b3 b4 b5 b6 → μ b1 b2 b3 b4 b5 b6 < μ a1 a2 a3 a4 a5 a6 → post' (val b1 b2 b3 b4 b5 b6) → W d post' b1 b2 b3 b4 b5 b6) → W (d + 1) post a1 a2 a3 a4 a5 a6) :
    ∀ (d : Nat) (post : ρ → Prop) (a1 : A1) (a2 : A2) (a3 : A3) (a4 : A4) (a5 : A5) (a6 : A6), ok a1 a2 a3 a4 a5 a6 → μ a1 a2 a3 a4 a5 a6 < d → post (val a1 a2 a3 a4 a5 a6) → W d post a1 a2 a3 a4 a5 a6 := by
  intro d
  induction d with
  | zero => intro post a1 a2 a3 a4 a5 a6 _ h; omega
  | succ d ih =>
    intro post a1 a2 a3 a4 a5 a6 ho hm hp
    exact hs d post a1 a2 a3 a4 a5 a6 ho hp (fun post' b1 b2 b3 b4 b5 b6 ho' hm' hp' => ih post' b1 b2 b3 b4 b5 b6 ho' (by omega) hp')
theorem rec_p {σ ρ : Type} (W : Nat → (ρ → Prop) → σ → Prop) (ok : σ → Prop) (μ : σ → Nat) (val : σ → ρ)
    (hs : ∀ d s post, ok s → post (val s) → (∀ s' post', ok s' → μ s' < μ s → post' (val s') → W d post' s') → W (d + 1) post s) :
    ∀ d s post, ok s → μ s < d → post (val s) → W d post s := by
  intro d
  induction d with
  | zero => intro s post _ h; omega
  | succ d ih =>
    intro s post ho hm hp
    exact hs d s post ho hp (fun s' post' ho' hm' hp' => ih s' post' ho' (by omega) hp')
theorem rec_q {σ ρ : Type} (W : Nat → (ρ → Prop) → σ → Prop) (ok : σ → Prop) (μ : σ → Nat) (Q : σ → ρ → Prop)
    (hs : ∀ d s post, ok s → (∀ r, Q s r → post r) → (∀ s' post', ok s' → μ s' < μ s → (∀ r, Q s' r → post' r) → W d post' s') → W (d + 1) post s) :
    ∀ d s post, ok s → μ s < d → (∀ r, Q s r → post r) → W d post s := by
  intro d
  induction d with
  | zero => intro s post _ h; omega
  | succ d ih =>
    intro s post ho hm hp
    exact hs d s post ho hp (fun s' post' ho' hm' hp' => ih s' post' ho' (by omega) hp')
def bx_sum (f : Nat → Int32) : Nat → Int32
  | 0 => 0
  | n + 1 => bx_sum f n + f n
theorem ek_u {A : Prop} {B : Nat → Prop} {k N : Nat} (hk : k < N) (h : B k) : (some k = none → A) ∧ (∀ y : Nat, some k = some y → (y < N ∧ B y)) :=
  ⟨fun z => absurd z (Option.some_ne_none k), fun _ e => (by cases e; exact ⟨hk, h⟩)⟩
theorem ek_nu {A : Prop} {B : Nat → Prop} (h : A) : ((none : Option Nat) = none → A) ∧ (∀ y : Nat, (none : Option Nat) = some y → B y) :=
  ⟨fun _ => h, fun _ e => (by cases e)⟩
theorem ek_if {c d A B : Prop} (e : c ↔ d) (f : d → A) (g : ¬ d → B) : (c → A) ∧ (¬ c → B) :=
  ⟨fun z => f (e.mp z), fun z => g (fun y => z (e.mpr y))⟩
theorem ek_v {α : Sort _} {P : α → Prop} {a b : α} (e : a = b) (h : P b) : P a := e ▸ h
theorem co_some {x : Option Nat} {A : Prop} {B : Nat → Prop} (i : Nat) (h : B i) (hx : x = some i := by rfl) : (x = none → A) ∧ (∀ y : Nat, x = some y → B y) := by
  subst hx
  exact ⟨fun e => (nomatch e), fun y e => Option.some.inj e ▸ h⟩
theorem co_none {x : Option Nat} {A : Prop} {B : Nat → Prop} (h : A) (hx : x = none := by rfl) : (x = none → A) ∧ (∀ y : Nat, x = some y → B y) := by
  subst hx
  exact ⟨fun _ => h, fun y e => (nomatch e)⟩
theorem co_any {x : Option Nat} {A : Prop} {B : Nat → Prop} (hn : x = none → A) (hs : ∀ i : Nat, x = some i → B i) : (x = none → A) ∧ (∀ y : Nat, x = some y → B y) := ⟨hn, hs⟩
theorem co_2 {P : Nat → Prop} (h0 : P 0) (h1 : P 1) {i : Nat} (hi : i < 2) : P i :=
  match i, hi with
  | 0, _ => h0
  | 1, _ => h1
theorem co_3 {P : Nat → Prop} (h0 : P 0) (h1 : P 1) (h2 : P 2) {i : Nat} (hi : i < 3) : P i :=
  match i, hi with
  | 0, _ => h0
  | 1, _ => h1
  | 2, _ => h2
theorem co_4 {P : Nat → Prop} (h0 : P 0) (h1 : P 1) (h2 : P 2) (h3 : P 3) {i : Nat} (hi : i < 4) : P i :=
  match i, hi with
  | 0, _ => h0
  | 1, _ => h1
  | 2, _ => h2
  | 3, _ => h3
theorem co_dec {N : Nat} {P : Nat → Prop} [DecidablePred P] (h : (List.range N).all (fun i => decide (P i)) = true) {i : Nat} (hi : i < N) : P i := by
  have := List.all_eq_true.mp h i (List.mem_range.mpr hi)
  exact of_decide_eq_true this
theorem co_tab {α : Type} {l : List α} {d : α} {P : α → Prop} (h : ∀ a, a ∈ l → P a) {i : Nat} (hi : i < l.length) : P (l.getD i d) := by
  rw [List.getD_eq_getElem?_getD, List.getElem?_eq_getElem hi]
  exact h _ (List.getElem_mem hi)
theorem pk_mu {x : Int32} {L : Nat} (h0 : ¬ x < 0) (h : ¬ nI L ≤ x) (hL : L < 2 ^ 31) : ∃ j : Nat, j < L ∧ x = nI j ∧ x + 1 = nI (j + 1) ∧ x.toNatClampNeg = j ∧ L - (x + 1).toNatClampNeg < L - x.toNatClampNeg := by
  obtain ⟨j, hj, rfl⟩ := nI_of h0
  have hl : j < L := Nat.not_le.mp fun q => h (nI_le q hj)
  refine ⟨j, hl, rfl, nI_1 j, nI_clamp hj, ?_⟩
  rw [nI_1, nI_clamp (by omega), nI_clamp hj]
  omega
theorem op_s {α : Type} {r : Option α} {A : Prop} {B : α → Prop} {y : α} (h : r = some y) (b : B y) : (r = none → A) ∧ ∀ z, r = some z → B z :=
  ⟨fun e => (by rw [h] at e; cases e), fun z e => (by rw [h] at e; cases e; exact b)⟩
def l_holds {α : Type} (a : Nat → Option Nat) (LP : List Nat) (p : Nat → α) (c : Nat) (b : Nat → α) : Prop :=
  ∀ j, j < c → ∃ y, a j = some y ∧ y ∈ LP ∧ p y = b j
theorem l_holds_0 {α : Type} {a : Nat → Option Nat} {LP : List Nat} {p b : Nat → α} : l_holds a LP p 0 b := fun j h => absurd h (Nat.not_lt_zero j)
theorem l_in_new (LP : List Nat) (q : Nat) : q ∈ LP ++ [q] := List.mem_append.mpr (Or.inr (List.mem_singleton.mpr rfl))
def l_sum (b : Nat → Int32) : Nat → Int32
  | 0 => 0
  | k + 1 => l_sum b k + b k
theorem sb_shr0 (x : Int32) : x >>> ((0 : Int32) &&& 31) = x := by
  rw [show ((0 : Int32) &&& 31) = 0 by decide]
  simp
theorem sb_shl0 (x : Int32) : x <<< ((0 : Int32) &&& 31) = x := by
  rw [show ((0 : Int32) &&& 31) = 0 by decide]
  simp
theorem sb_cl0 : (0 : Int32).toNatClampNeg = 0 := by decide
theorem sb_m1 {p : Nat} (h : 0 < p) : nI p + (-1) = nI (p - 1) := by
  obtain ⟨q, rfl⟩ : ∃ q, p = q + 1 := ⟨p - 1, by omega⟩
  exact pk_m1 q
def sb_b (c : Nat) : Int32 := (nI c).toInt8.toInt32
theorem sb_byte : ∀ c, c < 256 → sb_b c &&& 255 = nI c ∧ ((nI c).toUInt32 % 65536).toInt32 = nI c ∧ nI c ≤ 255 := by decide +kernel
def sb_Fit (a : Nat → Int32) : Prop := ∀ j, fits .byte (.int (a j)) = true
def sb_Lat (t : Nat → Nat) (n : Nat) (a : Nat → Int32) : Prop := ∀ j, j < n → t j < 256 ∧ a j = sb_b (t j)
theorem sb_fitB (c : Nat) : fits .byte (.int (sb_b c)) = true := pk_fb _
theorem sb_fit0 : sb_Fit (fun _ => 0) := fun _ => by
  show fits .byte (.int 0) = true
  decide
theorem sb_fitU {a : Nat → Int32} {k : Nat} {x : Int32} (h : sb_Fit a) (hx : fits .byte (.int x) = true) : sb_Fit (upd a k x) := by
  intro j
  by_cases e : j = k
  · subst e
    rw [pk_us]
    exact hx
  · rw [pk_un e]
    exact h j
def sb_cat (t : Nat → Nat) (n : Nat) (s : Nat → Nat) : Nat → Nat := fun j => if j < n then t j else s (j - n)
theorem sb_cat_lo {t s : Nat → Nat} {n j : Nat} (h : j < n) : sb_cat t n s j = t j := if_pos h
theorem sb_cat_hi {t s : Nat → Nat} {n j : Nat} : sb_cat t n s (n + j) = s j := by
  show (if n + j < n then t (n + j) else s (n + j - n)) = s j
  rw [if_neg (by omega), Nat.add_sub_cancel_left]
theorem sb_latPut {t s : Nat → Nat} {n w : Nat} {a a' : Nat → Int32} (h : sb_Lat t n a) (hk : ∀ j, j < n → a' j = a j) (hs : ∀ i, i < w → s i < 256 ∧ a' (n + i) = sb_b (s i)) : sb_Lat (sb_cat t n s) (n + w) a' := by
  intro j hj
  by_cases e : j < n
  · rw [sb_cat_lo e, hk j e]
    exact h j e
  · obtain ⟨i, rfl⟩ : ∃ i, j = n + i := ⟨j - n, by omega⟩
    rw [sb_cat_hi]
    exact hs i (by omega)
theorem sb_latKeep {t : Nat → Nat} {n : Nat} {a a' : Nat → Int32} (h : sb_Lat t n a) (hk : ∀ j, j < n → a' j = a j) : sb_Lat t n a' := fun j hj => by
  rw [hk j hj]
  exact h j hj
def sb_cap (q m : Nat) : Nat := if q ≤ m then m else if 2 * m + 2 < q then q else 2 * m + 2
def sb_Room (q m mc ms : Nat) : Prop := q ≤ m ∨ (1 ≤ mc ∧ sb_cap q m ≤ ms ∧ sb_cap q m ≤ 65536)
theorem sb_cap_ge (q m : Nat) : q ≤ sb_cap q m := by
  unfold sb_cap
  split
  · omega
  · split <;> omega
theorem sb_cap_gem (q m : Nat) : m ≤ sb_cap q m := by
  unfold sb_cap
  split
  · omega
  · split <;> omega
theorem sb_cap_le {q m mc ms : Nat} (hm : m ≤ 65536) (hr : sb_Room q m mc ms) : sb_cap q m ≤ 65536 := by
  rcases hr with h | h
  · rw [sb_cap, if_pos h]
    exact hm
  · exact h.2.2
theorem sb_at {P : Int32 → Prop} {x y : Int32} (e : x = y) (h : P y) : P x := e ▸ h
def sb_dg (w : Nat) : Nat := if w < 10 then 1 else if w < 100 then 2 else if w < 1000 then 3 else if w < 10000 then 4 else if w < 100000 then 5 else if w < 1000000 then 6 else if w < 10000000 then 7 else if w < 100000000 then 8 else if w < 1000000000 then 9 else 10
def sb_dec (v : Nat) : Nat → Nat := fun i => 48 + v / 10 ^ (sb_dg v - 1 - i) % 10
theorem sb_dg_in (w : Nat) : 1 ≤ sb_dg w ∧ sb_dg w ≤ 10 := by
  unfold sb_dg
  constructor <;> (repeat' split) <;> omega
theorem sb_dg100 {w : Nat} (h : 100 ≤ w) (hw : w < 2 ^ 31) : sb_dg w = sb_dg (w / 100) + 2 := by
  rw [sb_dg, sb_dg, if_neg (show ¬ w < 10 by omega), if_neg (show ¬ w < 100 by omega)]
  by_cases h3 : w < 1000
  · rw [if_pos h3, if_pos (show w / 100 < 10 by omega)]
  rw [if_neg h3, if_neg (show ¬ w / 100 < 10 by omega)]
  by_cases h4 : w < 10000
  · rw [if_pos h4, if_pos (show w / 100 < 100 by omega)]
  rw [if_neg h4, if_neg (show ¬ w / 100 < 100 by omega)]
  by_cases h5 : w < 100000
  · rw [if_pos h5, if_pos (show w / 100 < 1000 by omega)]
  rw [if_neg h5, if_neg (show ¬ w / 100 < 1000 by omega)]
  by_cases h6 : w < 1000000
  · rw [if_pos h6, if_pos (show w / 100 < 10000 by omega)]
  rw [if_neg h6, if_neg (show ¬ w / 100 < 10000 by omega)]
  by_cases h7 : w < 10000000
  · rw [if_pos h7, if_pos (show w / 100 < 100000 by omega)]
  rw [if_neg h7, if_neg (show ¬ w / 100 < 100000 by omega)]
  by_cases h8 : w < 100000000
  · rw [if_pos h8, if_pos (show w / 100 < 1000000 by omega)]
  rw [if_neg h8, if_neg (show ¬ w / 100 < 1000000 by omega)]
  by_cases h9 : w < 1000000000
  · rw [if_pos h9, if_pos (show w / 100 < 10000000 by omega)]
  rw [if_neg h9, if_neg (show ¬ w / 100 < 10000000 by omega)]
  rw [if_pos (show w / 100 < 100000000 by omega)]
theorem sb_negT {w : Nat} (h : w < 2 ^ 31) : (-nI w).toInt = -(w : Int) := by
  rw [Int32.toInt_neg, nI_toInt h]
  exact Int.bmod_eq_of_le (by omega) (by omega)
theorem sb_nle {a b : Nat} (ha : a < 2 ^ 31) (hb : b < 2 ^ 31) : -nI a ≤ -nI b ↔ b ≤ a := by
  rw [Int32.le_iff_toInt_le, sb_negT ha, sb_negT hb]
  omega
theorem sb_nlt {a b : Nat} (ha : a < 2 ^ 31) (hb : b < 2 ^ 31) : -nI a < -nI b ↔ b < a := by
  rw [Int32.lt_iff_toInt_lt, sb_negT ha, sb_negT hb]
  omega
theorem sb_cmp {A B : Prop} {x : Int32} (v c : Nat) (f : c ≤ v → A) (g : v < c → B) (hv : v < 2 ^ 31) (hx : x = -nI c := by rfl) (hc : c < 2 ^ 31 := by omega) : (-nI v ≤ x → A) ∧ (¬ -nI v ≤ x → B) := by
  subst hx
  rw [sb_nle hv hc]
  exact ⟨f, fun z => g (by omega)⟩
theorem sb_ndiv {w : Nat} (hw : w < 2 ^ 31) : (-nI w) / 100 = -nI (w / 100) := by
  apply Int32.toInt_inj.mp
  have h100 : (100 : Int32).toInt = 100 := by decide
  rw [Int32.toInt_div, sb_negT hw, h100, sb_negT (by omega), Int.neg_tdiv, Int.tdiv_eq_ediv_of_nonneg (by omega), Int.bmod_eq_of_le (by omega) (by omega)]
  omega
theorem sb_nrem {w : Nat} (hw : w < 2 ^ 31) : (-nI (w / 100)) * 100 - (-nI w) = nI (w % 100) := by
  have h := pk_rem (a := w) (d := 100) hw (by decide) (by decide)
  rw [pk_div hw (by decide) (by decide)] at h
  rw [← h]
  show (-nI (w / 100)) * nI 100 - (-nI w) = nI w - nI (w / 100) * nI 100
  rw [Int32.neg_mul, Int32.sub_neg, Int32.add_comm, ← Int32.sub_eq_add_neg]
end
section
/-! the pure world: the settings as one tuple of naturals (kerns + 5, ligatures + 1), shaping as a list of glyphs (the last one first), the state of a line -/
abbrev gv_T : Type := (Nat × (Nat → Nat) × (Nat → Nat) × (Nat → Nat) × (Nat → Nat)) × (Nat × (Nat → Nat) × (Nat → Nat) × (Nat → Nat) × (Nat → Nat)) × (Nat × Nat × Nat × Nat × Nat × Nat × Nat × Nat × Nat)
def gv_ln (e : gv_T) : Nat := e.1.1
def gv_tx (e : gv_T) : Nat → Nat := e.1.2.1
def gv_wd (e : gv_T) : Nat → Nat := e.1.2.2.1
def gv_kn (e : gv_T) : Nat → Nat := e.1.2.2.2.1
def gv_jn (e : gv_T) : Nat → Nat := e.1.2.2.2.2
def gv_np (e : gv_T) : Nat := e.2.1.1
def gv_pa (e : gv_T) : Nat → Nat := e.2.1.2.1
def gv_pb (e : gv_T) : Nat → Nat := e.2.1.2.2.1
def gv_pc (e : gv_T) : Nat → Nat := e.2.1.2.2.2.1
def gv_pd (e : gv_T) : Nat → Nat := e.2.1.2.2.2.2
def gv_fi (e : gv_T) : Nat := e.2.2.1
def gv_rs (e : gv_T) : Nat := e.2.2.2.1
def gv_nr (e : gv_T) : Nat := e.2.2.2.2.1
def gv_gp (e : gv_T) : Nat := e.2.2.2.2.2.1
def gv_st (e : gv_T) : Nat := e.2.2.2.2.2.2.1
def gv_sk (e : gv_T) : Nat := e.2.2.2.2.2.2.2.1
def gv_tl (e : gv_T) : Nat := e.2.2.2.2.2.2.2.2.1
def gv_cs (e : gv_T) : Nat := e.2.2.2.2.2.2.2.2.2.1
def gv_ht (e : gv_T) : Nat := e.2.2.2.2.2.2.2.2.2.2
/-- text and font are within their bounds -/
def gv_okF (e : gv_T) : Prop := gv_ln e ≤ 48 ∧ (∀ j, gv_tx e j ≤ 11) ∧ (∀ l, l < 10 → 6 ≤ gv_wd e l ∧ gv_wd e l ≤ 30) ∧ (∀ k, k < 100 → gv_kn e k ≤ 10) ∧ (∀ k, k < 100 → gv_jn e k ≤ 10)
/-- the measures are within their bounds -/
def gv_okM (e : gv_T) : Prop := gv_fi e ≤ 300 ∧ gv_rs e ≤ 300 ∧ gv_nr e ≤ 3 ∧ gv_gp e ≤ 20 ∧ gv_st e ≤ 20 ∧ gv_sk e ≤ gv_gp e ∧ gv_tl e ≤ 10000 ∧ gv_cs e ≤ 200 ∧ 1 ≤ gv_ht e ∧ gv_ht e ≤ 12
abbrev gv_isL (e : gv_T) (i : Nat) : Prop := i < gv_ln e ∧ gv_tx e i < 10
/-! shaping -/
def sh_push (e : gv_T) : List Nat → Nat → List Nat
  | [], l => [l]
  | g :: r, l => if gv_jn e (10 * g + l) = 0 then l :: g :: r else (gv_jn e (10 * g + l) - 1) :: r
def sh_ad (e : gv_T) (p g : Nat) : Nat := gv_wd e g + gv_kn e (10 * p + g) - 5
def sh_av (e : gv_T) : List Nat → Nat
  | [] => 0
  | [g] => gv_wd e g
  | g :: p :: _ => sh_ad e p g
def sh_wd (e : gv_T) : List Nat → Nat
  | [] => 0
  | g :: r => sh_av e (g :: r) + sh_wd e r
def sh_hd : List Nat → Int32
  | [] => -1
  | g :: _ => nI g
def sh_ok (L : List Nat) : Prop := ∀ g, g ∈ L → g < 10
theorem sh_wd_t (e : gv_T) (L : List Nat) : sh_wd e L = sh_av e L + sh_wd e L.tail := by
  cases L with
  | nil => rfl
  | cons g r => rfl
theorem sh_ok_0 : sh_ok [] := fun _ h => by cases h
theorem sh_ok_c {g : Nat} {r : List Nat} (h : sh_ok (g :: r)) : g < 10 ∧ sh_ok r := ⟨h g (by simp), fun x hx => h x (by simp [hx])⟩
theorem sh_ok_k {g : Nat} {r : List Nat} (h : g < 10) (hr : sh_ok r) : sh_ok (g :: r) := by
  intro x hx
  rcases List.mem_cons.mp hx with rfl | hx
  · exact h
  · exact hr x hx
theorem sh_ok_t {L : List Nat} (h : sh_ok L) : sh_ok L.tail := by
  cases L with
  | nil => exact h
  | cons g r => exact (sh_ok_c h).2
theorem sh_push_c (e : gv_T) (g : Nat) (r : List Nat) (l : Nat) : sh_push e (g :: r) l = if gv_jn e (10 * g + l) = 0 then l :: g :: r else (gv_jn e (10 * g + l) - 1) :: r := rfl
theorem sh_push_ok {e : gv_T} (E : gv_okF e) {L : List Nat} {l : Nat} (h : sh_ok L) (hl : l < 10) : sh_ok (sh_push e L l) := by
  cases L with
  | nil => exact sh_ok_k hl sh_ok_0
  | cons g r =>
    have hg := (sh_ok_c h).1
    have hj := E.2.2.2.2 (10 * g + l) (by omega)
    rw [sh_push_c]
    split
    · exact sh_ok_k hl h
    · exact sh_ok_k (by omega) (sh_ok_c h).2
theorem sh_push_ne (e : gv_T) (L : List Nat) (l : Nat) : sh_push e L l ≠ [] := by
  cases L with
  | nil => intro h; cases h
  | cons g r =>
    rw [sh_push_c]
    split <;> (intro h; cases h)
theorem sh_push_len (e : gv_T) (L : List Nat) (l : Nat) : (sh_push e L l).length ≤ L.length + 1 := by
  cases L with
  | nil => exact Nat.le_refl _
  | cons g r =>
    rw [sh_push_c]
    split <;> simp
theorem sh_av_b {e : gv_T} (E : gv_okF e) {L : List Nat} (h : sh_ok L) : sh_av e L ≤ 35 := by
  cases L with
  | nil => exact Nat.zero_le _
  | cons g r =>
    have hg := (sh_ok_c h).1
    have hw := E.2.2.1 g hg
    cases r with
    | nil => show gv_wd e g ≤ 35; omega
    | cons p r =>
      have hp := (sh_ok_c (sh_ok_c h).2).1
      have hk := E.2.2.2.1 (10 * p + g) (by omega)
      show gv_wd e g + gv_kn e (10 * p + g) - 5 ≤ 35
      omega
theorem sh_wd_b {e : gv_T} (E : gv_okF e) : ∀ {L : List Nat}, sh_ok L → sh_wd e L ≤ 35 * L.length
  | [], _ => Nat.le_refl _
  | g :: r, h => by
    have a := sh_av_b E h
    have b := sh_wd_b E (sh_ok_c h).2
    show sh_av e (g :: r) + sh_wd e r ≤ 35 * (r.length + 1)
    omega
/-! the state of a line: width of what lies behind the word at work, spaces, glyphs of the word at work -/
def sh_st (e : gv_T) (s : Nat × Nat × List Nat) (c : Nat) : Nat × Nat × List Nat :=
  if c < 10 then (s.1, s.2.1, sh_push e s.2.2 c) else if s.2.2 = [] then s else (s.1 + sh_wd e s.2.2 + gv_gp e, s.2.1 + 1, [])
def sh_ls (e : gv_T) (f : Nat) : Nat → Nat × Nat × List Nat
  | 0 => (0, 0, [])
  | n + 1 => sh_st e (sh_ls e f n) (gv_tx e (f + n))
def sh_at (e : gv_T) (f q : Nat) : Nat × Nat × List Nat := sh_ls e f (q - f)
def sh_nw (e : gv_T) (f q : Nat) : Nat := (sh_at e f q).1 + sh_wd e (sh_at e f q).2.2
def sh_ns (e : gv_T) (f q : Nat) : Nat := (sh_at e f q).2.1
theorem sh_at_0 (e : gv_T) (f : Nat) : sh_at e f f = (0, 0, []) := by
  unfold sh_at; rw [Nat.sub_self]; rfl
theorem sh_at_s (e : gv_T) {f q : Nat} (h : f ≤ q) : sh_at e f (q + 1) = sh_st e (sh_at e f q) (gv_tx e q) := by
  unfold sh_at
  rw [show q + 1 - f = (q - f) + 1 from by omega]
  show sh_st e (sh_ls e f (q - f)) (gv_tx e (f + (q - f))) = _
  rw [show f + (q - f) = q from by omega]
theorem sh_st_l (e : gv_T) (s : Nat × Nat × List Nat) {c : Nat} (h : c < 10) : sh_st e s c = (s.1, s.2.1, sh_push e s.2.2 c) := if_pos h
theorem sh_st_0 (e : gv_T) (s : Nat × Nat × List Nat) {c : Nat} (h : ¬ c < 10) (h0 : s.2.2 = []) : sh_st e s c = s := by
  unfold sh_st; rw [if_neg h, if_pos h0]
theorem sh_st_1 (e : gv_T) (s : Nat × Nat × List Nat) {c : Nat} (h : ¬ c < 10) (h0 : s.2.2 ≠ []) : sh_st e s c = (s.1 + sh_wd e s.2.2 + gv_gp e, s.2.1 + 1, []) := by
  unfold sh_st; rw [if_neg h, if_neg h0]
theorem sh_ls_b {e : gv_T} (E : gv_okF e) (hg : gv_gp e ≤ 20) (f : Nat) : ∀ n, (sh_ls e f n).1 + 35 * (sh_ls e f n).2.2.length ≤ 55 * n ∧ (sh_ls e f n).2.1 ≤ n ∧ (sh_ls e f n).2.2.length ≤ n ∧ sh_ok (sh_ls e f n).2.2
  | 0 => ⟨Nat.le_refl _, Nat.le_refl _, Nat.le_refl _, sh_ok_0⟩
  | n + 1 => by
    obtain ⟨h1, h2, h3, h4⟩ := sh_ls_b E hg f n
    show (sh_st e (sh_ls e f n) (gv_tx e (f + n))).1 + 35 * (sh_st e (sh_ls e f n) (gv_tx e (f + n))).2.2.length ≤ _ ∧ (sh_st e (sh_ls e f n) (gv_tx e (f + n))).2.1 ≤ _ ∧ (sh_st e (sh_ls e f n) (gv_tx e (f + n))).2.2.length ≤ _ ∧ sh_ok (sh_st e (sh_ls e f n) (gv_tx e (f + n))).2.2
    by_cases hc : gv_tx e (f + n) < 10
    · rw [sh_st_l e _ hc]
      have hl := sh_push_len e (sh_ls e f n).2.2 (gv_tx e (f + n))
      refine ⟨?_, ?_, ?_, sh_push_ok E h4 hc⟩ <;> dsimp only <;> omega
    · by_cases h0 : (sh_ls e f n).2.2 = []
      · rw [sh_st_0 e _ hc h0]
        exact ⟨by omega, by omega, by omega, h4⟩
      · rw [sh_st_1 e _ hc h0]
        have hw := sh_wd_b E h4
        refine ⟨?_, ?_, ?_, sh_ok_0⟩
        · show _ + 35 * 0 ≤ _
          dsimp only
          omega
        · dsimp only; omega
        · exact Nat.zero_le _
theorem sh_at_ok {e : gv_T} (E : gv_okF e) (hg : gv_gp e ≤ 20) (f q : Nat) : sh_ok (sh_at e f q).2.2 := (sh_ls_b E hg f (q - f)).2.2.2
theorem sh_ns_b {e : gv_T} (E : gv_okF e) (hg : gv_gp e ≤ 20) (f q : Nat) : sh_ns e f q ≤ q - f := (sh_ls_b E hg f (q - f)).2.1
theorem sh_nw_b {e : gv_T} (E : gv_okF e) (hg : gv_gp e ≤ 20) (f q : Nat) : sh_nw e f q ≤ 55 * (q - f) := by
  have h := sh_ls_b E hg f (q - f)
  have w := sh_wd_b E h.2.2.2
  show (sh_ls e f (q - f)).1 + sh_wd e (sh_ls e f (q - f)).2.2 ≤ _
  omega
theorem sh_at_1b {e : gv_T} (E : gv_okF e) (hg : gv_gp e ≤ 20) (f q : Nat) : (sh_at e f q).1 ≤ 55 * (q - f) := by
  have h := sh_ls_b E hg f (q - f)
  show (sh_ls e f (q - f)).1 ≤ _
  omega
/-- behind a word's end the width less the most that the spaces shrink never falls -/
theorem sh_mono {e : gv_T} (hs : gv_sk e ≤ gv_gp e) {f q : Nat} (hf : f ≤ q) (hc : ¬ gv_tx e q < 10) (h0 : (sh_at e f q).2.2 ≠ []) : ∀ d, sh_nw e f q + sh_ns e f (q + 1 + d) * gv_sk e ≤ (sh_at e f (q + 1 + d)).1 + sh_ns e f q * gv_sk e
  | 0 => by
    have h := sh_at_s e hf
    rw [sh_st_1 e _ hc h0] at h
    unfold sh_ns sh_nw
    rw [Nat.add_zero, h]
    dsimp only
    rw [Nat.add_mul]
    omega
  | d + 1 => by
    have ih := sh_mono hs hf hc h0 d
    have h := sh_at_s e (f := f) (q := q + 1 + d) (by omega)
    have ex : q + 1 + (d + 1) = q + 1 + d + 1 := by omega
    rw [ex]
    by_cases hd : gv_tx e (q + 1 + d) < 10
    · rw [sh_st_l e _ hd] at h
      unfold sh_ns at ih ⊢
      rw [h]; exact ih
    · by_cases h1 : (sh_at e f (q + 1 + d)).2.2 = []
      · rw [sh_st_0 e _ hd h1] at h
        unfold sh_ns at ih ⊢
        rw [h]; exact ih
      · rw [sh_st_1 e _ hd h1] at h
        unfold sh_ns at ih ⊢
        rw [h]
        dsimp only
        rw [Nat.add_mul]
        omega
theorem sh_over {e : gv_T} (hs : gv_sk e ≤ gv_gp e) {f q q' t : Nat} (hf : f ≤ q) (hc : ¬ gv_tx e q < 10) (h0 : (sh_at e f q).2.2 ≠ []) (hq : q < q') (ho : t + sh_ns e f q * gv_sk e < sh_nw e f q) : t + sh_ns e f q' * gv_sk e < sh_nw e f q' := by
  obtain ⟨d, rfl⟩ : ∃ d, q' = q + 1 + d := ⟨q' - (q + 1), by omega⟩
  have h := sh_mono hs hf hc h0 d
  have : (sh_at e f (q + 1 + d)).1 ≤ sh_nw e f (q + 1 + d) := Nat.le_add_right _ _
  omega
theorem sh_at_ne {e : gv_T} {f q : Nat} (h : f ≤ q) (hc : gv_tx e q < 10) : (sh_at e f (q + 1)).2.2 ≠ [] := by
  rw [sh_at_s e h, sh_st_l e _ hc]
  exact sh_push_ne e _ _
/-! badness, classes, demerits of one line: a badness b is written b + 1, overfull 0 -/
def bq_c (e : gv_T) (t w s : Nat) (l : Bool) : Nat :=
  if t = w ∨ (w < t ∧ l = true) then 1
  else if w < t then (if s * gv_st e = 0 then 10001 else min (100 * ((t - w) * (t - w) * (t - w)) / (s * gv_st e * (s * gv_st e) * (s * gv_st e))) 10000 + 1)
  else if s * gv_sk e < w - t then 0
  else if s * gv_sk e = 0 then 10001 else min (100 * ((w - t) * (w - t) * (w - t)) / (s * gv_sk e * (s * gv_sk e) * (s * gv_sk e))) 10000 + 1
def bq_i (c : Nat) : Int32 := if c = 0 then -1 else nI (c - 1)
def bq_cl (t w b : Nat) : Nat := if b ≤ 12 then 1 else if t < w then 0 else if b < 100 then 2 else 3
def bq_tg (e : gv_T) (n : Nat) : Nat := if n < gv_nr e then gv_fi e else gv_rs e
theorem bq_b (e : gv_T) (t w s : Nat) (l : Bool) : bq_c e t w s l ≤ 10001 := by
  unfold bq_c
  split
  · omega
  · split
    · split
      · omega
      · have := Nat.min_le_right (100 * ((t - w) * (t - w) * (t - w)) / (s * gv_st e * (s * gv_st e) * (s * gv_st e))) 10000
        omega
    · split
      · omega
      · split
        · omega
        · have := Nat.min_le_right (100 * ((w - t) * (w - t) * (w - t)) / (s * gv_sk e * (s * gv_sk e) * (s * gv_sk e))) 10000
          omega
theorem bq_over {e : gv_T} {t w s : Nat} {l : Bool} (h : t + s * gv_sk e < w) : bq_c e t w s l = 0 := by
  unfold bq_c
  rw [if_neg (by omega), if_neg (by omega), if_pos (by omega)]
theorem bq_tgb {e : gv_T} (M : gv_okM e) (n : Nat) : bq_tg e n ≤ 300 := by
  unfold bq_tg
  split
  · exact M.1
  · exact M.2.1
theorem bq_cl4 (t w b : Nat) : bq_cl t w b < 4 := by
  unfold bq_cl
  split
  · omega
  · split
    · omega
    · split <;> omega
end
section
/-! the best way through breaks: a table of states 16 * break + 4 * (number of the line, capped at N) + kind, for any step function S -/
def dp_wy (S : Nat → Nat → Nat → Nat → Option (Nat × Nat)) : List Nat → Nat → Nat → Nat → Prop
  | [], _, _, _ => False
  | [k], n, c, d => k = 0 ∧ n = 0 ∧ c = 1 ∧ d = 0
  | k :: p :: r, n, c, d => p < k ∧ ∃ n' c' d' w, dp_wy S (p :: r) n' c' d' ∧ S p k n' c' = some (c, w) ∧ n = n' + 1 ∧ d = d' + w
def dp_lt : List Nat → List Nat → Prop
  | a :: r, b :: s => b < a ∨ (a = b ∧ dp_lt r s)
  | _, _ => False
def dp_le (d1 : Nat) (W1 : List Nat) (d2 : Nat) (W2 : List Nat) : Prop := d1 < d2 ∨ (d1 = d2 ∧ (W1 = W2 ∨ dp_lt W1 W2))
theorem dp_lt_tr : ∀ {a b c : List Nat}, dp_lt a b → dp_lt b c → dp_lt a c
  | [], _, _, h, _ => by cases h
  | _ :: _, [], _, h, _ => by cases h
  | _ :: _, _ :: _, [], _, h => by cases h
  | x :: a, y :: b, z :: c, h, g => by
    simp only [dp_lt] at h g ⊢
    rcases h with h | ⟨rfl, h⟩
    · rcases g with g | ⟨rfl, g⟩
      · exact Or.inl (by omega)
      · exact Or.inl h
    · rcases g with g | ⟨rfl, g⟩
      · exact Or.inl g
      · exact Or.inr ⟨rfl, dp_lt_tr h g⟩
theorem dp_lt_ir : ∀ {a : List Nat}, ¬ dp_lt a a
  | [], h => by cases h
  | x :: a, h => by
    simp only [dp_lt] at h
    rcases h with h | ⟨-, h⟩
    · omega
    · exact dp_lt_ir h
theorem dp_le_tr {d1 d2 d3 : Nat} {W1 W2 W3 : List Nat} (h : dp_le d1 W1 d2 W2) (g : dp_le d2 W2 d3 W3) : dp_le d1 W1 d3 W3 := by
  rcases h with h | ⟨rfl, h⟩
  · rcases g with g | ⟨rfl, g⟩
    · exact Or.inl (by omega)
    · exact Or.inl h
  · rcases g with g | ⟨rfl, g⟩
    · exact Or.inl g
    · refine Or.inr ⟨rfl, ?_⟩
      rcases h with rfl | h
      · exact g
      · rcases g with rfl | g
        · exact Or.inr h
        · exact Or.inr (dp_lt_tr h g)
theorem dp_le_rf (d : Nat) (W : List Nat) : dp_le d W d W := Or.inr ⟨rfl, Or.inl rfl⟩
theorem dp_le_as {d1 d2 : Nat} {W1 W2 : List Nat} (h : dp_le d1 W1 d2 W2) (g : dp_le d2 W2 d1 W1) : d1 = d2 ∧ W1 = W2 := by
  rcases h with h | ⟨rfl, h⟩
  · rcases g with g | ⟨g, -⟩ <;> omega
  · refine ⟨rfl, ?_⟩
    rcases g with g | ⟨-, g⟩
    · omega
    · rcases h with h | h
      · exact h
      · rcases g with g | g
        · exact g.symm
        · exact absurd (dp_lt_tr h g) dp_lt_ir
theorem dp_le_c {d1 d2 w k : Nat} {W1 W2 : List Nat} (h : dp_le d1 W1 d2 W2) : dp_le (d1 + w) (k :: W1) (d2 + w) (k :: W2) := by
  rcases h with h | ⟨rfl, h⟩
  · exact Or.inl (by omega)
  · refine Or.inr ⟨rfl, ?_⟩
    rcases h with rfl | h
    · exact Or.inl rfl
    · exact Or.inr (by simp only [dp_lt]; exact Or.inr ⟨trivial, h⟩)
section
variable {S : Nat → Nat → Nat → Nat → Option (Nat × Nat)}
theorem dp_wy1 {k n c d : Nat} (h : dp_wy S [k] n c d) : k = 0 ∧ n = 0 ∧ c = 1 ∧ d = 0 := by
  simpa only [dp_wy] using h
theorem dp_wy2 {k p n c d : Nat} {r : List Nat} (h : dp_wy S (k :: p :: r) n c d) : p < k ∧ ∃ n' c' d' w, dp_wy S (p :: r) n' c' d' ∧ S p k n' c' = some (c, w) ∧ n = n' + 1 ∧ d = d' + w := by
  simpa only [dp_wy] using h
theorem dp_wy_k {k p n c d c' w : Nat} {r : List Nat} (hk : p < k) (h : dp_wy S (p :: r) n c d) (hs : S p k n c = some (c', w)) : dp_wy S (k :: p :: r) (n + 1) c' (d + w) := by
  simp only [dp_wy]
  exact ⟨hk, n, c, d, w, h, hs, rfl, rfl⟩
theorem dp_wy_0 : dp_wy S [0] 0 1 0 := by
  simp only [dp_wy]
  exact ⟨trivial, trivial, trivial, trivial⟩
theorem dp_fn : ∀ {W : List Nat} {n c d n' c' d' : Nat}, dp_wy S W n c d → dp_wy S W n' c' d' → n = n' ∧ c = c' ∧ d = d'
  | [], _, _, _, _, _, _, h, _ => by simp only [dp_wy] at h
  | [k], _, _, _, _, _, _, h, g => by
    obtain ⟨-, a1, a2, a3⟩ := dp_wy1 h
    obtain ⟨-, b1, b2, b3⟩ := dp_wy1 g
    omega
  | k :: p :: r, n, c, d, n', c', d', h, g => by
    obtain ⟨-, n1, c1, d1, w1, h1, s1, rfl, rfl⟩ := dp_wy2 h
    obtain ⟨-, n2, c2, d2, w2, h2, s2, rfl, rfl⟩ := dp_wy2 g
    obtain ⟨rfl, rfl, rfl⟩ := dp_fn h1 h2
    rw [s1] at s2
    simp only [Option.some.injEq, Prod.mk.injEq] at s2
    omega
theorem dp_tot : ∀ {W W' : List Nat} {n c d n' c' d' : Nat}, dp_wy S W n c d → dp_wy S W' n' c' d' → W = W' ∨ dp_lt W W' ∨ dp_lt W' W
  | [], _, _, _, _, _, _, _, h, _ => by simp only [dp_wy] at h
  | _ :: _, [], _, _, _, _, _, _, _, h => by simp only [dp_wy] at h
  | [k], [k'], _, _, _, _, _, _, h, g => by
    have a := (dp_wy1 h).1
    have b := (dp_wy1 g).1
    subst a b
    exact Or.inl rfl
  | [k], k' :: p :: r, _, _, _, _, _, _, h, g => by
    have a := (dp_wy1 h).1
    have b := (dp_wy2 g).1
    exact Or.inr (Or.inr (by simp only [dp_lt]; exact Or.inl (by omega)))
  | k :: p :: r, [k'], _, _, _, _, _, _, h, g => by
    have a := (dp_wy2 h).1
    have b := (dp_wy1 g).1
    exact Or.inr (Or.inl (by simp only [dp_lt]; exact Or.inl (by omega)))
  | k :: p :: r, k' :: p' :: r', _, _, _, _, _, _, h, g => by
    obtain ⟨-, n1, c1, d1, w1, h1, -, -, -⟩ := dp_wy2 h
    obtain ⟨-, n2, c2, d2, w2, h2, -, -, -⟩ := dp_wy2 g
    rcases Nat.lt_trichotomy k k' with z | rfl | z
    · exact Or.inr (Or.inr (by rw [dp_lt]; exact Or.inl z))
    · rcases dp_tot h1 h2 with z | z | z
      · exact Or.inl (by rw [z])
      · exact Or.inr (Or.inl (by rw [dp_lt]; exact Or.inr ⟨rfl, z⟩))
      · exact Or.inr (Or.inr (by rw [dp_lt]; exact Or.inr ⟨rfl, z⟩))
    · exact Or.inr (Or.inl (by rw [dp_lt]; exact Or.inl z))
theorem dp_bnd {M : Nat} (hS : ∀ p k n c c' w, S p k n c = some (c', w) → w ≤ M) : ∀ {k : Nat} {r : List Nat} {n c d : Nat}, dp_wy S (k :: r) n c d → d ≤ k * M
  | k, [], n, c, d, h => by
    have := (dp_wy1 h).2.2.2
    omega
  | k, p :: r, n, c, d, h => by
    obtain ⟨hk, n1, c1, d1, w1, h1, s1, rfl, rfl⟩ := dp_wy2 h
    have a := dp_bnd hS h1
    have b := hS _ _ _ _ _ _ s1
    have e : (p + 1) * M ≤ k * M := Nat.mul_le_mul_right M hk
    rw [Nat.add_mul] at e
    omega
end
/-- the table at work: sources below cut k have been offered to break k -/
def dp_in (S : Nat → Nat → Nat → Nat → Option (Nat × Nat)) (N nb : Nat) (cut : Nat → Nat) (D P : Nat → Nat) (V : Nat → List Nat) : Prop :=
  (∀ s, s < 16 * nb + 16 → D s ≠ 0 → ∃ n, dp_wy S (V s) n (s % 4) (D s - 1) ∧ min n N = s / 4 % 4 ∧ ((s = 1 ∧ V s = [0]) ∨ (16 ≤ s ∧ P s / 16 < s / 16 ∧ P s < cut (s / 16) ∧ D (P s) ≠ 0 ∧ V s = s / 16 :: V (P s)))) ∧
  (∀ k p r n' c' d' n c d, k ≤ nb → dp_wy S (p :: r) n' c' d' → dp_wy S (k :: p :: r) n c d → 16 * p + 4 * min n' N + c' < cut k → D (16 * k + 4 * min n N + c) ≠ 0 ∧ dp_le (D (16 * k + 4 * min n N + c) - 1) (V (16 * k + 4 * min n N + c)) d (k :: p :: r)) ∧
  D 1 = 1
/-- what a step function must keep -/
def dp_ok (S : Nat → Nat → Nat → Nat → Option (Nat × Nat)) (N M : Nat) : Prop :=
  N ≤ 3 ∧ (∀ p k n c c' w, S p k n c = some (c', w) → c' < 4 ∧ w ≤ M) ∧ (∀ p k n c, S p k n c = S p k (min n N) c)
section
variable {S : Nat → Nat → Nat → Nat → Option (Nat × Nat)} {N nb M : Nat} {cut : Nat → Nat} {D P : Nat → Nat} {V : Nat → List Nat}
theorem dp_c4 (O : dp_ok S N M) : ∀ {W : List Nat} {n c d : Nat}, dp_wy S W n c d → c < 4
  | [], _, _, _, h => by simp only [dp_wy] at h
  | [k], _, _, _, h => by have := dp_wy1 h; omega
  | k :: p :: r, _, _, _, h => by
    obtain ⟨-, n1, c1, d1, w1, h1, s1, -, -⟩ := dp_wy2 h
    exact (O.2.1 _ _ _ _ _ _ s1).1
theorem dp_in0 (cut : Nat → Nat) (hc : ∀ k, cut k = 0) : dp_in S N nb cut (fun s => if s = 1 then 1 else 0) (fun _ => 0) (fun _ => [0]) := by
  refine ⟨fun s _ h => ?_, fun k p r n' c' d' n c d _ _ _ h => ?_, rfl⟩
  · have e : s = 1 := by
      by_cases h1 : s = 1
      · exact h1
      · exact absurd (if_neg h1) h
    subst e
    exact ⟨0, dp_wy_0, by simp, Or.inl ⟨rfl, rfl⟩⟩
  · rw [hc k] at h; omega
theorem dp_v1 (I : dp_in S N nb cut D P V) : V 1 = [0] := by
  obtain ⟨n, -, -, h⟩ := I.1 1 (by omega) (by rw [I.2.2]; omega)
  rcases h with h | h
  · exact h.2
  · omega
theorem dp_hd (I : dp_in S N nb cut D P V) {s : Nat} (hs : s < 16 * nb + 16) (h : D s ≠ 0) : ∃ r, V s = s / 16 :: r := by
  obtain ⟨n, -, -, h⟩ := I.1 s hs h
  rcases h with ⟨rfl, h⟩ | ⟨-, -, -, -, h⟩
  · exact ⟨[], h⟩
  · exact ⟨_, h⟩
/-- at a break whose sources have all been offered the table is right -/
theorem dp_opt (O : dp_ok S N M) (I : dp_in S N nb cut D P V) {k n c d : Nat} {r : List Nat} (hk : k ≤ nb) (hc : 16 * k ≤ cut k) (h : dp_wy S (k :: r) n c d) : D (16 * k + 4 * min n N + c) ≠ 0 ∧ dp_le (D (16 * k + 4 * min n N + c) - 1) (V (16 * k + 4 * min n N + c)) d (k :: r) := by
  cases r with
  | nil =>
    obtain ⟨rfl, rfl, rfl, rfl⟩ := dp_wy1 h
    rw [show 16 * 0 + 4 * min 0 N + 1 = 1 from by simp, I.2.2, dp_v1 I]
    exact ⟨by omega, dp_le_rf _ _⟩
  | cons p r =>
    obtain ⟨hp, n', c', d', w, h', s', -, -⟩ := dp_wy2 h
    have h4 := dp_c4 O h'
    have hN := O.1
    exact I.2.1 k p r n' c' d' n c d hk h' h (by have := Nat.min_le_right n' N; omega)
/-- different live states have different ways -/
theorem dp_inj (I : dp_in S N nb cut D P V) {s t : Nat} (hs : s < 16 * nb + 16) (ht : t < 16 * nb + 16) (ds : D s ≠ 0) (dt : D t ≠ 0) (h : V s = V t) : s = t := by
  obtain ⟨n1, w1, m1, -⟩ := I.1 s hs ds
  obtain ⟨n2, w2, m2, -⟩ := I.1 t ht dt
  obtain ⟨r1, e1⟩ := dp_hd I hs ds
  obtain ⟨r2, e2⟩ := dp_hd I ht dt
  rw [h] at w1
  obtain ⟨a, b, -⟩ := dp_fn w1 w2
  rw [h, e2] at e1
  have := (List.cons.inj e1).1
  subst a
  omega
theorem dp_raise (O : dp_ok S N M) (I : dp_in S N nb cut D P V) {cut' : Nat → Nat} (hm : ∀ k, k ≤ nb → cut k ≤ cut' k) (hc : ∀ k s, k ≤ nb → cut k ≤ s → s < cut' k → s / 16 < k → (16 * (s / 16) ≤ cut (s / 16) ∧ D s = 0) ∨ S (s / 16) k (s / 4 % 4) (s % 4) = none) : dp_in S N nb cut' D P V := by
  refine ⟨fun s hs h => ?_, fun k p r n' c' d' n c d hk h' h hl => ?_, I.2.2⟩
  · obtain ⟨n, w, m, g⟩ := I.1 s hs h
    refine ⟨n, w, m, ?_⟩
    rcases g with g | ⟨g1, g2, g3, g4⟩
    · exact Or.inl g
    · exact Or.inr ⟨g1, g2, Nat.lt_of_lt_of_le g3 (hm _ (by omega)), g4⟩
  · have h4 := dp_c4 O h'
    have hN := O.1
    have hmn := Nat.min_le_right n' N
    rcases Nat.lt_or_ge (16 * p + 4 * min n' N + c') (cut k) with z | z
    · exact I.2.1 k p r n' c' d' n c d hk h' h z
    · exfalso
      have hp : p < k := (dp_wy2 h).1
      have q := hc k _ hk z hl (by omega)
      rw [show (16 * p + 4 * min n' N + c') / 16 = p from by omega, show (16 * p + 4 * min n' N + c') / 4 % 4 = min n' N from by omega, show (16 * p + 4 * min n' N + c') % 4 = c' from by omega] at q
      rcases q with ⟨q1, q2⟩ | q
      · exact (dp_opt O I (by omega) q1 h').1 q2
      · obtain ⟨-, n2, c2, d2, w, h2, s2, -, -⟩ := dp_wy2 h
        obtain ⟨rfl, rfl, rfl⟩ := dp_fn h' h2
        rw [O.2.2, q] at s2
        cases s2
def dp_u (f : Nat → Nat) (k v : Nat) : Nat → Nat := fun j => if j = k then v else f j
theorem dp_us (f : Nat → Nat) (k v : Nat) : dp_u f k v k = v := if_pos rfl
theorem dp_un (f : Nat → Nat) {k j : Nat} (v : Nat) (h : j ≠ k) : dp_u f k v j = f j := if_neg h
def dp_uV (f : Nat → List Nat) (k : Nat) (v : List Nat) : Nat → List Nat := fun j => if j = k then v else f j
theorem dp_uVs (f : Nat → List Nat) (k : Nat) (v : List Nat) : dp_uV f k v k = v := if_pos rfl
theorem dp_uVn (f : Nat → List Nat) {k j : Nat} (v : List Nat) (h : j ≠ k) : dp_uV f k v j = f j := if_neg h
/-- an offer that is not better -/
theorem dp_keep (O : dp_ok S N M) (I : dp_in S N nb cut D P V) {s k c' w t : Nat} (hs : s < 16 * nb + 16) (ds : D s ≠ 0) (hp : s / 16 < k) (hk : k ≤ nb) (hcp : 16 * (s / 16) ≤ cut (s / 16)) (hck : cut k = s) (hS : S (s / 16) k (s / 4 % 4) (s % 4) = some (c', w)) (et : t = 16 * k + 4 * min (s / 4 % 4 + 1) N + c') (hw : D t ≠ 0) (hb : D t - 1 < D s - 1 + w ∨ (D t - 1 = D s - 1 + w ∧ ¬ dp_lt (V s) (V (P t)))) : dp_in S N nb (dp_u cut k (s + 1)) D P V := by
  have hN := O.1
  have hc4 := (O.2.1 _ _ _ _ _ _ hS).1
  have hmn := Nat.min_le_right (s / 4 % 4 + 1) N
  have ht : t < 16 * nb + 16 := by omega
  have key : dp_le (D t - 1) (V t) (D s - 1 + w) (k :: V s) := by
    rcases hb with hb | ⟨hb, hl⟩
    · exact Or.inl hb
    · refine Or.inr ⟨hb, ?_⟩
      obtain ⟨n, wt, -, gt⟩ := I.1 t ht hw
      rcases gt with ⟨rfl, -⟩ | ⟨g1, g2, g3, g4, g5⟩
      · omega
      · have e16 : t / 16 = k := by omega
        rw [e16] at g5
        obtain ⟨np, wp, -, -⟩ := I.1 (P t) (by omega) g4
        obtain ⟨ns, ws, -, -⟩ := I.1 s hs ds
        rw [g5]
        rcases dp_tot ws wp with z | z | z
        · exact Or.inl (by rw [z])
        · exact absurd z hl
        · exact Or.inr (by rw [dp_lt]; exact Or.inr ⟨rfl, z⟩)
  refine ⟨fun s' hs' h => ?_, fun k2 p r n' c2 d' n c d hk2 h' h hl => ?_, I.2.2⟩
  · obtain ⟨n, w', m, g⟩ := I.1 s' hs' h
    refine ⟨n, w', m, ?_⟩
    rcases g with g | ⟨g1, g2, g3, g4⟩
    · exact Or.inl g
    · refine Or.inr ⟨g1, g2, ?_, g4⟩
      by_cases e : s' / 16 = k
      · rw [e, dp_us]; rw [e, hck] at g3; omega
      · rw [dp_un _ _ e]; exact g3
  · by_cases e : k2 = k
    · subst e
      rw [dp_us] at hl
      have h4 := dp_c4 O h'
      have hmn' := Nat.min_le_right n' N
      rcases Nat.lt_or_ge (16 * p + 4 * min n' N + c2) s with z | z
      · exact I.2.1 k2 p r n' c2 d' n c d hk2 h' h (by rw [hck]; exact z)
      · have es : s = 16 * p + 4 * min n' N + c2 := by omega
        have e1 : s / 16 = p := by omega
        have e2 : s / 4 % 4 = min n' N := by omega
        have e3 : s % 4 = c2 := by omega
        rw [e1, e2, e3] at hS
        rw [e1] at hcp
        obtain ⟨-, n3, c3, d3, w3, h3, s3, rfl, rfl⟩ := dp_wy2 h
        obtain ⟨rfl, rfl, rfl⟩ := dp_fn h' h3
        rw [O.2.2, hS] at s3
        simp only [Option.some.injEq, Prod.mk.injEq] at s3
        obtain ⟨rfl, rfl⟩ := s3
        have em : min (n' + 1) N = min (min n' N + 1) N := by omega
        rw [e2] at et
        rw [em, ← et]
        obtain ⟨o1, o2⟩ := dp_opt O I (by omega) hcp h'
        rw [← es] at o2
        exact ⟨hw, dp_le_tr key (dp_le_c o2)⟩
    · rw [dp_un _ _ e] at hl
      exact I.2.1 k2 p r n' c2 d' n c d hk2 h' h hl
/-- a better offer is stored -/
theorem dp_take (O : dp_ok S N M) (I : dp_in S N nb cut D P V) {s k c' w t : Nat} (hs : s < 16 * nb + 16) (ds : D s ≠ 0) (hp : s / 16 < k) (hk : k ≤ nb) (hcp : 16 * (s / 16) ≤ cut (s / 16)) (hck : cut k = s) (hall : ∀ j, j ≤ nb → cut j ≤ 16 * k) (hS : S (s / 16) k (s / 4 % 4) (s % 4) = some (c', w)) (et : t = 16 * k + 4 * min (s / 4 % 4 + 1) N + c') (hb : D t = 0 ∨ D s - 1 + w < D t - 1 ∨ (D t - 1 = D s - 1 + w ∧ dp_lt (V s) (V (P t)))) : dp_in S N nb (dp_u cut k (s + 1)) (dp_u D t (D s - 1 + w + 1)) (dp_u P t s) (dp_uV V t (k :: V s)) := by
  have hN := O.1
  have hc4 := (O.2.1 _ _ _ _ _ _ hS).1
  have hmn := Nat.min_le_right (s / 4 % 4 + 1) N
  have ht : t < 16 * nb + 16 := by omega
  have e16 : t / 16 = k := by omega
  have hst : s ≠ t := by omega
  have h1t : 1 ≠ t := by omega
  obtain ⟨ns, ws, ms, -⟩ := I.1 s hs ds
  obtain ⟨rs, ers⟩ := dp_hd I hs ds
  have key : D t ≠ 0 → dp_le (D s - 1 + w) (k :: V s) (D t - 1) (V t) := by
    intro hw
    rcases hb with hb | hb | ⟨hb, hl⟩
    · exact absurd hb hw
    · exact Or.inl hb
    · refine Or.inr ⟨hb.symm, ?_⟩
      obtain ⟨n, wt, -, gt⟩ := I.1 t ht hw
      rcases gt with ⟨rfl, -⟩ | ⟨g1, g2, g3, g4, g5⟩
      · omega
      · rw [e16] at g5
        rw [g5]
        exact Or.inr (by rw [dp_lt]; exact Or.inr ⟨rfl, hl⟩)
  have wnew : dp_wy S (k :: V s) (ns + 1) c' (D s - 1 + w) := by
    rw [ers] at ws ⊢
    refine dp_wy_k hp ws ?_
    rw [O.2.2, ms]
    exact hS
  refine ⟨fun s' hs' h => ?_, fun k2 p r n' c2 d' n c d hk2 h' h hl => ?_, ?_⟩
  · by_cases e : s' = t
    · subst e
      rw [dp_uVs, dp_us]
      refine ⟨ns + 1, ?_, ?_, Or.inr ⟨by omega, ?_, ?_, ?_, ?_⟩⟩
      · rw [show s' % 4 = c' from by omega]; exact wnew
      · rw [show min (ns + 1) N = min (min ns N + 1) N from by omega, ms]
        omega
      · rw [dp_us, e16]; exact hp
      · rw [dp_us, e16, dp_us]; omega
      · rw [dp_us, dp_un _ _ hst]; exact ds
      · rw [dp_us, dp_uVn _ _ hst, e16]
    · rw [dp_un _ _ e] at h
      obtain ⟨n, w', m, g⟩ := I.1 s' hs' h
      rw [dp_uVn _ _ e, dp_un _ _ e, dp_un _ _ e]
      refine ⟨n, w', m, ?_⟩
      rcases g with g | ⟨g1, g2, g3, g4, g5⟩
      · exact Or.inl g
      · have hpt : P s' ≠ t := by
          have := hall (s' / 16) (by omega)
          omega
        refine Or.inr ⟨g1, g2, ?_, ?_, ?_⟩
        · by_cases e : s' / 16 = k
          · rw [e, dp_us]; rw [e, hck] at g3; omega
          · rw [dp_un _ _ e]; exact g3
        · rw [dp_un _ _ hpt]; exact g4
        · rw [dp_uVn _ _ hpt]; exact g5
  · have fin : ∀ {d0 : Nat} {W0 : List Nat} (t0 : Nat), D t0 ≠ 0 ∧ dp_le (D t0 - 1) (V t0) d0 W0 → dp_u D t (D s - 1 + w + 1) t0 ≠ 0 ∧ dp_le (dp_u D t (D s - 1 + w + 1) t0 - 1) (dp_uV V t (k :: V s) t0) d0 W0 := by
      intro d0 W0 t0 h0
      by_cases e : t0 = t
      · subst e
        rw [dp_us, dp_uVs]
        exact ⟨by omega, dp_le_tr (key h0.1) h0.2⟩
      · rw [dp_un _ _ e, dp_uVn _ _ e]; exact h0
    by_cases e : k2 = k
    · subst e
      rw [dp_us] at hl
      have h4 := dp_c4 O h'
      have hmn' := Nat.min_le_right n' N
      rcases Nat.lt_or_ge (16 * p + 4 * min n' N + c2) s with z | z
      · exact fin _ (I.2.1 k2 p r n' c2 d' n c d hk2 h' h (by rw [hck]; exact z))
      · have es : s = 16 * p + 4 * min n' N + c2 := by omega
        have e1 : s / 16 = p := by omega
        have e2 : s / 4 % 4 = min n' N := by omega
        have e3 : s % 4 = c2 := by omega
        rw [e1, e2, e3] at hS
        rw [e1] at hcp
        obtain ⟨-, n3, c3, d3, w3, h3, s3, rfl, rfl⟩ := dp_wy2 h
        obtain ⟨rfl, rfl, rfl⟩ := dp_fn h' h3
        rw [O.2.2, hS] at s3
        simp only [Option.some.injEq, Prod.mk.injEq] at s3
        obtain ⟨rfl, rfl⟩ := s3
        have em : min (n' + 1) N = min (min n' N + 1) N := by omega
        rw [e2] at et
        rw [em, ← et, dp_us, dp_uVs]
        obtain ⟨o1, o2⟩ := dp_opt O I (by omega) hcp h'
        rw [← es] at o2
        exact ⟨by omega, dp_le_c o2⟩
    · rw [dp_un _ _ e] at hl
      exact fin _ (I.2.1 k2 p r n' c2 d' n c d hk2 h' h hl)
  · rw [dp_un _ _ h1t]; exact I.2.2
end
/-- W with demerits d is the best way to break nb -/
def dp_bs (S : Nat → Nat → Nat → Nat → Option (Nat × Nat)) (nb : Nat) (x : List Nat × Nat) : Prop :=
  (∃ r, x.1 = nb :: r) ∧ (∃ n c, dp_wy S x.1 n c x.2) ∧ ∀ r n c d, dp_wy S (nb :: r) n c d → dp_le x.2 x.1 d (nb :: r)
theorem dp_bs_u {S : Nat → Nat → Nat → Nat → Option (Nat × Nat)} {nb : Nat} {x y : List Nat × Nat} (h : dp_bs S nb x) (g : dp_bs S nb y) : x = y := by
  obtain ⟨⟨r, er⟩, ⟨n, c, w⟩, b⟩ := h
  obtain ⟨⟨r', er'⟩, ⟨n', c', w'⟩, b'⟩ := g
  rw [er] at w b
  rw [er'] at w' b'
  obtain ⟨h1, h2⟩ := dp_le_as (b _ _ _ _ w') (b' _ _ _ _ w)
  exact Prod.ext (by rw [er, er', h2]) h1
noncomputable def dp_o (S : Nat → Nat → Nat → Nat → Option (Nat × Nat)) (nb : Nat) : Option (List Nat × Nat) :=
  @dite _ (∃ x, dp_bs S nb x) (Classical.propDecidable _) (fun h => some (Classical.choose h)) (fun _ => none)
theorem dp_o_s {S : Nat → Nat → Nat → Nat → Option (Nat × Nat)} {nb : Nat} {x : List Nat × Nat} (h : dp_bs S nb x) : dp_o S nb = some x := by
  unfold dp_o
  rw [dif_pos ⟨x, h⟩]
  exact congrArg some (dp_bs_u (Classical.choose_spec (p := dp_bs S nb) ⟨x, h⟩) h)
theorem dp_o_n {S : Nat → Nat → Nat → Nat → Option (Nat × Nat)} {nb : Nat} (h : ∀ r n c d, ¬ dp_wy S (nb :: r) n c d) : dp_o S nb = none := by
  unfold dp_o
  rw [dif_neg]
  rintro ⟨x, ⟨r, er⟩, ⟨n, c, w⟩, -⟩
  rw [er] at w
  exact h _ _ _ _ w
section
variable {S : Nat → Nat → Nat → Nat → Option (Nat × Nat)} {N nb M : Nat} {cut : Nat → Nat} {D P : Nat → Nat} {V : Nat → List Nat}
theorem dp_end_s (O : dp_ok S N M) (I : dp_in S N nb cut D P V) (hc : 16 * nb ≤ cut nb) {b : Nat} (hb : 16 * nb ≤ b) (hb2 : b < 16 * nb + 16) (db : D b ≠ 0) (h : ∀ s, 16 * nb ≤ s → s < 16 * nb + 16 → D s ≠ 0 → dp_le (D b - 1) (V b) (D s - 1) (V s)) : dp_o S nb = some (V b, D b - 1) := by
  apply dp_o_s
  obtain ⟨n, w, -, -⟩ := I.1 b hb2 db
  obtain ⟨r, er⟩ := dp_hd I hb2 db
  rw [show b / 16 = nb from by omega] at er
  refine ⟨⟨r, er⟩, ⟨n, _, w⟩, fun r' n' c' d' w' => ?_⟩
  obtain ⟨o1, o2⟩ := dp_opt O I (Nat.le_refl _) hc w'
  have h4 := dp_c4 O w'
  have hN := O.1
  have := Nat.min_le_right n' N
  exact dp_le_tr (h _ (by omega) (by omega) o1) o2
theorem dp_end_n (O : dp_ok S N M) (I : dp_in S N nb cut D P V) (hc : 16 * nb ≤ cut nb) (h : ∀ s, 16 * nb ≤ s → s < 16 * nb + 16 → D s = 0) : dp_o S nb = none := by
  apply dp_o_n
  intro r n c d w
  obtain ⟨o1, o2⟩ := dp_opt O I (Nat.le_refl _) hc w
  have h4 := dp_c4 O w
  have hN := O.1
  have := Nat.min_le_right n N
  exact o1 (h _ (by omega) (by omega))
end
end
section
/-! words, hyphens, breaks -/
def wo_w (e : gv_T) (s t : Nat) : Prop := s < t ∧ (∀ j, s ≤ j → j < t → gv_isL e j) ∧ (∀ j, s = j + 1 → ¬ gv_isL e j) ∧ ¬ gv_isL e t
theorem wo_u {e : gv_T} {s t s' t' q : Nat} (h : wo_w e s t) (g : wo_w e s' t') (h1 : s ≤ q) (h2 : q < t) (h3 : s' ≤ q) (h4 : q < t') : s = s' ∧ t = t' := by
  constructor
  · rcases Nat.lt_trichotomy s s' with z | z | z
    · exact absurd (h.2.1 (s' - 1) (by omega) (by omega)) (g.2.2.1 (s' - 1) (by omega))
    · exact z
    · exact absurd (g.2.1 (s - 1) (by omega) (by omega)) (h.2.2.1 (s - 1) (by omega))
  · rcases Nat.lt_trichotomy t t' with z | z | z
    · exact absurd (g.2.1 t (by omega) (by omega)) h.2.2.2
    · exact z
    · exact absurd (h.2.1 t' (by omega) (by omega)) g.2.2.2
def hy_nl (e : gv_T) (p : Nat) : Nat := if gv_pb e p = 0 then 1 else if gv_pc e p = 0 then 2 else 3
def hy_lt (e : gv_T) (p k : Nat) : Nat := if k = 0 then gv_pa e p else if k = 1 then gv_pb e p - 1 else gv_pc e p - 1
def hy_dg (e : gv_T) (p k : Nat) : Nat := gv_pd e p / 10 ^ (hy_nl e p - k) % 10
/-- the letter at place j - 1 of the word from s to t, 10 before and behind it -/
def hy_wc (e : gv_T) (s t j : Nat) : Nat := if j = s then 10 else if j = t + 1 then 10 else gv_tx e (j - 1)
def hy_mt (e : gv_T) (p o s t : Nat) : Prop := ∀ k, k < hy_nl e p → hy_wc e s t (o + k) = hy_lt e p k
def hy_D (e : gv_T) (s t i d : Nat) : Prop := ∃ p k, p < gv_np e ∧ k ≤ hy_nl e p ∧ hy_mt e p (i + 1 - k) s t ∧ d = hy_dg e p k
def hy_mx (Q : Nat → Prop) (m : Nat) : Prop := (m = 0 ∨ Q m) ∧ ∀ d, Q d → d ≤ m
theorem hy_mx_u {Q : Nat → Prop} {m m' : Nat} (h : hy_mx Q m) (g : hy_mx Q m') : m = m' := by
  have a : m ≤ m' := by
    rcases h.1 with z | z
    · omega
    · exact g.2 _ z
  have b : m' ≤ m := by
    rcases g.1 with z | z
    · omega
    · exact h.2 _ z
  omega
def hy_ok (e : gv_T) (s t i : Nat) : Prop := s + 2 ≤ i ∧ i + 2 ≤ t ∧ ∃ m, hy_mx (hy_D e s t i) m ∧ m % 2 = 1
def hy_at (e : gv_T) (q : Nat) : Prop := ∃ s t, wo_w e s t ∧ s ≤ q ∧ q < t ∧ hy_ok e s t q
noncomputable def hy_b (e : gv_T) (q : Nat) : Bool := @decide (hy_at e q) (Classical.propDecidable _)
theorem hy_b_t {e : gv_T} {q : Nat} : hy_b e q = true ↔ hy_at e q := by
  unfold hy_b
  exact @decide_eq_true_iff _ (Classical.propDecidable _)
theorem hy_b_f {e : gv_T} {q : Nat} : hy_b e q = false ↔ ¬ hy_at e q := by
  rw [← hy_b_t]
  exact (Bool.not_eq_true _).symm ▸ Iff.rfl
theorem hy_at_w {e : gv_T} {s t q : Nat} (h : wo_w e s t) (h1 : s ≤ q) (h2 : q < t) : hy_at e q ↔ hy_ok e s t q := by
  constructor
  · rintro ⟨s', t', g, h3, h4, h5⟩
    obtain ⟨rfl, rfl⟩ := wo_u h g h1 h2 h3 h4
    exact h5
  · exact fun g => ⟨s, t, h, h1, h2, g⟩
/-- a break ends at place q -/
def bk_is (e : gv_T) (q : Nat) : Prop := (∃ j, q = j + 1 ∧ gv_isL e j ∧ ¬ gv_isL e q) ∨ hy_at e q
noncomputable def bk_b (e : gv_T) (q : Nat) : Bool := @decide (bk_is e q) (Classical.propDecidable _)
theorem bk_b_t {e : gv_T} {q : Nat} : bk_b e q = true ↔ bk_is e q := by
  unfold bk_b
  exact @decide_eq_true_iff _ (Classical.propDecidable _)
theorem hy_at_l {e : gv_T} {q : Nat} (h : hy_at e q) : gv_isL e q ∧ ∃ j, q = j + 1 ∧ gv_isL e j := by
  obtain ⟨s, t, w, h1, h2, h3, h4, -⟩ := h
  exact ⟨w.2.1 q h1 h2, q - 1, by omega, w.2.1 (q - 1) (by omega) (by omega)⟩
theorem bk_is_l {e : gv_T} {q : Nat} (h : bk_is e q) : ∃ j, q = j + 1 ∧ gv_isL e j := by
  rcases h with ⟨j, h1, h2, -⟩ | h
  · exact ⟨j, h1, h2⟩
  · exact (hy_at_l h).2
noncomputable def bk_n (e : gv_T) (a : Nat) : Nat → Nat
  | 0 => 0
  | n + 1 => if bk_b e (a + n + 1) = true then bk_n e a n + 1 else bk_n e a n
noncomputable def bk_e (e : gv_T) (a : Nat) : Nat → Nat → Nat
  | 0 => fun _ => a
  | n + 1 => if bk_b e (a + n + 1) = true then dp_u (bk_e e a n) (bk_n e a n + 1) (a + n + 1) else bk_e e a n
theorem bk_n_t {e : gv_T} {a n : Nat} (h : bk_is e (a + n + 1)) : bk_n e a (n + 1) = bk_n e a n + 1 := if_pos (bk_b_t.mpr h)
theorem bk_n_f {e : gv_T} {a n : Nat} (h : ¬ bk_is e (a + n + 1)) : bk_n e a (n + 1) = bk_n e a n := if_neg (fun z => h (bk_b_t.mp z))
theorem bk_e_t {e : gv_T} {a n : Nat} (h : bk_is e (a + n + 1)) : bk_e e a (n + 1) = dp_u (bk_e e a n) (bk_n e a n + 1) (a + n + 1) := if_pos (bk_b_t.mpr h)
theorem bk_e_f {e : gv_T} {a n : Nat} (h : ¬ bk_is e (a + n + 1)) : bk_e e a (n + 1) = bk_e e a n := if_neg (fun z => h (bk_b_t.mp z))
theorem bk_e0 (e : gv_T) (a : Nat) : ∀ n, bk_e e a n 0 = a
  | 0 => rfl
  | n + 1 => by
    rcases Classical.em (bk_is e (a + n + 1)) with h | h
    · rw [bk_e_t h, dp_un _ _ (by omega)]; exact bk_e0 e a n
    · rw [bk_e_f h]; exact bk_e0 e a n
theorem bk_n_le (e : gv_T) (a : Nat) : ∀ n, bk_n e a n ≤ n
  | 0 => Nat.le_refl _
  | n + 1 => by
    have := bk_n_le e a n
    rcases Classical.em (bk_is e (a + n + 1)) with h | h
    · rw [bk_n_t h]; omega
    · rw [bk_n_f h]; omega
theorem bk_fa (e : gv_T) (a : Nat) : ∀ n, (∀ k, k ≤ bk_n e a n → a + k ≤ bk_e e a n k ∧ bk_e e a n k ≤ a + n) ∧ (∀ k, 1 ≤ k → k ≤ bk_n e a n → bk_is e (bk_e e a n k)) ∧ (∀ k k', k < k' → k' ≤ bk_n e a n → bk_e e a n k < bk_e e a n k') ∧ (∀ q, a < q → q ≤ a + n → bk_is e q → ∃ k, 1 ≤ k ∧ k ≤ bk_n e a n ∧ bk_e e a n k = q)
  | 0 => ⟨fun k hk => by
      have : k = 0 := by have : k ≤ 0 := hk; omega
      subst this
      show a + 0 ≤ a ∧ a ≤ a + 0
      omega, fun k h1 h2 => by have : k ≤ 0 := h2; omega, fun k k' h1 h2 => by have : k' ≤ 0 := h2; omega, fun q h1 h2 => by omega⟩
  | n + 1 => by
    obtain ⟨i1, i2, i3, i4⟩ := bk_fa e a n
    have hn := bk_n_le e a n
    rcases Classical.em (bk_is e (a + n + 1)) with h | h
    · rw [bk_n_t h, bk_e_t h]
      refine ⟨fun k hk => ?_, fun k h1 hk => ?_, fun k k' h1 hk => ?_, fun q h1 h2 hq => ?_⟩
      · by_cases ek : k = bk_n e a n + 1
        · rw [ek, dp_us]; omega
        · rw [dp_un _ _ ek]; have := i1 k (by omega); omega
      · by_cases ek : k = bk_n e a n + 1
        · rw [ek, dp_us]; exact h
        · rw [dp_un _ _ ek]; exact i2 k h1 (by omega)
      · by_cases ek : k' = bk_n e a n + 1
        · rw [ek, dp_us, dp_un _ _ (by omega)]
          have := i1 k (by omega); omega
        · rw [dp_un _ _ ek, dp_un _ _ (by omega)]; exact i3 k k' h1 (by omega)
      · by_cases eq : q = a + n + 1
        · exact ⟨_, by omega, Nat.le_refl _, by rw [dp_us, eq]⟩
        · obtain ⟨k, k1, k2, k3⟩ := i4 q h1 (by omega) hq
          exact ⟨k, k1, by omega, by rw [dp_un _ _ (by omega)]; exact k3⟩
    · rw [bk_n_f h, bk_e_f h]
      refine ⟨fun k hk => ?_, i2, i3, fun q h1 h2 hq => ?_⟩
      · have := i1 k hk; omega
      · by_cases eq : q = a + n + 1
        · subst eq; exact absurd hq h
        · exact i4 q h1 (by omega) hq
/-- the first letter from a place on -/
def wo_fl (e : gv_T) : Nat → Nat → Nat
  | 0, q => q
  | n + 1, q => if gv_isL e q then q else wo_fl e n (q + 1)
theorem wo_fl_eq {e : gv_T} : ∀ {n q j : Nat}, q ≤ j → j ≤ q + n → (∀ i, q ≤ i → i < j → ¬ gv_isL e i) → gv_isL e j → wo_fl e n q = j
  | 0, q, j, h1, h2, _, _ => by show q = j; omega
  | n + 1, q, j, h1, h2, h3, h4 => by
    by_cases eq : q = j
    · subst eq; exact if_pos h4
    · show (if gv_isL e q then q else wo_fl e n (q + 1)) = j
      rw [if_neg (h3 q (Nat.le_refl _) (by omega))]
      exact wo_fl_eq (by omega) (by omega) (fun i a b => h3 i (by omega) b) h4
theorem wo_fl_ex {e : gv_T} : ∀ {n q j : Nat}, q ≤ j → j ≤ q + n → gv_isL e j → gv_isL e (wo_fl e n q) ∧ q ≤ wo_fl e n q ∧ wo_fl e n q ≤ j ∧ ∀ i, q ≤ i → i < wo_fl e n q → ¬ gv_isL e i
  | 0, q, j, h1, h2, h4 => by
    have : q = j := by omega
    subst this
    exact ⟨h4, Nat.le_refl _, Nat.le_refl _, fun i a (b : i < q) => by omega⟩
  | n + 1, q, j, h1, h2, h4 => by
    by_cases hq : gv_isL e q
    · have : wo_fl e (n + 1) q = q := if_pos hq
      rw [this]
      exact ⟨hq, Nat.le_refl _, h1, fun i a b => by omega⟩
    · have : wo_fl e (n + 1) q = wo_fl e n (q + 1) := if_neg hq
      rw [this]
      have hj : q ≠ j := fun z => hq (z ▸ h4)
      obtain ⟨a1, a2, a3, a4⟩ := wo_fl_ex (n := n) (q := q + 1) (j := j) (by omega) (by omega) h4
      refine ⟨a1, by omega, a3, fun i b1 b2 => ?_⟩
      by_cases ei : i = q
      · rw [ei]; exact hq
      · exact a4 i (by omega) b2
/-! a paragraph from a to z: its breaks, lines between them, the step function -/
noncomputable def pr_nb (e : gv_T) (a z : Nat) : Nat := bk_n e a (z - a)
noncomputable def pr_en (e : gv_T) (a z k : Nat) : Nat := bk_e e a (z - a) k
noncomputable def pr_bg (e : gv_T) (a z k : Nat) : Nat := wo_fl e 48 (pr_en e a z k)
noncomputable def pr_hy (e : gv_T) (a z k : Nat) : Bool := if k = 0 then false else hy_b e (pr_en e a z k)
noncomputable def pr_w (e : gv_T) (a z p k : Nat) : Nat := sh_nw e (pr_bg e a z p) (pr_en e a z k) + (if pr_hy e a z k = true then 5 else 0)
noncomputable def pr_s (e : gv_T) (a z p k : Nat) : Nat := sh_ns e (pr_bg e a z p) (pr_en e a z k)
noncomputable def pr_bd (e : gv_T) (a z p k n : Nat) : Nat := bq_c e (bq_tg e n) (pr_w e a z p k) (pr_s e a z p k) (decide (k = pr_nb e a z))
noncomputable def pr_cl (e : gv_T) (a z p k n : Nat) : Nat := bq_cl (bq_tg e n) (pr_w e a z p k) (pr_bd e a z p k n - 1)
noncomputable def pr_ct (e : gv_T) (a z p k n c : Nat) : Nat :=
  (10 + (pr_bd e a z p k n - 1)) * (10 + (pr_bd e a z p k n - 1)) + (if pr_hy e a z k = true then gv_cs e * gv_cs e else 0) + (if pr_hy e a z k = true ∧ pr_hy e a z p = true then 3000 else 0) + (if c + 1 < pr_cl e a z p k n ∨ pr_cl e a z p k n + 1 < c then 2000 else 0)
noncomputable def pr_S (e : gv_T) (a z p k n c : Nat) : Option (Nat × Nat) :=
  if pr_bd e a z p k n = 0 ∨ gv_tl e < pr_bd e a z p k n - 1 then none else some (pr_cl e a z p k n, pr_ct e a z p k n c)
theorem pr_S_n {e : gv_T} {a z p k n c : Nat} (h : pr_bd e a z p k n = 0 ∨ gv_tl e < pr_bd e a z p k n - 1) : pr_S e a z p k n c = none := if_pos h
theorem pr_S_s {e : gv_T} {a z p k n c : Nat} (h : ¬ (pr_bd e a z p k n = 0 ∨ gv_tl e < pr_bd e a z p k n - 1)) : pr_S e a z p k n c = some (pr_cl e a z p k n, pr_ct e a z p k n c) := if_neg h
theorem bq_tg_m {e : gv_T} {N : Nat} (h : gv_nr e ≤ N) (n : Nat) : bq_tg e (min n N) = bq_tg e n := by
  unfold bq_tg
  by_cases hn : n < gv_nr e
  · rw [if_pos hn, if_pos (by omega)]
  · rw [if_neg hn, if_neg (by omega)]
theorem pr_ok {e : gv_T} (E : gv_okM e) (a z : Nat) {N : Nat} (h : gv_nr e ≤ N) (h3 : N ≤ 3) : dp_ok (pr_S e a z) N 110000000 := by
  refine ⟨h3, fun p k n c c' w hs => ?_, fun p k n c => ?_⟩
  · by_cases hb : pr_bd e a z p k n = 0 ∨ gv_tl e < pr_bd e a z p k n - 1
    · rw [pr_S_n hb] at hs; cases hs
    · rw [pr_S_s hb] at hs
      simp only [Option.some.injEq, Prod.mk.injEq] at hs
      obtain ⟨rfl, rfl⟩ := hs
      refine ⟨bq_cl4 _ _ _, ?_⟩
      have hb := bq_b e (bq_tg e n) (pr_w e a z p k) (pr_s e a z p k) (decide (k = pr_nb e a z))
      have h1 : (10 + (pr_bd e a z p k n - 1)) * (10 + (pr_bd e a z p k n - 1)) ≤ 10010 * 10010 := Nat.mul_le_mul (by unfold pr_bd; omega) (by unfold pr_bd; omega)
      have h2 : gv_cs e * gv_cs e ≤ 200 * 200 := Nat.mul_le_mul E.2.2.2.2.2.2.2.1 E.2.2.2.2.2.2.2.1
      have h3 : (if pr_hy e a z k = true then gv_cs e * gv_cs e else 0) ≤ 200 * 200 := by split <;> omega
      have h4 : (if pr_hy e a z k = true ∧ pr_hy e a z p = true then 3000 else 0) ≤ 3000 := by split <;> omega
      have h5 : (if c + 1 < pr_cl e a z p k n ∨ pr_cl e a z p k n + 1 < c then 2000 else 0) ≤ 2000 := by split <;> omega
      unfold pr_ct
      omega
  · have hb : pr_bd e a z p k (min n N) = pr_bd e a z p k n := by unfold pr_bd; rw [bq_tg_m h]
    have hc : pr_cl e a z p k (min n N) = pr_cl e a z p k n := by unfold pr_cl; rw [bq_tg_m h, hb]
    unfold pr_S pr_ct
    rw [hb, hc]
/-- emergency: the farthest break that is not overfull -/
noncomputable def pr_eg (e : gv_T) (a z p n : Nat) : Nat → Nat
  | 0 => p + 1
  | m + 1 => if m ≤ p then p + 1 else if pr_bd e a z p (m + 1) n = 0 then pr_eg e a z p n m else m + 1
noncomputable def pr_em (e : gv_T) (a z : Nat) : Nat → Nat → Nat → List Nat
  | 0, _, _ => []
  | f + 1, p, n => if pr_nb e a z ≤ p then [] else pr_eg e a z p n (pr_nb e a z) :: pr_em e a z f (pr_eg e a z p n (pr_nb e a z)) (n + 1)
theorem pr_eg_b (e : gv_T) (a z p n : Nat) : ∀ m, p + 1 ≤ pr_eg e a z p n m ∧ (pr_eg e a z p n m ≤ m ∨ pr_eg e a z p n m = p + 1)
  | 0 => ⟨Nat.le_refl _, Or.inr rfl⟩
  | m + 1 => by
    have := pr_eg_b e a z p n m
    unfold pr_eg
    split
    · exact ⟨Nat.le_refl _, Or.inr rfl⟩
    · split
      · exact ⟨this.1, this.2.elim (fun z => Or.inl (by omega)) Or.inr⟩
      · exact ⟨by omega, Or.inl (Nat.le_refl _)⟩
noncomputable def pr_wl (e : gv_T) (a z : Nat) : List Nat := match dp_o (pr_S e a z) (pr_nb e a z) with
  | some x => x.1.reverse.tail
  | none => pr_em e a z (pr_nb e a z) 0 0
noncomputable def pr_sm (e : gv_T) (a z : Nat) : Int64 := match dp_o (pr_S e a z) (pr_nb e a z) with
  | some x => lN x.2
  | none => -1
theorem pr_wl_s {e : gv_T} {a z : Nat} {x : List Nat × Nat} (h : dp_o (pr_S e a z) (pr_nb e a z) = some x) : pr_wl e a z = x.1.reverse.tail ∧ pr_sm e a z = lN x.2 := by
  unfold pr_wl pr_sm; rw [h]; exact ⟨rfl, rfl⟩
theorem pr_wl_n {e : gv_T} {a z : Nat} (h : dp_o (pr_S e a z) (pr_nb e a z) = none) : pr_wl e a z = pr_em e a z (pr_nb e a z) 0 0 ∧ pr_sm e a z = -1 := by
  unfold pr_wl pr_sm; rw [h]; exact ⟨rfl, rfl⟩
/-- a way goes up from p to nb -/
def wl_ok (nb : Nat) : Nat → List Nat → Prop
  | p, [] => p = nb
  | p, k :: r => p < k ∧ k ≤ nb ∧ wl_ok nb k r
theorem wl_em (e : gv_T) (a z : Nat) : ∀ f p n, pr_nb e a z ≤ p + f → p ≤ pr_nb e a z → wl_ok (pr_nb e a z) p (pr_em e a z f p n)
  | 0, p, n, h, h2 => by show p = _; omega
  | f + 1, p, n, h, h2 => by
    unfold pr_em
    split
    · show p = _; omega
    · have := pr_eg_b e a z p n (pr_nb e a z)
      have h3 : pr_eg e a z p n (pr_nb e a z) ≤ pr_nb e a z := by rcases this.2 with q | q <;> omega
      exact ⟨by omega, h3, wl_em e a z f _ _ (by omega) h3⟩
theorem wl_dp {S : Nat → Nat → Nat → Nat → Option (Nat × Nat)} (nb : Nat) : ∀ {W : List Nat} {n c d : Nat} {k : Nat} {r acc : List Nat}, W = k :: r → dp_wy S W n c d → wl_ok nb k acc → k ≤ nb → wl_ok nb 0 ((W.reverse ++ acc).tail)
  | [], _, _, _, _, _, _, h, _, _, _ => by cases h
  | [k0], n, c, d, k, r, acc, h, w, g, _ => by
    obtain ⟨rfl, -⟩ := dp_wy1 w
    cases h
    exact g
  | k0 :: p :: r0, n, c, d, k, r, acc, h, w, g, hk => by
    obtain ⟨h1, h2⟩ := List.cons.inj h
    subst h1
    obtain ⟨hp, n', c', d', w', h', -, -, -⟩ := dp_wy2 w
    have e : (k0 :: p :: r0).reverse ++ acc = (p :: r0).reverse ++ (k0 :: acc) := by simp
    rw [e]
    exact wl_dp nb rfl h' (show wl_ok nb p (k0 :: acc) from ⟨hp, hk, g⟩) (by omega)
theorem wl_all (e : gv_T) (a z : Nat) : wl_ok (pr_nb e a z) 0 (pr_wl e a z) := by
  cases h : dp_o (pr_S e a z) (pr_nb e a z) with
  | none =>
    rw [(pr_wl_n h).1]
    exact wl_em e a z _ 0 0 (by omega) (Nat.zero_le _)
  | some x =>
    rw [(pr_wl_s h).1]
    have hb : dp_bs (pr_S e a z) (pr_nb e a z) x := by
      unfold dp_o at h
      by_cases hx : ∃ x, dp_bs (pr_S e a z) (pr_nb e a z) x
      · rw [dif_pos hx] at h
        cases h
        exact Classical.choose_spec hx
      · rw [dif_neg hx] at h; cases h
    obtain ⟨⟨r, er⟩, ⟨n, c, w⟩, -⟩ := hb
    have := wl_dp (pr_nb e a z) (acc := []) er w rfl (Nat.le_refl _)
    rw [List.append_nil] at this
    exact this
end
section
/-! all lines: from, to, hyphen, number in the paragraph, last one, paragraph, width, badness + 1 -/
abbrev li_T : Type := Nat × Nat × Bool × Nat × Bool × Nat × Nat × Nat
def li_f (x : li_T) : Nat := x.1
def li_t (x : li_T) : Nat := x.2.1
def li_h (x : li_T) : Bool := x.2.2.1
def li_n (x : li_T) : Nat := x.2.2.2.1
def li_l (x : li_T) : Bool := x.2.2.2.2.1
def li_p (x : li_T) : Nat := x.2.2.2.2.2.1
def li_w (x : li_T) : Nat := x.2.2.2.2.2.2.1
def li_b (x : li_T) : Nat := x.2.2.2.2.2.2.2
noncomputable def li_mk (e : gv_T) (a z par p k j : Nat) : li_T := (pr_bg e a z p, pr_en e a z k, pr_hy e a z k, j, decide (k = pr_nb e a z), par, pr_w e a z p k, pr_bd e a z p k j)
def li_ap (s : Nat × (Nat → li_T)) (x : li_T) : Nat × (Nat → li_T) := (s.1 + 1, fun i => if i = s.1 then x else s.2 i)
noncomputable def li_pl (e : gv_T) (a z par : Nat) : List Nat → Nat → Nat → Nat × (Nat → li_T) → Nat × (Nat → li_T)
  | [], _, _, s => s
  | k :: r, p, j, s => li_pl e a z par r k (j + 1) (li_ap s (li_mk e a z par p k j))
theorem li_ap_s (s : Nat × (Nat → li_T)) (x : li_T) : (li_ap s x).2 s.1 = x := if_pos rfl
theorem li_ap_n {s : Nat × (Nat → li_T)} {x : li_T} {i : Nat} (h : i ≠ s.1) : (li_ap s x).2 i = s.2 i := if_neg h
/-- where a paragraph may lie -/
def pd_ok (e : gv_T) (a z : Nat) : Prop := a ≤ z ∧ z ≤ gv_ln e ∧ (∀ j, a ≤ j → j < z → gv_tx e j ≠ 11) ∧ ¬ gv_isL e z ∧ (∀ j, a = j + 1 → ¬ gv_isL e j)
theorem pr_en_b {e : gv_T} {a z : Nat} (h : a ≤ z) {k : Nat} (hk : k ≤ pr_nb e a z) : a + k ≤ pr_en e a z k ∧ pr_en e a z k ≤ z := by
  have := (bk_fa e a (z - a)).1 k hk
  unfold pr_en
  omega
theorem pr_en_m {e : gv_T} {a z k k' : Nat} (h : k < k') (hk : k' ≤ pr_nb e a z) : pr_en e a z k < pr_en e a z k' := (bk_fa e a (z - a)).2.2.1 k k' h hk
theorem pr_en_is {e : gv_T} {a z k : Nat} (h : 1 ≤ k) (hk : k ≤ pr_nb e a z) : bk_is e (pr_en e a z k) := (bk_fa e a (z - a)).2.1 k h hk
theorem pr_en_ex {e : gv_T} {a z q : Nat} (h1 : a < q) (h2 : q ≤ z) (hq : bk_is e q) : ∃ k, 1 ≤ k ∧ k ≤ pr_nb e a z ∧ pr_en e a z k = q := (bk_fa e a (z - a)).2.2.2 q h1 (by omega) hq
theorem pr_nb_b {e : gv_T} {a z : Nat} : pr_nb e a z ≤ z - a := bk_n_le e a (z - a)
theorem pr_en_0 (e : gv_T) (a z : Nat) : pr_en e a z 0 = a := bk_e0 e a (z - a)
theorem pr_bg_b {e : gv_T} (E : gv_okF e) {a z k : Nat} (hk : k < pr_nb e a z) : gv_isL e (pr_bg e a z k) ∧ pr_en e a z k ≤ pr_bg e a z k ∧ pr_bg e a z k < pr_en e a z (k + 1) ∧ ∀ i, pr_en e a z k ≤ i → i < pr_bg e a z k → ¬ gv_isL e i := by
  obtain ⟨j, hj, hl⟩ := bk_is_l (pr_en_is (k := k + 1) (by omega) hk)
  have hm : pr_en e a z k < pr_en e a z (k + 1) := pr_en_m (Nat.lt_succ_self k) hk
  have h48 := E.1
  have hl1 := hl.1
  obtain ⟨a1, a2, a3, a4⟩ := wo_fl_ex (e := e) (n := 48) (q := pr_en e a z k) (j := j) (by omega) (by omega) hl
  exact ⟨a1, a2, by unfold pr_bg; omega, a4⟩
theorem pr_bg_lt {e : gv_T} (E : gv_okF e) {a z p k : Nat} (h : p < k) (hk : k ≤ pr_nb e a z) : pr_bg e a z p < pr_en e a z k := by
  have h1 := (pr_bg_b E (a := a) (z := z) (k := p) (by omega)).2.2.1
  rcases Nat.lt_or_ge (p + 1) k with q | q
  · have := pr_en_m q hk; omega
  · rw [show k = p + 1 from by omega]; exact h1
def li_ok (e : gv_T) (x : li_T) : Prop := li_f x < li_t x ∧ li_t x ≤ gv_ln e ∧ (∀ j, li_f x ≤ j → j < li_t x → gv_tx e j ≠ 11) ∧ gv_isL e (li_f x) ∧ (∀ j, li_t x = j + 1 → gv_isL e j) ∧ li_w x = sh_nw e (li_f x) (li_t x) + (if li_h x = true then 5 else 0) ∧ li_b x = bq_c e (bq_tg e (li_n x)) (li_w x) (sh_ns e (li_f x) (li_t x)) (li_l x)
theorem li_mk_ok {e : gv_T} (E : gv_okF e) {a z par p k j : Nat} (Z : pd_ok e a z) (h : p < k) (hk : k ≤ pr_nb e a z) : li_ok e (li_mk e a z par p k j) := by
  have hb := pr_bg_b E (a := a) (z := z) (k := p) (by omega)
  have he := pr_en_b Z.1 hk
  have hp := pr_en_b Z.1 (e := e) (k := p) (by omega)
  refine ⟨pr_bg_lt E h hk, Nat.le_trans he.2 Z.2.1, fun q h1 h2 => Z.2.2.1 q ?_ ?_, hb.1, fun q hq => ?_, rfl, rfl⟩
  · have : pr_bg e a z p ≤ q := h1
    omega
  · have : q < pr_en e a z k := h2
    omega
  · obtain ⟨q', e1, e2⟩ := bk_is_l (pr_en_is (k := k) (by omega) hk)
    have : pr_en e a z k = q + 1 := hq
    have : q = q' := by omega
    rw [this]; exact e2
/-- the lines set so far (n of them, of np closed paragraphs, up to place pos) -/
def li_cl (e : gv_T) (n : Nat) (g : Nat → li_T) (np pos : Nat) : Prop :=
  (∀ k, k < n → li_ok e (g k) ∧ li_p (g k) < np ∧ li_t (g k) ≤ pos) ∧
  (∀ k, k + 1 < n → li_t (g k) ≤ li_f (g (k + 1)) ∧ ((li_p (g k) = li_p (g (k + 1)) ∧ li_n (g (k + 1)) = li_n (g k) + 1 ∧ li_l (g k) = false) ∨ (li_p (g k) < li_p (g (k + 1)) ∧ li_n (g (k + 1)) = 0 ∧ li_l (g k) = true))) ∧
  (0 < n → li_n (g 0) = 0 ∧ li_l (g (n - 1)) = true) ∧
  (∀ q, q < pos → gv_isL e q → ∃ k, k < n ∧ li_f (g k) ≤ q ∧ q < li_t (g k))
/-- the same in a paragraph of which j lines up to break p are set -/
def li_op (e : gv_T) (a z : Nat) (s : Nat × (Nat → li_T)) (np p j : Nat) : Prop :=
  (∀ k, k < s.1 → li_ok e (s.2 k) ∧ li_p (s.2 k) < np + 1 ∧ li_t (s.2 k) ≤ pr_en e a z p) ∧
  (∀ k, k + 1 < s.1 → li_t (s.2 k) ≤ li_f (s.2 (k + 1)) ∧ ((li_p (s.2 k) = li_p (s.2 (k + 1)) ∧ li_n (s.2 (k + 1)) = li_n (s.2 k) + 1 ∧ li_l (s.2 k) = false) ∨ (li_p (s.2 k) < li_p (s.2 (k + 1)) ∧ li_n (s.2 (k + 1)) = 0 ∧ li_l (s.2 k) = true))) ∧
  (0 < s.1 → li_n (s.2 0) = 0) ∧
  ((j = 0 ∧ (0 < s.1 → li_l (s.2 (s.1 - 1)) = true ∧ li_p (s.2 (s.1 - 1)) < np)) ∨ (0 < j ∧ 0 < s.1 ∧ li_p (s.2 (s.1 - 1)) = np ∧ li_n (s.2 (s.1 - 1)) = j - 1 ∧ li_l (s.2 (s.1 - 1)) = decide (p = pr_nb e a z))) ∧
  (∀ q, q < pr_en e a z p → gv_isL e q → ∃ k, k < s.1 ∧ li_f (s.2 k) ≤ q ∧ q < li_t (s.2 k))
theorem li_op_s {e : gv_T} (E : gv_okF e) {a z np p k j : Nat} {s : Nat × (Nat → li_T)} (Z : pd_ok e a z) (h : p < k) (hk : k ≤ pr_nb e a z) (H : li_op e a z s np p j) : li_op e a z (li_ap s (li_mk e a z np p k j)) np k (j + 1) := by
  obtain ⟨h1, h2, h3, h4, h5⟩ := H
  have hen := pr_en_m (e := e) (a := a) (z := z) h hk
  have hb := pr_bg_b E (a := a) (z := z) (k := p) (by omega)
  have hs1 : (li_ap s (li_mk e a z np p k j)).1 = s.1 + 1 := rfl
  refine ⟨fun i hi => ?_, fun i hi => ?_, fun _ => ?_, Or.inr ⟨by omega, by rw [hs1]; omega, ?_⟩, fun q hq hl => ?_⟩
  · rw [hs1] at hi
    by_cases ei : i = s.1
    · rw [ei, li_ap_s]
      exact ⟨li_mk_ok E Z h hk, Nat.lt_succ_self np, Nat.le_refl _⟩
    · rw [li_ap_n ei]
      have := h1 i (by omega)
      exact ⟨this.1, this.2.1, by omega⟩
  · rw [hs1] at hi
    by_cases ei : i + 1 = s.1
    · rw [li_ap_n (i := i) (by omega), ei, li_ap_s]
      have ht := (h1 i (by omega)).2.2
      have hi' : s.1 - 1 = i := by omega
      rw [hi'] at h4
      refine ⟨Nat.le_trans ht hb.2.1, ?_⟩
      rcases h4 with ⟨rfl, h4⟩ | ⟨hj, -, h5, h6, h7⟩
      · obtain ⟨h6, h7⟩ := h4 (by omega)
        exact Or.inr ⟨h7, rfl, h6⟩
      · refine Or.inl ⟨h5, ?_, ?_⟩
        · show j = li_n (s.2 i) + 1
          omega
        · rw [h7]; exact decide_eq_false (by omega)
    · rw [li_ap_n (i := i) (by omega), li_ap_n (i := i + 1) ei]
      exact h2 i (by omega)
  · by_cases e0 : s.1 = 0
    · have : (li_ap s (li_mk e a z np p k j)).2 0 = li_mk e a z np p k j := if_pos e0.symm
      rw [this]
      show j = 0
      rcases h4 with ⟨rfl, -⟩ | ⟨-, h0, -⟩
      · rfl
      · omega
    · rw [li_ap_n (i := 0) (by omega)]
      exact h3 (by omega)
  · rw [hs1, Nat.add_sub_cancel, li_ap_s]
    exact ⟨rfl, rfl, rfl⟩
  · rcases Nat.lt_or_ge q (pr_en e a z p) with z1 | z1
    · obtain ⟨i, i1, i2, i3⟩ := h5 q z1 hl
      exact ⟨i, by rw [hs1]; omega, by rw [li_ap_n (by omega)]; exact i2, by rw [li_ap_n (by omega)]; exact i3⟩
    · refine ⟨s.1, by rw [hs1]; omega, ?_, ?_⟩
      · rw [li_ap_s]
        show pr_bg e a z p ≤ q
        rcases Nat.lt_or_ge q (pr_bg e a z p) with z2 | z2
        · exact absurd hl (hb.2.2.2 q z1 z2)
        · exact z2
      · rw [li_ap_s]; exact hq
theorem li_op_l {e : gv_T} (E : gv_okF e) {a z np : Nat} (Z : pd_ok e a z) : ∀ {L : List Nat} {p j : Nat} {s : Nat × (Nat → li_T)}, wl_ok (pr_nb e a z) p L → li_op e a z s np p j → li_op e a z (li_pl e a z np L p j s) np (pr_nb e a z) (j + L.length) ∧ (li_pl e a z np L p j s).1 = s.1 + L.length
  | [], p, j, s, h, H => by
    have : p = pr_nb e a z := h
    subst this
    exact ⟨H, rfl⟩
  | k :: r, p, j, s, h, H => by
    obtain ⟨g1, g2⟩ := li_op_l E Z (L := r) h.2.2 (li_op_s E Z h.1 h.2.1 H)
    refine ⟨?_, ?_⟩
    · have e1 : j + (k :: r).length = j + 1 + r.length := by simp; omega
      rw [e1]; exact g1
    · have e1 : (li_ap s (li_mk e a z np p k j)).1 = s.1 + 1 := rfl
      rw [e1] at g2
      show (li_pl e a z np r k (j + 1) (li_ap s (li_mk e a z np p k j))).1 = s.1 + (r.length + 1)
      omega
theorem wl_len {nb : Nat} : ∀ {L : List Nat} {p : Nat}, wl_ok nb p L → p + L.length ≤ nb
  | [], p, h => by have : p = nb := h; simp; omega
  | k :: r, p, h => by
    have := wl_len h.2.2
    have := h.1
    simp
    omega
/-- a paragraph closes -/
theorem li_cl_s {e : gv_T} (E : gv_okF e) {a z np n : Nat} {g : Nat → li_T} (Z : pd_ok e a z) (hnb : 0 < pr_nb e a z) (H : li_cl e n g np a) : li_cl e (li_pl e a z np (pr_wl e a z) 0 0 (n, g)).1 (li_pl e a z np (pr_wl e a z) 0 0 (n, g)).2 (np + 1) (z + 1) ∧ (li_pl e a z np (pr_wl e a z) 0 0 (n, g)).1 ≤ n + (z - a) := by
  obtain ⟨h1, h2, h3, h4⟩ := H
  have e0 := pr_en_0 e a z
  have hw := wl_all e a z
  have hO : li_op e a z (n, g) np 0 0 := by
    refine ⟨fun k hk => ?_, h2, fun h => (h3 h).1, Or.inl ⟨rfl, fun h => ⟨(h3 h).2, ?_⟩⟩, fun q hq hl => ?_⟩
    · have := h1 k hk
      exact ⟨this.1, Nat.lt_succ_of_lt this.2.1, by rw [e0]; exact this.2.2⟩
    · have h' : 0 < n := h
      exact (h1 (n - 1) (by omega)).2.1
    · rw [e0] at hq; exact h4 q hq hl
  obtain ⟨⟨g1, g2, g3, g4, g5⟩, g6⟩ := li_op_l E Z hw hO
  have hlen := wl_len hw
  have hnb2 := pr_nb_b (e := e) (a := a) (z := z)
  have hz := pr_en_b Z.1 (e := e) (k := pr_nb e a z) (Nat.le_refl _)
  have hl0 : 0 < (pr_wl e a z).length := by
    cases hx : pr_wl e a z with
    | nil => rw [hx] at hw; have : 0 = pr_nb e a z := hw; omega
    | cons x r => simp
  have g6' : (li_pl e a z np (pr_wl e a z) 0 0 (n, g)).1 = n + (pr_wl e a z).length := g6
  refine ⟨⟨fun k hk => ?_, g2, fun h => ⟨g3 h, ?_⟩, fun q hq hl => ?_⟩, by omega⟩
  · have := g1 k hk
    exact ⟨this.1, this.2.1, by omega⟩
  · rcases g4 with ⟨g7, -⟩ | ⟨-, -, -, -, g7⟩
    · omega
    · rw [g7]; exact decide_eq_true rfl
  · rcases Nat.lt_or_ge q (pr_en e a z (pr_nb e a z)) with z1 | z1
    · exact g5 q z1 hl
    · exfalso
      have hqz : q ≠ z := fun h => Z.2.2.2.1 (h ▸ hl)
      -- the end of the word of q is a break behind q
      have hex : ∀ m, m ≤ z - q → (∀ j, z - m ≤ j → j < z → ¬ bk_is e j) → ∀ j, q ≤ j → j < z - m → True := fun _ _ _ _ _ _ => trivial
      have key : ∀ d q', q' + d = z → q ≤ q' → gv_isL e q' → ∃ t, q' < t ∧ t ≤ z ∧ bk_is e t := by
        intro d
        induction d with
        | zero => intro q' hd _ hl'; exact absurd hl' (by rw [show q' = z from by omega]; exact Z.2.2.2.1)
        | succ d ih =>
          intro q' hd hq' hl'
          rcases Classical.em (gv_isL e (q' + 1)) with y | y
          · obtain ⟨t, t1, t2, t3⟩ := ih (q' + 1) (by omega) (by omega) y
            exact ⟨t, by omega, t2, t3⟩
          · exact ⟨q' + 1, by omega, by omega, Or.inl ⟨q', rfl, hl', y⟩⟩
      obtain ⟨t, t1, t2, t3⟩ := key (z - q) q (by omega) (Nat.le_refl _) hl
      obtain ⟨k, k1, k2, k3⟩ := pr_en_ex (e := e) (a := a) (z := z) (q := t) (by omega) t2 t3
      rcases Nat.lt_or_ge k (pr_nb e a z) with y | y
      · have := pr_en_m (e := e) (a := a) (z := z) y (Nat.le_refl _); omega
      · rw [show k = pr_nb e a z from by omega] at k3; omega
/-- a paragraph without letters -/
theorem li_cl_0 {e : gv_T} {a z np n : Nat} {g : Nat → li_T} (Z : pd_ok e a z) (hnb : pr_nb e a z = 0) (H : li_cl e n g np a) : li_cl e n g np (z + 1) := by
  obtain ⟨h1, h2, h3, h4⟩ := H
  refine ⟨fun k hk => ?_, h2, h3, fun q hq hl => ?_⟩
  · have := h1 k hk
    exact ⟨this.1, this.2.1, by have := Z.1; omega⟩
  · rcases Nat.lt_or_ge q a with y | y
    · exact h4 q y hl
    · exfalso
      have hqz : q ≠ z := fun h => Z.2.2.2.1 (h ▸ hl)
      have key : ∀ d q', q' + d = z → q ≤ q' → gv_isL e q' → ∃ t, q' < t ∧ t ≤ z ∧ bk_is e t := by
        intro d
        induction d with
        | zero => intro q' hd _ hl'; exact absurd hl' (by rw [show q' = z from by omega]; exact Z.2.2.2.1)
        | succ d ih =>
          intro q' hd hq' hl'
          rcases Classical.em (gv_isL e (q' + 1)) with y | y
          · obtain ⟨t, t1, t2, t3⟩ := ih (q' + 1) (by omega) (by omega) y
            exact ⟨t, by omega, t2, t3⟩
          · exact ⟨q' + 1, by omega, by omega, Or.inl ⟨q', rfl, hl', y⟩⟩
      obtain ⟨t, t1, t2, t3⟩ := key (z - q) q (by omega) (Nat.le_refl _) hl
      obtain ⟨k, k1, k2, k3⟩ := pr_en_ex (e := e) (a := a) (z := z) (q := t) (by omega) t2 t3
      omega
/-! all paragraphs: where the next one begins, how many, the lines, the sums -/
abbrev al_T : Type := Nat × Nat × (Nat × (Nat → li_T)) × (Nat → Int64)
noncomputable def al_F (e : gv_T) : Nat → al_T
  | 0 => (0, 0, (0, fun _ => (0, 0, false, 0, false, 0, 0, 0)), fun _ => 0)
  | i + 1 => if i < gv_ln e ∧ gv_tx e i ≠ 11 then al_F e i
    else if pr_nb e (al_F e i).1 i = 0 then (i + 1, (al_F e i).2)
    else (i + 1, (al_F e i).2.1 + 1, li_pl e (al_F e i).1 i (al_F e i).2.1 (pr_wl e (al_F e i).1 i) 0 0 (al_F e i).2.2.1, vp_updL (al_F e i).2.2.2 (al_F e i).2.1 (pr_sm e (al_F e i).1 i))
theorem al_F_c {e : gv_T} {i : Nat} (h : i < gv_ln e ∧ gv_tx e i ≠ 11) : al_F e (i + 1) = al_F e i := if_pos h
theorem al_F_0 {e : gv_T} {i : Nat} (h : ¬ (i < gv_ln e ∧ gv_tx e i ≠ 11)) (h0 : pr_nb e (al_F e i).1 i = 0) : al_F e (i + 1) = (i + 1, (al_F e i).2) := by
  show (if i < gv_ln e ∧ gv_tx e i ≠ 11 then al_F e i else _) = _
  rw [if_neg h, if_pos h0]
theorem al_F_1 {e : gv_T} {i : Nat} (h : ¬ (i < gv_ln e ∧ gv_tx e i ≠ 11)) (h0 : ¬ pr_nb e (al_F e i).1 i = 0) : al_F e (i + 1) = (i + 1, (al_F e i).2.1 + 1, li_pl e (al_F e i).1 i (al_F e i).2.1 (pr_wl e (al_F e i).1 i) 0 0 (al_F e i).2.2.1, vp_updL (al_F e i).2.2.2 (al_F e i).2.1 (pr_sm e (al_F e i).1 i)) := by
  show (if i < gv_ln e ∧ gv_tx e i ≠ 11 then al_F e i else _) = _
  rw [if_neg h, if_neg h0]
theorem al_inv {e : gv_T} (E : gv_okF e) : ∀ i, i ≤ gv_ln e + 1 → (al_F e i).1 ≤ i ∧ (∀ j, (al_F e i).1 ≤ j → j < i → j < gv_ln e ∧ gv_tx e j ≠ 11) ∧ (∀ j, (al_F e i).1 = j + 1 → ¬ gv_isL e j) ∧ li_cl e (al_F e i).2.2.1.1 (al_F e i).2.2.1.2 (al_F e i).2.1 (al_F e i).1 ∧ (al_F e i).2.2.1.1 ≤ (al_F e i).1 - 1 ∧ 2 * (al_F e i).2.1 ≤ (al_F e i).1
  | 0, _ => ⟨Nat.le_refl _, fun j h1 h2 => by omega, fun j h => by have : 0 = j + 1 := h; omega, ⟨fun k hk => by have : k < 0 := hk; omega, fun k hk => by have : k + 1 < 0 := hk; omega, fun h => by have : 0 < 0 := h; omega, fun q hq => by have : q < 0 := hq; omega⟩, Nat.le_refl _, Nat.le_refl _⟩
  | i + 1, hi => by
    obtain ⟨i1, i2, i3, i4, i5, i6⟩ := al_inv E i (by omega)
    by_cases h : i < gv_ln e ∧ gv_tx e i ≠ 11
    · rw [al_F_c h]
      refine ⟨by omega, fun j h1 h2 => ?_, i3, i4, i5, i6⟩
      by_cases ej : j = i
      · rw [ej]; exact h
      · exact i2 j h1 (by omega)
    · have hL : ¬ gv_isL e i := by
        rintro ⟨l1, l2⟩
        exact h ⟨l1, by omega⟩
      have Z : pd_ok e (al_F e i).1 i := ⟨i1, by omega, fun j h1 h2 => (i2 j h1 h2).2, hL, i3⟩
      by_cases h0 : pr_nb e (al_F e i).1 i = 0
      · rw [al_F_0 h h0]
        refine ⟨Nat.le_refl _, fun j h1 h2 => by have : i + 1 ≤ j := h1; omega, fun j hj => ?_, li_cl_0 Z h0 i4, ?_, ?_⟩
        · have : i + 1 = j + 1 := hj
          rw [show j = i from by omega]; exact hL
        · show (al_F e i).2.2.1.1 ≤ i + 1 - 1
          omega
        · show 2 * (al_F e i).2.1 ≤ i + 1
          omega
      · obtain ⟨c1, c2⟩ := li_cl_s E Z (by omega) (n := (al_F e i).2.2.1.1) (g := (al_F e i).2.2.1.2) i4
        have hb := pr_nb_b (e := e) (a := (al_F e i).1) (z := i)
        rw [al_F_1 h h0]
        refine ⟨Nat.le_refl _, fun j h1 h2 => by have : i + 1 ≤ j := h1; omega, fun j hj => ?_, c1, ?_, ?_⟩
        · have : i + 1 = j + 1 := hj
          rw [show j = i from by omega]; exact hL
        · show (li_pl e (al_F e i).1 i (al_F e i).2.1 (pr_wl e (al_F e i).1 i) 0 0 (al_F e i).2.2.1).1 ≤ i + 1 - 1
          have c2' : (li_pl e (al_F e i).1 i (al_F e i).2.1 (pr_wl e (al_F e i).1 i) 0 0 (al_F e i).2.2.1).1 ≤ (al_F e i).2.2.1.1 + (i - (al_F e i).1) := c2
          omega
        · show 2 * ((al_F e i).2.1 + 1) ≤ i + 1
          omega
noncomputable def al_n (e : gv_T) : Nat := (al_F e (gv_ln e + 1)).2.2.1.1
noncomputable def al_g (e : gv_T) : Nat → li_T := (al_F e (gv_ln e + 1)).2.2.1.2
noncomputable def al_p (e : gv_T) : Nat := (al_F e (gv_ln e + 1)).2.1
noncomputable def al_s (e : gv_T) : Nat → Int64 := (al_F e (gv_ln e + 1)).2.2.2
theorem al_end {e : gv_T} (E : gv_okF e) : li_cl e (al_n e) (al_g e) (al_p e) (gv_ln e + 1) ∧ al_n e ≤ 48 ∧ al_p e ≤ 24 := by
  obtain ⟨i1, i2, i3, i4, i5, i6⟩ := al_inv E (gv_ln e + 1) (Nat.le_refl _)
  have h48 := E.1
  have hf : (al_F e (gv_ln e + 1)).1 = gv_ln e + 1 := by
    rcases Nat.lt_or_ge (al_F e (gv_ln e + 1)).1 (gv_ln e + 1) with y | y
    · have := (i2 (gv_ln e) (by omega) (by omega)).1; omega
    · omega
  rw [hf] at i4 i5 i6
  refine ⟨i4, ?_, ?_⟩
  · unfold al_n; omega
  · unfold al_p; omega
/-- lines lie one behind another -/
theorem li_mono {e : gv_T} {n np pos : Nat} {g : Nat → li_T} (H : li_cl e n g np pos) : ∀ d k, k + 1 + d < n → li_t (g k) ≤ li_f (g (k + 1 + d))
  | 0, k, h => (H.2.1 k h).1
  | d + 1, k, h => by
    have a := li_mono H d k (by omega)
    have b := (H.1 (k + 1 + d) (by omega)).1.1
    have c := (H.2.1 (k + 1 + d) (by omega)).1
    rw [show k + 1 + (d + 1) = k + 1 + d + 1 from by omega]
    omega
/-- pages -/
def pg_mn (x : li_T) : Bool := decide (0 < li_n x) || !li_l x
def pg_no (n : Nat) (g : Nat → li_T) (k : Nat) : Bool := decide (k + 1 < n) && ((li_l (g (k + 1)) && pg_mn (g (k + 1))) || (decide (li_n (g k) = 0) && pg_mn (g k)))
def pg_t (n : Nat) (g : Nat → li_T) (s : Nat) : Nat → Nat
  | 0 => 0
  | t + 1 => if pg_no n g (s + t) = true then pg_t n g s t else t + 1
def pg_n (n : Nat) (g : Nat → li_T) (h s : Nat) : Nat := if pg_t n g s (min h (n - s)) = 0 then min h (n - s) else pg_t n g s (min h (n - s))
def pg_F (n : Nat) (g : Nat → li_T) (h : Nat) : Nat → Nat → Nat → (Nat → Nat) → Nat → Nat
  | 0, _, _, f => f
  | m + 1, s, p, f => if n ≤ s then f else pg_F n g h m (s + pg_n n g h s) (p + 1) (fun k => if s ≤ k ∧ k < s + pg_n n g h s then p else f k)
noncomputable def al_pg (e : gv_T) : Nat → Nat := pg_F (al_n e) (al_g e) (gv_ht e) (al_n e) 0 0 (fun _ => 0)
theorem pg_t_b (n : Nat) (g : Nat → li_T) (s : Nat) : ∀ t, pg_t n g s t ≤ t
  | 0 => Nat.le_refl _
  | t + 1 => by
    have := pg_t_b n g s t
    unfold pg_t
    split <;> omega
theorem pg_n_b {n : Nat} {g : Nat → li_T} {h s : Nat} (hh : 1 ≤ h) (hs : s < n) : 1 ≤ pg_n n g h s ∧ s + pg_n n g h s ≤ n := by
  have := pg_t_b n g s (min h (n - s))
  unfold pg_n
  split <;> omega
end
section
/-! small rows on ints, and what the two objects' settings say -/
theorem iw_ix (p g : Nat) : (10 : Int32) * nI p + nI g = nI (10 * p + g) := by
  rw [show (10 : Int32) = nI 10 from rfl, pk_mul, nI_add]
theorem iw_11 (p g : Nat) : (11 : Int32) * nI p + nI g = nI (11 * p + g) := by
  rw [show (11 : Int32) = nI 11 from rfl, pk_mul, nI_add]
theorem iw_16 (p : Nat) : (16 : Int32) * nI p = nI (16 * p) := by
  rw [show (16 : Int32) = nI 16 from rfl, pk_mul]
theorem iw_1616 (p : Nat) : (16 : Int32) * nI p + 16 = nI (16 * p + 16) := by
  rw [iw_16, show (16 : Int32) = nI 16 from rfl, nI_add]
theorem iw_shr4 {s : Nat} (h : s < 2 ^ 31) : nI s >>> ((4 : Int32) &&& 31) = nI (s / 16) := pk_shrN h _ 4 (by decide)
theorem iw_shr2 {s : Nat} (h : s < 2 ^ 31) : nI s >>> ((2 : Int32) &&& 31) = nI (s / 4) := pk_shrN h _ 2 (by decide)
theorem iw_and3 {s : Nat} (h : s < 2 ^ 31) : nI s &&& 3 = nI (s % 4) := pk_andN (by omega) 2 (by decide)
theorem iw_and1 {s : Nat} (h : s < 2 ^ 31) : nI s &&& 1 = nI (s % 2) := pk_andN (by omega) 1 (by decide)
theorem iw_i8 {n : Nat} (h : n < 128) : (nI n).toInt8.toInt32 = nI n := lg_i2b_small (by rw [nI_toInt (by omega)]; omega) (by rw [nI_toInt (by omega)]; omega)
theorem iw_b {n : Nat} (h : n < 128) : vp_nar .byte (nI n) = nI n := by rw [vp_nar_byte, iw_i8 h]
theorem iw_bb {n : Nat} (h : n < 128) : vp_nar .byte (nI n).toInt8.toInt32 = nI n := by rw [iw_i8 h, iw_b h]
theorem iw_i16 {n : Nat} (h : n < 32768) : (nI n).toInt16.toInt32 = nI n := lg_i2s_small (by rw [nI_toInt (by omega)]; omega) (by rw [nI_toInt (by omega)]; omega)
theorem iw_s {n : Nat} (h : n < 32768) : vp_nar .short (nI n) = nI n := by rw [vp_nar_short, iw_i16 h]
theorem iw_ss {n : Nat} (h : n < 32768) : vp_nar .short (nI n).toInt16.toInt32 = nI n := by rw [iw_i16 h, iw_s h]
def bl_i (b : Bool) : Int32 := if b = true then 1 else 0
theorem bl_i_t : bl_i true = 1 := rfl
theorem bl_i_f : bl_i false = 0 := rfl
theorem bl_nar (b : Bool) : vp_nar .boolean (bl_i b) = bl_i b := by cases b <;> rfl
theorem bl_nw (b : Bool) : narrow .boolean (.int (bl_i b)) = .int (bl_i b) := by cases b <;> rfl
theorem bl_0 {b : Bool} : bl_i b = 0 ↔ b = false := by cases b <;> decide
theorem bl_n0 {b : Bool} : ¬ bl_i b = 0 ↔ b = true := by cases b <;> decide
/-- a branch on a stored boolean -/
theorem bl_br {b : Bool} {x : Int32} {A B : Prop} (hx : x = bl_i b) (f : b = false → A) (t : b = true → B) : (x = 0 → A) ∧ (¬ x = 0 → B) := by
  subst hx
  exact ⟨fun h => f (bl_0.mp h), fun h => t (bl_n0.mp h)⟩
theorem nI_m1 {n : Nat} (h : 0 < n) : nI n - 1 = nI (n - 1) := by
  obtain ⟨m, rfl⟩ : ∃ m, n = m + 1 := ⟨n - 1, by omega⟩
  exact nI_pred m
theorem nI_am1 {n : Nat} (h : 0 < n) : nI n + (-1) = nI (n - 1) := sb_m1 h
theorem iw_kw {k w : Nat} (h : 5 ≤ k + w) : (nI k - 5) + nI w = nI (w + k - 5) := by
  rw [show nI (w + k - 5) = nI (k + w) - nI 5 from by rw [pk_sub h]; exact congrArg nI (by omega), ← nI_add, show (5 : Int32) = nI 5 from rfl]
  grind
/-- an int by naturals or below zero -/
theorem iw_cases (x : Int32) : x < 0 ∨ ∃ j : Nat, j < 2 ^ 31 ∧ x = nI j := by
  by_cases h : x < 0
  · exact Or.inl h
  · exact Or.inr (nI_of h)
theorem iw_nz {x : Int32} (h : x < 0) : ¬ 0 ≤ x := fun g => absurd (Int32.lt_of_le_of_lt g h) (by decide)
/-! settings -/
def ex_F (e : gv_T) (f_length : Int32) (a_text a_wide a_join a_kerns : Nat → Int32) : Prop :=
  f_length = nI (gv_ln e) ∧ (∀ j, a_text j = nI (gv_tx e j)) ∧ (∀ l, l < 10 → a_wide l = nI (gv_wd e l)) ∧ (∀ k, k < 100 → a_join k = nI (gv_jn e k)) ∧ (∀ k, k < 100 → a_kerns k = nI (gv_kn e k) - 5) ∧ gv_okF e
def ex_M (e : gv_T) (f_first f_rest f_narrow f_gap f_stretch f_shrink f_tolerance f_cost f_height : Int32) : Prop :=
  (∃ f1, f1 ≤ 300 ∧ f_first = nI f1 ∧ (0 < gv_nr e → f1 = gv_fi e)) ∧ f_rest = nI (gv_rs e) ∧ f_narrow = nI (gv_nr e) ∧ f_gap = nI (gv_gp e) ∧ f_stretch = nI (gv_st e) ∧ f_shrink = nI (gv_sk e) ∧ f_tolerance = nI (gv_tl e) ∧ f_cost = nI (gv_cs e) ∧ f_height = nI (gv_ht e) ∧ gv_okM e
def ey_F (e : gv_T) (h_length : Int32) (b_text b_wide b_joined b_kerns : Nat → Int32) : Prop :=
  h_length = nI (gv_ln e) ∧ (∀ j, b_text j = nI (gv_tx e j)) ∧ (∀ l, l < 10 → b_wide l = nI (gv_wd e l)) ∧ (∀ k, k < 100 → b_joined k = nI (gv_jn e k) - 1) ∧ (∀ k, k < 100 → b_kerns k = nI (gv_kn e k) - 5) ∧ gv_okF e
def ey_M (e : gv_T) (h_firstWide h_restWide h_firstLines h_spaceWide h_stretch h_shrink h_tolerance h_cost h_height : Int32) : Prop :=
  h_firstWide = nI (gv_fi e) ∧ h_restWide = nI (gv_rs e) ∧ h_firstLines = nI (gv_nr e) ∧ h_spaceWide = nI (gv_gp e) ∧ h_stretch = nI (gv_st e) ∧ h_shrink = nI (gv_sk e) ∧ h_tolerance = nI (gv_tl e) ∧ h_cost = nI (gv_cs e) ∧ h_height = nI (gv_ht e) ∧ gv_okM e
end
section
/-! more on breaks and line states -/
theorem pr_seg {e : gv_T} (E : gv_okF e) {a z k : Nat} (Z : pd_ok e a z) (hk : k < pr_nb e a z) : ∀ j, pr_bg e a z k ≤ j → j < pr_en e a z (k + 1) → gv_isL e j := by
  obtain ⟨b1, b2, b3, b4⟩ := pr_bg_b E hk
  have ha := pr_en_b Z.1 (e := e) (k := k) (by omega)
  have hz := pr_en_b Z.1 (e := e) (k := k + 1) (by omega)
  have key : ∀ d, pr_bg e a z k + d < pr_en e a z (k + 1) → gv_isL e (pr_bg e a z k + d) := by
    intro d
    induction d with
    | zero => intro _; exact b1
    | succ d ih =>
      intro h
      have hl := ih (by omega)
      rcases Classical.em (gv_isL e (pr_bg e a z k + (d + 1))) with y | y
      · exact y
      · exfalso
        obtain ⟨k', k1, k2, k3⟩ := pr_en_ex (e := e) (a := a) (z := z) (q := pr_bg e a z k + (d + 1)) (by omega) (by omega) (Or.inl ⟨pr_bg e a z k + d, rfl, hl, y⟩)
        rcases Nat.lt_trichotomy k' (k + 1) with q | q | q
        · rcases Nat.lt_or_ge k' k with q' | q'
          · have := pr_en_m (e := e) (a := a) (z := z) q' (by omega); omega
          · rw [show k' = k from by omega] at k3; omega
        · rw [q] at k3; omega
        · have := pr_en_m (e := e) (a := a) (z := z) q k2; omega
  intro j h1 h2
  have := key (j - pr_bg e a z k) (by omega)
  rw [show pr_bg e a z k + (j - pr_bg e a z k) = j from by omega] at this
  exact this
theorem pr_hy_t {e : gv_T} {a z k : Nat} (h : pr_hy e a z k = true) : hy_at e (pr_en e a z k) := by
  unfold pr_hy at h
  by_cases hk : k = 0
  · rw [if_pos hk] at h; cases h
  · rw [if_neg hk] at h; exact hy_b_t.mp h
theorem pr_hy_f {e : gv_T} {a z k : Nat} (h1 : 1 ≤ k) (hk : k ≤ pr_nb e a z) (h : pr_hy e a z k = false) : ¬ gv_isL e (pr_en e a z k) := by
  unfold pr_hy at h
  rw [if_neg (by omega)] at h
  rcases pr_en_is h1 hk with ⟨j, -, -, g⟩ | g
  · exact g
  · exact absurd g (hy_b_f.mp h)
theorem pr_bg_h {e : gv_T} {a z k : Nat} (h : pr_hy e a z k = true) : pr_bg e a z k = pr_en e a z k :=
  wo_fl_eq (Nat.le_refl _) (by omega) (fun i h1 h2 => by omega) (hy_at_l (pr_hy_t h)).1
theorem sh_gap0 {e : gv_T} {f q : Nat} (h : f ≤ q) (h0 : (sh_at e f q).2.2 = []) : ∀ d, (∀ j, q ≤ j → j < q + d → ¬ gv_tx e j < 10) → sh_at e f (q + d) = sh_at e f q
  | 0, _ => rfl
  | d + 1, hj => by
    have ih := sh_gap0 h h0 d (fun j a b => hj j a (by omega))
    show sh_at e f (q + d + 1) = _
    rw [sh_at_s e (by omega), ih, sh_st_0 e _ (hj (q + d) (by omega) (by omega)) h0]
theorem sh_gap {e : gv_T} {f q q' : Nat} (h : f ≤ q) (hq : q < q') (h0 : (sh_at e f q).2.2 ≠ []) (hj : ∀ j, q ≤ j → j < q' → ¬ gv_tx e j < 10) : sh_at e f q' = ((sh_at e f q).1 + sh_wd e (sh_at e f q).2.2 + gv_gp e, (sh_at e f q).2.1 + 1, []) := by
  have h1 := sh_at_s e h
  rw [sh_st_1 e _ (hj q (Nat.le_refl _) hq) h0] at h1
  have h2 : (sh_at e f (q + 1)).2.2 = [] := by rw [h1]
  have h3 := sh_gap0 (f := f) (q := q + 1) (by omega) h2 (q' - (q + 1)) (fun j a b => hj j (by omega) (by omega))
  rw [show q + 1 + (q' - (q + 1)) = q' from by omega] at h3
  rw [h3, h1]
theorem iw_suble {a b t : Nat} (ha : a < 2 ^ 30) (hb : b < 2 ^ 30) (ht : t < 2 ^ 30) : nI a - nI b ≤ nI t ↔ a ≤ t + b := by
  rw [Int32.le_iff_toInt_le, pk_sub_toInt ha hb, nI_toInt (by omega)]
  omega
theorem pr_w_b {e : gv_T} (E : gv_okF e) (hg : gv_gp e ≤ 20) {a z p k : Nat} (Z : pd_ok e a z) (hk : k ≤ pr_nb e a z) : pr_w e a z p k ≤ 2700 ∧ pr_s e a z p k ≤ 48 := by
  have h1 := sh_nw_b E hg (pr_bg e a z p) (pr_en e a z k)
  have h2 := sh_ns_b E hg (pr_bg e a z p) (pr_en e a z k)
  have h3 := pr_en_b Z.1 hk
  have h4 := Z.2.1
  have h5 := E.1
  have h6 : (if pr_hy e a z k = true then 5 else 0) ≤ 5 := by split <;> omega
  unfold pr_w pr_s
  omega
end
section
/-! badness in longs; the table in arrays -/
theorem bq_i_s (c : Nat) : bq_i (c + 1) = nI c := by unfold bq_i; rw [if_neg (by omega)]; rfl
theorem bq_i_0 : bq_i 0 = -1 := rfl
theorem bq_i_lt {c : Nat} (h : c ≤ 10001) : bq_i c < 0 ↔ c = 0 := by
  cases c with
  | zero => exact ⟨fun _ => rfl, fun _ => by decide⟩
  | succ c => rw [bq_i_s]; exact ⟨fun g => absurd g (nI_pos (by omega)), fun g => by omega⟩
theorem nI_neg {t w : Nat} (h : t ≤ w) : nI t - nI w = -(nI (w - t)) := by
  rw [← pk_sub h]; grind
theorem bq_cu {d g : Nat} (hd : d ≤ 3000) (hg : g ≤ 1000) (h0 : 0 < g) : d * d ≤ 9000000 ∧ d * d * d ≤ 27000000000 ∧ 0 < g * g * g ∧ g * g * g ≤ 1000000000 := by
  have a : d * d ≤ 3000 * 3000 := Nat.mul_le_mul hd hd
  have b : d * d * d ≤ 3000 * 3000 * 3000 := Nat.mul_le_mul a hd
  have c : g * g ≤ 1000 * 1000 := Nat.mul_le_mul hg hg
  have f : g * g * g ≤ 1000 * 1000 * 1000 := Nat.mul_le_mul c hg
  exact ⟨a, b, Nat.mul_pos (Nat.mul_pos h0 h0) h0, f⟩
theorem bq_lq {d g : Nat} (hd : d ≤ 3000) (hg : g ≤ 1000) (h0 : 0 < g) : (100 * (lN (d * d) * lN d)) / (lN g * lN g * lN g) = lN (100 * (d * d * d) / (g * g * g)) ∧ ¬ lN g * lN g * lN g = 0 := by
  obtain ⟨a, b, c, f⟩ := bq_cu hd hg h0
  rw [show (100 : Int64) = lN 100 from rfl, lN_mul, lN_mul, lN_mul, lN_mul, pk_lDiv (by omega) c (by omega)]
  refine ⟨rfl, ?_⟩
  rw [show (0 : Int64) = lN 0 from rfl, pk_lEQ (by omega) (by omega)]
  omega
/-- the last branch of a badness -/
theorem bq_fin {post : Int32 → Prop} {q : Nat} {x : Int64} (hx : x = lN q) (hq : q < 2 ^ 60) (h : post (bq_i (min q 10000 + 1))) : (x ≤ 10000 → post x.toInt32) ∧ (¬ x ≤ 10000 → post 10000) := by
  subst hx
  rw [bq_i_s] at h
  rw [show (10000 : Int64) = lN 10000 from rfl, pk_lLE (by omega) (by omega), lN_i]
  refine ⟨fun g => ?_, fun g => ?_⟩
  · rw [Nat.min_eq_left g] at h; exact h
  · rw [Nat.min_eq_right (by omega)] at h; exact h
theorem bq_qb {d g : Nat} (hd : d ≤ 3000) (hg : g ≤ 1000) (h0 : 0 < g) : 100 * (d * d * d) / (g * g * g) < 2 ^ 60 := by
  obtain ⟨a, b, c, f⟩ := bq_cu hd hg h0
  exact Nat.lt_of_le_of_lt (Nat.div_le_self _ _) (by omega)
def dp_lc (c : Nat) : Int64 := if c = 0 then -1 else lN (c - 1)
theorem dp_lc_0 : dp_lc 0 = -1 := rfl
theorem dp_lc_s (c : Nat) : dp_lc (c + 1) = lN c := by unfold dp_lc; rw [if_neg (by omega)]; rfl
theorem dp_lc_n {c : Nat} (h : c ≠ 0) : dp_lc c = lN (c - 1) := if_neg h
theorem dp_lc_lt {c : Nat} (h : c < 2 ^ 62) : dp_lc c < 0 ↔ c = 0 := by
  cases c with
  | zero => exact ⟨fun _ => rfl, fun _ => by decide⟩
  | succ c =>
    rw [dp_lc_s, show (0 : Int64) = lN 0 from rfl, pk_lLT (by omega) (by omega)]
    exact ⟨fun g => by omega, fun g => by omega⟩
theorem dp_lc_ge {c : Nat} (h : c < 2 ^ 62) : 0 ≤ dp_lc c ↔ c ≠ 0 := by
  rw [← Int64.not_lt, dp_lc_lt h]
def dp_ar (nb : Nat) (L : Nat → Int64) (F : Nat → Int32) (D P : Nat → Nat) : Prop :=
  (∀ s, s < 16 * nb + 16 → L s = dp_lc (D s)) ∧ (∀ s, 16 ≤ s → s < 16 * nb + 16 → D s ≠ 0 → F s = nI (P s))
theorem dp_ar_u {nb : Nat} {L : Nat → Int64} {F : Nat → Int32} {D P : Nat → Nat} (A : dp_ar nb L F D P) (t s m : Nat) : dp_ar nb (vp_updL L t (lN m)) (upd F t (nI s)) (dp_u D t (m + 1)) (dp_u P t s) := by
  refine ⟨fun j hj => ?_, fun j h1 hj hd => ?_⟩
  · by_cases e : j = t
    · subst e; rw [pk_uLs, dp_us, dp_lc_s]
    · rw [pk_uLn e, dp_un _ _ e]; exact A.1 j hj
  · by_cases e : j = t
    · subst e; rw [pk_us, dp_us]
    · rw [dp_un _ _ e] at hd
      rw [pk_un e, dp_un _ _ e]; exact A.2 j h1 hj hd
theorem dp_Db {S : Nat → Nat → Nat → Nat → Option (Nat × Nat)} {N nb : Nat} {cut : Nat → Nat} {D P : Nat → Nat} {V : Nat → List Nat} (O : dp_ok S N 110000000) (I : dp_in S N nb cut D P V) (hnb : nb ≤ 48) {s : Nat} (hs : s < 16 * nb + 16) : D s ≤ 5280000001 := by
  by_cases h : D s = 0
  · omega
  · obtain ⟨n, w, -, -⟩ := I.1 s hs h
    obtain ⟨r, er⟩ := dp_hd I hs h
    rw [er] at w
    have h1 := dp_bnd (M := 110000000) (fun p k n c c' w h => (O.2.1 p k n c c' w h).2) w
    have : s / 16 * 110000000 ≤ 48 * 110000000 := Nat.mul_le_mul_right _ (by omega)
    omega
end
section
/-! the glyphs of a word's part -/
def sh_gl (e : gv_T) (f : Nat) : Nat → List Nat
  | 0 => []
  | n + 1 => sh_push e (sh_gl e f n) (gv_tx e (f + n))
theorem sh_word {e : gv_T} {f i : Nat} (hf : f ≤ i) (h0 : (sh_at e f i).2.2 = []) : ∀ n, (∀ j, i ≤ j → j < i + n → gv_tx e j < 10) → sh_at e f (i + n) = ((sh_at e f i).1, (sh_at e f i).2.1, sh_gl e i n)
  | 0, _ => by
    show sh_at e f i = _
    rw [show sh_gl e i 0 = [] from rfl, ← h0]
  | n + 1, hl => by
    have ih := sh_word hf h0 n (fun j a b => hl j a (by omega))
    show sh_at e f (i + n + 1) = _
    rw [sh_at_s e (by omega), sh_st_l e _ (hl (i + n) (by omega) (by omega)), ih]
    rfl
theorem sh_gl_len (e : gv_T) (f : Nat) : ∀ n, (sh_gl e f n).length ≤ n
  | 0 => Nat.le_refl _
  | n + 1 => by
    have a := sh_gl_len e f n
    have b := sh_push_len e (sh_gl e f n) (gv_tx e (f + n))
    show (sh_push e (sh_gl e f n) (gv_tx e (f + n))).length ≤ n + 1
    omega
theorem sh_gl_ok {e : gv_T} (E : gv_okF e) (f : Nat) : ∀ n, (∀ j, f ≤ j → j < f + n → gv_tx e j < 10) → sh_ok (sh_gl e f n)
  | 0, _ => sh_ok_0
  | n + 1, h => sh_push_ok E (sh_gl_ok E f n (fun j a b => h j a (by omega))) (h (f + n) (by omega) (by omega))
def sh_ar : List Nat → (Nat → Int32) → Prop
  | [], _ => True
  | g :: r, a => a r.length = nI g ∧ sh_ar r a
theorem sh_ar_u {a : Nat → Int32} {k : Nat} {v : Int32} : ∀ {L : List Nat}, sh_ar L a → L.length ≤ k → sh_ar L (upd a k v)
  | [], _, _ => trivial
  | g :: r, h, hk => by
    have hk' : r.length + 1 ≤ k := hk
    refine ⟨?_, sh_ar_u h.2 (by omega)⟩
    rw [pk_un (by omega)]
    exact h.1
theorem sh_ar_at {a : Nat → Int32} {x : Nat} {B : List Nat} : ∀ {C : List Nat}, sh_ar (C ++ x :: B) a → a B.length = nI x ∧ sh_ar B a
  | [], h => h
  | c :: C, h => sh_ar_at (C := C) h.2
end
section
/-! the component: letters, advances, targets, lines from a break -/
/-- the breaks of the paragraph from a to z are listed -/
def ex_B (e : gv_T) (a z : Nat) (f_breaks : Int32) (a_ends a_begins a_hyphened : Nat → Int32) : Prop :=
  f_breaks = nI (pr_nb e a z) ∧ (∀ k, 1 ≤ k → k ≤ pr_nb e a z → a_ends k = nI (pr_en e a z k)) ∧ (∀ k, k < pr_nb e a z → a_begins k = nI (pr_bg e a z k)) ∧ (∀ k, k ≤ pr_nb e a z → a_hyphened k = bl_i (pr_hy e a z k))
section
variable {e : gv_T} {f_length f_known f_joins f_patterns f_first f_rest f_narrow f_gap f_stretch f_shrink f_tolerance f_cost f_height f_breaks f_lines f_paragraphs : Int32} {a_text a_allowed a_counts a_wide a_join a_kerns a_child a_digits a_uses a_ends a_begins a_hyphened a_before a_natural a_spaces a_way a_lineFrom a_lineTo a_linePart a_linePage a_lineWide a_lineBad a_lineHyphen : Nat → Int32} {a_least a_sums : Nat → Int64}
theorem xw_adv {post : Int32 → Prop} {L : List Nat} (F : ex_F e f_length a_text a_wide a_join a_kerns) (hL : sh_ok L) (h0 : L ≠ []) (h : post (nI (sh_av e L))) : wpX_advance post (f_length, f_known, f_joins, f_patterns, f_first, f_rest, f_narrow, f_gap, f_stretch, f_shrink, f_tolerance, f_cost, f_height, f_breaks, f_lines, f_paragraphs, a_text, a_allowed, a_counts, a_wide, a_join, a_kerns, a_child, a_digits, a_uses, a_ends, a_begins, a_hyphened, a_least, a_before, a_natural, a_spaces, a_way, a_lineFrom, a_lineTo, a_linePart, a_linePage, a_lineWide, a_lineBad, a_lineHyphen, a_sums) (sh_hd L.tail) (sh_hd L) := by
  obtain ⟨F1, F2, F3, F4, F5, E⟩ := F
  cases L with
  | nil => exact absurd rfl h0
  | cons g r =>
    have hg := (sh_ok_c hL).1
    cases r with
    | nil =>
      refine br_f (by show ¬ (0 : Int32) ≤ -1; decide) ⟨vp_in_nI hg (by decide), ?_⟩
      show post (a_wide (nI g).toNatClampNeg)
      rw [nI_clamp (by omega), F3 g hg]
      exact h
    | cons p r =>
      have hp := (sh_ok_c (sh_ok_c hL).2).1
      have hk := E.2.2.2.1 (10 * p + g) (by omega)
      have hw := E.2.2.1 g hg
      refine br_t (nI_pos' (by omega)) ?_
      show vp_in ((10 * nI p) + nI g) 100 ∧ (vp_in (nI g) 10 ∧ post (a_kerns ((10 * nI p) + nI g).toNatClampNeg + a_wide (nI g).toNatClampNeg))
      rw [iw_ix, nI_clamp (by omega), nI_clamp (by omega), F3 g hg, F5 (10 * p + g) (by omega), iw_kw (by omega)]
      exact ⟨vp_in_nI (by omega) (by decide), vp_in_nI hg (by decide), h⟩
theorem xw_lt {post : Int32 → Prop} (F : ex_F e f_length a_text a_wide a_join a_kerns) {i : Nat} (hi : i < 2 ^ 31) (ht : gv_isL e i → post 1) (hf : ¬ gv_isL e i → post 0) : wpX_letterAt post (f_length, f_known, f_joins, f_patterns, f_first, f_rest, f_narrow, f_gap, f_stretch, f_shrink, f_tolerance, f_cost, f_height, f_breaks, f_lines, f_paragraphs, a_text, a_allowed, a_counts, a_wide, a_join, a_kerns, a_child, a_digits, a_uses, a_ends, a_begins, a_hyphened, a_least, a_before, a_natural, a_spaces, a_way, a_lineFrom, a_lineTo, a_linePart, a_linePage, a_lineWide, a_lineBad, a_lineHyphen, a_sums) (nI i) := by
  obtain ⟨F1, F2, F3, F4, F5, E⟩ := F
  have h48 := E.1
  refine br_f (nI_pos hi) (pk_le (gv_ln e) i (fun h => hf (fun z => by have := z.1; omega)) (fun h => ⟨vp_in_nI (by omega) (by decide), ?_⟩) F1 rfl)
  rw [nI_clamp hi, F2]
  have h11 := E.2.1 i
  exact pk_le 10 (gv_tx e i) (fun g => hf (fun z => by have := z.2; omega)) (fun g => ht ⟨h, g⟩)
theorem xw_ltn {post : Int32 → Prop} {x : Int32} (hx : x < 0) (hf : post 0) : wpX_letterAt post (f_length, f_known, f_joins, f_patterns, f_first, f_rest, f_narrow, f_gap, f_stretch, f_shrink, f_tolerance, f_cost, f_height, f_breaks, f_lines, f_paragraphs, a_text, a_allowed, a_counts, a_wide, a_join, a_kerns, a_child, a_digits, a_uses, a_ends, a_begins, a_hyphened, a_least, a_before, a_natural, a_spaces, a_way, a_lineFrom, a_lineTo, a_linePart, a_linePage, a_lineWide, a_lineBad, a_lineHyphen, a_sums) x := br_t hx hf
theorem xw_tg {post : Int32 → Prop} (M : ex_M e f_first f_rest f_narrow f_gap f_stretch f_shrink f_tolerance f_cost f_height) {n : Nat} (hn : n < 2 ^ 31) (h : post (nI (bq_tg e n))) : wpX_target post (f_length, f_known, f_joins, f_patterns, f_first, f_rest, f_narrow, f_gap, f_stretch, f_shrink, f_tolerance, f_cost, f_height, f_breaks, f_lines, f_paragraphs, a_text, a_allowed, a_counts, a_wide, a_join, a_kerns, a_child, a_digits, a_uses, a_ends, a_begins, a_hyphened, a_least, a_before, a_natural, a_spaces, a_way, a_lineFrom, a_lineTo, a_linePart, a_linePage, a_lineWide, a_lineBad, a_lineHyphen, a_sums) (nI n) := by
  obtain ⟨⟨f1, h1, M1, h2⟩, M2, M3, M4, M5, M6, M7, M8, M9, K⟩ := M
  have hnr := K.2.2.1
  refine pk_le (gv_nr e) n (fun g => ?_) (fun g => ?_) M3 rfl
  · rw [M2]
    unfold bq_tg at h
    rw [if_neg (by omega)] at h
    exact h
  · rw [M1, h2 (by omega)]
    unfold bq_tg at h
    rw [if_pos (by omega)] at h
    exact h
/-- the loop of reach: the state of the line from break p at place q, break k the next one -/
theorem xw_reach_l {post : Int32 → SX → Prop} {a z p t : Nat} (F : ex_F e f_length a_text a_wide a_join a_kerns) (hgap : f_gap = nI (gv_gp e)) (hshr : f_shrink = nI (gv_sk e)) (hsk : gv_sk e ≤ gv_gp e) (hg20 : gv_gp e ≤ 20) (Z : pd_ok e a z) (B : ex_B e a z f_breaks a_ends a_begins a_hyphened) (ht : t ≤ 30000)
    (h : ∀ r nat' spc', p < r → r ≤ pr_nb e a z → (∀ k, p < k → k ≤ r → nat' k = nI (pr_w e a z p k) ∧ spc' k = nI (pr_s e a z p k)) → (∀ k, r < k → k ≤ pr_nb e a z → t + pr_s e a z p k * gv_sk e < pr_w e a z p k) → post (nI r) (f_length, f_known, f_joins, f_patterns, f_first, f_rest, f_narrow, f_gap, f_stretch, f_shrink, f_tolerance, f_cost, f_height, f_breaks, f_lines, f_paragraphs, a_text, a_allowed, a_counts, a_wide, a_join, a_kerns, a_child, a_digits, a_uses, a_ends, a_begins, a_hyphened, a_least, a_before, nat', spc', a_way, a_lineFrom, a_lineTo, a_linePart, a_linePage, a_lineWide, a_lineBad, a_lineHyphen, a_sums)) :
    ∀ d n q k nat' spc', d < n → z ≤ q + d → p < k → k ≤ pr_nb e a z → pr_bg e a z p ≤ q → q < pr_en e a z k → (∀ j, q ≤ j → j < pr_en e a z k → gv_isL e j) → (∀ k', p < k' → k' < k → nat' k' = nI (pr_w e a z p k') ∧ spc' k' = nI (pr_s e a z p k')) →
      wX_reach_24 post (nI t) f_length f_known f_joins f_patterns f_first f_rest f_narrow f_gap f_stretch f_shrink f_tolerance f_cost f_height f_breaks f_lines f_paragraphs n (nI ((sh_at e (pr_bg e a z p) q).1 + sh_wd e (sh_at e (pr_bg e a z p) q).2.2.tail)) (sh_hd (sh_at e (pr_bg e a z p) q).2.2) (sh_hd (sh_at e (pr_bg e a z p) q).2.2.tail) (nI (sh_at e (pr_bg e a z p) q).2.1) (nI k) (nI q) a_text a_allowed a_counts a_wide a_join a_kerns a_child a_digits a_uses a_ends a_begins a_hyphened a_least a_before nat' spc' a_way a_lineFrom a_lineTo a_linePart a_linePage a_lineWide a_lineBad a_lineHyphen a_sums := by
  intro d
  induction d with
  | zero =>
    intro n q k nat' spc' hn hq hpk hk hbq hqe
    have := (pr_en_b Z.1 hk).2
    omega
  | succ d ih =>
    intro n q k nat' spc' hn hq hpk hk hbq hqe hlet hfill
    obtain ⟨m, rfl⟩ : ∃ m, n = m + 1 := ⟨n - 1, by omega⟩
    obtain ⟨F1, F2, F3, F4, F5, E⟩ := id F
    obtain ⟨B1, B2, B3, B4⟩ := id B
    have hL := hlet q (Nat.le_refl _) hqe
    have hez := pr_en_b Z.1 hk
    have hzl := Z.2.1
    have h48 := E.1
    have hnb := pr_nb_b (e := e) (a := a) (z := z)
    have hS := sh_at_s e hbq
    rw [sh_st_l e _ hL.2] at hS
    have hok := sh_at_ok E hg20 (pr_bg e a z p) q
    have hok' := sh_push_ok E hok hL.2
    have hne' := sh_push_ne e (sh_at e (pr_bg e a z p) q).2.2 (gv_tx e q)
    have hb1 := sh_at_1b E hg20 (pr_bg e a z p) q
    have hbn := sh_nw_b E hg20 (pr_bg e a z p) (q + 1)
    have hbs : (sh_at e (pr_bg e a z p) q).2.1 ≤ q - pr_bg e a z p := sh_ns_b E hg20 (pr_bg e a z p) q
    have enw : sh_nw e (pr_bg e a z p) (q + 1) = (sh_at e (pr_bg e a z p) q).1 + sh_wd e (sh_push e (sh_at e (pr_bg e a z p) q).2.2 (gv_tx e q)) := by
      unfold sh_nw; rw [hS]
    have ens : sh_ns e (pr_bg e a z p) (q + 1) = (sh_at e (pr_bg e a z p) q).2.1 := by
      unfold sh_ns; rw [hS]
    have key : ∀ x3 x4 x5 : Int32, x3 = nI ((sh_at e (pr_bg e a z p) q).1 + sh_wd e (sh_push e (sh_at e (pr_bg e a z p) q).2.2 (gv_tx e q)).tail) → x4 = sh_hd (sh_push e (sh_at e (pr_bg e a z p) q).2.2 (gv_tx e q)) → x5 = sh_hd (sh_push e (sh_at e (pr_bg e a z p) q).2.2 (gv_tx e q)).tail →
        wX_reach_104 post (wX_reach_24 post (nI t) f_length f_known f_joins f_patterns f_first f_rest f_narrow f_gap f_stretch f_shrink f_tolerance f_cost f_height f_breaks f_lines f_paragraphs m) (nI t) x3 x4 x5 (nI (sh_at e (pr_bg e a z p) q).2.1) (nI k) (nI q) f_length f_known f_joins f_patterns f_first f_rest f_narrow f_gap f_stretch f_shrink f_tolerance f_cost f_height f_breaks f_lines f_paragraphs a_text a_allowed a_counts a_wide a_join a_kerns a_child a_digits a_uses a_ends a_begins a_hyphened a_least a_before nat' spc' a_way a_lineFrom a_lineTo a_linePart a_linePage a_lineWide a_lineBad a_lineHyphen a_sums := by
      intro x3 x4 x5 e3 e4 e5
      subst e3 e4 e5
      refine nm_r (nI_1 q) ⟨vp_in_nI (by omega) (by decide), ?_⟩
      rw [nI_clamp (n := k) (by omega), B2 k (by omega) hk]
      refine pk_eq (q + 1) (pr_en e a z k) (fun hqk => ?_) (fun hqk => ?_)
      · refine xw_adv F hok' hne' (nm_r (e' := nI (sh_nw e (pr_bg e a z p) (q + 1))) ?_ ⟨vp_in_nI (by omega) (by decide), ?_⟩)
        · rw [nI_add, enw, sh_wd_t e (sh_push e (sh_at e (pr_bg e a z p) q).2.2 (gv_tx e q))]
          exact congrArg nI (by omega)
        · have k154 : ∀ z0 : Int32, z0 = nI (if pr_hy e a z k = true then 5 else 0) → wX_reach_154 post (wX_reach_24 post (nI t) f_length f_known f_joins f_patterns f_first f_rest f_narrow f_gap f_stretch f_shrink f_tolerance f_cost f_height f_breaks f_lines f_paragraphs m) (nI t) (nI ((sh_at e (pr_bg e a z p) q).1 + sh_wd e (sh_push e (sh_at e (pr_bg e a z p) q).2.2 (gv_tx e q)).tail)) (sh_hd (sh_push e (sh_at e (pr_bg e a z p) q).2.2 (gv_tx e q))) (sh_hd (sh_push e (sh_at e (pr_bg e a z p) q).2.2 (gv_tx e q)).tail) (nI (sh_at e (pr_bg e a z p) q).2.1) (nI k) (nI (q + 1)) (nI (sh_nw e (pr_bg e a z p) (q + 1))) z0 (nI (sh_nw e (pr_bg e a z p) (q + 1))) (nI k) f_length f_known f_joins f_patterns f_first f_rest f_narrow f_gap f_stretch f_shrink f_tolerance f_cost f_height f_breaks f_lines f_paragraphs a_text a_allowed a_counts a_wide a_join a_kerns a_child a_digits a_uses a_ends a_begins a_hyphened a_least a_before nat' spc' a_way a_lineFrom a_lineTo a_linePart a_linePage a_lineWide a_lineBad a_lineHyphen a_sums := by
            intro z0 hz0
            subst hz0
            have hvk : vp_in (nI k) 49 := vp_in_nI (by omega) (by decide)
            refine ⟨hvk, fun nat2 en2 => ⟨hvk, fun spc2 es2 => ⟨hvk, ?_⟩⟩⟩
            rw [nI_clamp (n := k) (by omega)] at en2 es2 ⊢
            rw [nI_add] at en2
            rw [iw_bb (by omega)] at es2
            have hfill2 : ∀ k', p < k' → k' ≤ k → nat2 k' = nI (pr_w e a z p k') ∧ spc2 k' = nI (pr_s e a z p k') := by
              intro k' h1 h2
              by_cases ek : k' = k
              · rw [en2, es2, ek, pk_us, pk_us]
                unfold pr_w pr_s
                rw [← hqk, ens]
                exact ⟨rfl, rfl⟩
              · rw [en2, es2, pk_un ek, pk_un ek]
                exact hfill k' h1 (by omega)
            refine bl_br (B4 k hk) (fun hf => ?_) (fun hf => ?_)
            · have hnl := pr_hy_f (by omega) hk hf
              have hsb : (sh_at e (pr_bg e a z p) q).2.1 * gv_sk e ≤ 48 * 20 := Nat.mul_le_mul (by omega) (by omega)
              have hsi : (nI (sh_nw e (pr_bg e a z p) (q + 1)) - nI (sh_at e (pr_bg e a z p) q).2.1 * f_shrink ≤ nI t) ↔ sh_nw e (pr_bg e a z p) (q + 1) ≤ t + (sh_at e (pr_bg e a z p) q).2.1 * gv_sk e := by
                rw [hshr, pk_mul]
                exact iw_suble (by omega) (by omega) (by omega)
              refine ek_if hsi (fun hle => ?_) (fun hle => ?_)
              · refine nm_r (e' := nI (sh_nw e (pr_bg e a z p) (q + 1) + gv_gp e)) (by rw [hgap, nI_add]) (nm_r (nI_1 _) ⟨hvk, nm_e (nm_r (nI_1 k) ?_)⟩)
                by_cases hkn : k = pr_nb e a z
                · obtain ⟨m', rfl⟩ : ∃ m', m = m' + 1 := ⟨m - 1, by omega⟩
                  refine br_t ?_ ?_
                  · rw [B1, hkn]; exact nI_lt (by omega) (by omega)
                  · exact @ek_v _ (fun x => post x (f_length, f_known, f_joins, f_patterns, f_first, f_rest, f_narrow, f_gap, f_stretch, f_shrink, f_tolerance, f_cost, f_height, f_breaks, f_lines, f_paragraphs, a_text, a_allowed, a_counts, a_wide, a_join, a_kerns, a_child, a_digits, a_uses, a_ends, a_begins, a_hyphened, a_least, a_before, nat2, spc2, a_way, a_lineFrom, a_lineTo, a_linePart, a_linePage, a_lineWide, a_lineBad, a_lineHyphen, a_sums)) _ _ B1 (h (pr_nb e a z) nat2 spc2 (by omega) (Nat.le_refl _) (fun k' h1 h2 => hfill2 k' h1 (by omega)) (fun k' h1 h2 => by omega))
                · have hbk := pr_bg_b E (a := a) (z := z) (k := k) (by omega)
                  have hek := pr_en_b Z.1 (e := e) (k := k + 1) (by omega)
                  have hsg := pr_seg E Z (k := k) (by omega)
                  rw [B3 k (by omega)]
                  have hq1 : pr_en e a z k < pr_bg e a z k := by
                    rcases Nat.lt_or_ge (pr_en e a z k) (pr_bg e a z k) with y | y
                    · exact y
                    · exact absurd hbk.1 (by rw [show pr_bg e a z k = pr_en e a z k from by omega]; exact hnl)
                  have hgp := sh_gap (e := e) (f := pr_bg e a z p) (q := q + 1) (q' := pr_bg e a z k) (by omega) (by omega) (by rw [hS]; exact hne') (fun j h1 h2 => fun h3 => hbk.2.2.2 j (by omega) h2 ⟨by omega, h3⟩)
                  rw [hS] at hgp
                  have := ih m (pr_bg e a z k) (k + 1) nat2 spc2 (by omega) (by omega) (by omega) (by omega) (by omega) hbk.2.2.1 hsg (fun k' h1 h2 => hfill2 k' h1 (by omega))
                  rw [hgp] at this
                  rw [enw]
                  exact this
              · refine h k nat2 spc2 hpk hk hfill2 (fun k' h1 h2 => ?_)
                have hek := pr_en_b Z.1 (e := e) (k := k') h2
                have hm := pr_en_m h1 h2
                have ho := sh_over (e := e) (t := t) (f := pr_bg e a z p) (q := q + 1) (q' := pr_en e a z k') hsk (by omega) (fun h3 => hnl ⟨by omega, by rw [← hqk]; exact h3⟩) (by rw [hS]; exact hne') (by omega) (by rw [ens]; omega)
                unfold pr_w pr_s
                omega
            · refine nm_r (nI_1 k) ?_
              have hbh := pr_bg_h hf
              by_cases hkn : k = pr_nb e a z
              · obtain ⟨m', rfl⟩ : ∃ m', m = m' + 1 := ⟨m - 1, by omega⟩
                refine br_t ?_ ?_
                · rw [B1, hkn]; exact nI_lt (by omega) (by omega)
                · exact @ek_v _ (fun x => post x (f_length, f_known, f_joins, f_patterns, f_first, f_rest, f_narrow, f_gap, f_stretch, f_shrink, f_tolerance, f_cost, f_height, f_breaks, f_lines, f_paragraphs, a_text, a_allowed, a_counts, a_wide, a_join, a_kerns, a_child, a_digits, a_uses, a_ends, a_begins, a_hyphened, a_least, a_before, nat2, spc2, a_way, a_lineFrom, a_lineTo, a_linePart, a_linePage, a_lineWide, a_lineBad, a_lineHyphen, a_sums)) _ _ B1 (h (pr_nb e a z) nat2 spc2 (by omega) (Nat.le_refl _) (fun k' h1 h2 => hfill2 k' h1 (by omega)) (fun k' h1 h2 => by omega))
              · have hbk := pr_bg_b E (a := a) (z := z) (k := k) (by omega)
                have hsg := pr_seg E Z (k := k) (by omega)
                rw [hbh] at hbk hsg
                have := ih m (q + 1) (k + 1) nat2 spc2 (by omega) (by omega) (by omega) (by omega) (by omega) (by omega) (fun j h1 h2 => hsg j (by omega) h2) (fun k' h1 h2 => hfill2 k' h1 (by omega))
                rw [hS] at this
                exact this
          refine bl_br (B4 k hk) (fun hf => k154 0 (by rw [hf]; rfl)) (fun hf => k154 5 (by rw [hf]; rfl))
      · have := ih m (q + 1) k nat' spc' (by omega) (by omega) hpk hk (by omega) (by omega) (fun j h1 h2 => hlet j (by omega) h2) hfill
        rw [hS] at this
        exact this
    refine br_f ?_ ⟨vp_in_nI (by omega) (by decide), nm_r (e' := nI (gv_tx e q)) (by rw [nI_clamp (by omega), F2]) ?_⟩
    · rw [B1]; exact nI_nlt hk (by omega)
    revert key hok
    generalize (sh_at e (pr_bg e a z p) q).2.2 = L
    intro hok key
    cases L with
    | nil =>
      refine br_f (by show ¬ (0 : Int32) ≤ -1; decide) (br_t (by decide) (br_t (by show (-1 : Int32) < 0; decide) ?_))
      exact key _ _ _ rfl rfl rfl
    | cons g r =>
      have hg := (sh_ok_c hok).1
      have hj := E.2.2.2.2 (10 * g + gv_tx e q) (by have := hL.2; omega)
      have hl10 := hL.2
      refine br_t (nI_pos' (by omega)) ?_
      show vp_in ((10 * nI g) + nI (gv_tx e q)) 100 ∧ wX_reach_64 _ _ _ _ _ _ _ _ _ _ (a_join ((10 * nI g) + nI (gv_tx e q)).toNatClampNeg) _ _ _ _ _ _ _ _ _ _ _ _ _ _ _ _ a_text a_allowed a_counts a_wide a_join a_kerns a_child a_digits a_uses a_ends a_begins a_hyphened a_least a_before _ _ a_way a_lineFrom a_lineTo a_linePart a_linePage a_lineWide a_lineBad a_lineHyphen a_sums
      rw [iw_ix, nI_clamp (by omega), F4 (10 * g + gv_tx e q) (by omega)]
      refine ⟨vp_in_nI (by omega) (by decide), ?_⟩
      by_cases hj0 : gv_jn e (10 * g + gv_tx e q) = 0
      · have ep : sh_push e (g :: r) (gv_tx e q) = gv_tx e q :: g :: r := if_pos hj0
        rw [ep] at key
        rw [hj0]
        refine br_t (by decide) (br_f (nI_pos (by omega)) ?_)
        refine xw_adv (L := g :: r) F hok (fun z => by cases z) (nm_e (key _ _ _ ?_ rfl rfl))
        rw [nI_add]
        exact congrArg nI (by rw [show ((gv_tx e q :: g :: r).tail) = g :: r from rfl, sh_wd_t e (g :: r)]; omega)
      · have ep : sh_push e (g :: r) (gv_tx e q) = (gv_jn e (10 * g + gv_tx e q) - 1) :: r := if_neg hj0
        rw [ep] at key
        refine br_f (nI_nle (by omega) (by omega)) (nm_r (nI_m1 (by omega)) (key _ _ _ rfl rfl rfl))
theorem xw_reach {post : Int32 → SX → Prop} {a z p t : Nat} (F : ex_F e f_length a_text a_wide a_join a_kerns) (hgap : f_gap = nI (gv_gp e)) (hshr : f_shrink = nI (gv_sk e)) (hsk : gv_sk e ≤ gv_gp e) (hg20 : gv_gp e ≤ 20) (Z : pd_ok e a z) (B : ex_B e a z f_breaks a_ends a_begins a_hyphened) (ht : t ≤ 30000) (hp : p < pr_nb e a z)
    (h : ∀ r nat' spc', p < r → r ≤ pr_nb e a z → (∀ k, p < k → k ≤ r → nat' k = nI (pr_w e a z p k) ∧ spc' k = nI (pr_s e a z p k)) → (∀ k, r < k → k ≤ pr_nb e a z → t + pr_s e a z p k * gv_sk e < pr_w e a z p k) → post (nI r) (f_length, f_known, f_joins, f_patterns, f_first, f_rest, f_narrow, f_gap, f_stretch, f_shrink, f_tolerance, f_cost, f_height, f_breaks, f_lines, f_paragraphs, a_text, a_allowed, a_counts, a_wide, a_join, a_kerns, a_child, a_digits, a_uses, a_ends, a_begins, a_hyphened, a_least, a_before, nat', spc', a_way, a_lineFrom, a_lineTo, a_linePart, a_linePage, a_lineWide, a_lineBad, a_lineHyphen, a_sums)) :
    wpX_reach post (f_length, f_known, f_joins, f_patterns, f_first, f_rest, f_narrow, f_gap, f_stretch, f_shrink, f_tolerance, f_cost, f_height, f_breaks, f_lines, f_paragraphs, a_text, a_allowed, a_counts, a_wide, a_join, a_kerns, a_child, a_digits, a_uses, a_ends, a_begins, a_hyphened, a_least, a_before, a_natural, a_spaces, a_way, a_lineFrom, a_lineTo, a_linePart, a_linePage, a_lineWide, a_lineBad, a_lineHyphen, a_sums) (nI p) (nI t) := by
  have E := F.2.2.2.2.2
  have h48 := E.1
  have hzl := Z.2.1
  have hnb := pr_nb_b (e := e) (a := a) (z := z)
  have hb := pr_bg_b E hp
  have hez := pr_en_b Z.1 (e := e) (k := p + 1) hp
  refine nm_r (nI_1 p) ⟨vp_in_nI (by omega) (by decide), nm_r (e' := nI (pr_bg e a z p)) (by rw [nI_clamp (by omega), B.2.2.1 p hp]) ⟨z + 1, ?_⟩⟩
  have := xw_reach_l F hgap hshr hsk hg20 Z B ht h z (z + 1) (pr_bg e a z p) (p + 1) a_natural a_spaces (by omega) (by omega) (by omega) hp (Nat.le_refl _) hb.2.2.1 (pr_seg E Z hp) (fun k' h1 h2 => by omega)
  rw [sh_at_0] at this
  exact this
end
end
section
/-! the component: badness, later, relax -/
section
variable {e : gv_T} {f_length f_known f_joins f_patterns f_first f_rest f_narrow f_gap f_stretch f_shrink f_tolerance f_cost f_height f_breaks f_lines f_paragraphs : Int32} {a_text a_allowed a_counts a_wide a_join a_kerns a_child a_digits a_uses a_ends a_begins a_hyphened a_before a_natural a_spaces a_way a_lineFrom a_lineTo a_linePart a_linePage a_lineWide a_lineBad a_lineHyphen : Nat → Int32} {a_least a_sums : Nat → Int64}
theorem xw_bd88 {post : Int32 → Prop} {d g : Nat} {x4 z0 : Int32} {z1 : Int64} (h4 : x4 = nI g) (h0 : z0 = nI d) (h1 : z1 = lN (d * d)) (hd : d ≤ 3000) (hg : g ≤ 1000) (hg0 : 0 < g) (h : post (bq_i (min (100 * (d * d * d) / (g * g * g)) 10000 + 1))) : wX_badness_88 post x4 z0 z1 f_length f_known f_joins f_patterns f_first f_rest f_narrow f_gap f_stretch f_shrink f_tolerance f_cost f_height f_breaks f_lines f_paragraphs a_text a_allowed a_counts a_wide a_join a_kerns a_child a_digits a_uses a_ends a_begins a_hyphened a_least a_before a_natural a_spaces a_way a_lineFrom a_lineTo a_linePart a_linePage a_lineWide a_lineBad a_lineHyphen a_sums := by
  subst h4 h0 h1
  obtain ⟨q1, q2⟩ := bq_lq hd hg hg0
  intro x5 e5 x7 e7
  rw [nI_l (by omega)] at e5 e7
  subst e5 e7
  exact ⟨q2, fun x9 e9 => bq_fin (e9.trans q1) (bq_qb hd hg hg0) h⟩
theorem xw_bd {post : Int32 → Prop} (M : ex_M e f_first f_rest f_narrow f_gap f_stretch f_shrink f_tolerance f_cost f_height) {k t w s nb : Nat} (hb : f_breaks = nI nb) (hk : k ≤ 48) (hn : nb ≤ 48) (h1 : a_natural k = nI w) (h2 : a_spaces k = nI s) (hw : w ≤ 2700) (hs : s ≤ 48) (ht : t ≤ 300) (h : post (bq_i (bq_c e t w s (decide (k = nb))))) : wpX_badness post (f_length, f_known, f_joins, f_patterns, f_first, f_rest, f_narrow, f_gap, f_stretch, f_shrink, f_tolerance, f_cost, f_height, f_breaks, f_lines, f_paragraphs, a_text, a_allowed, a_counts, a_wide, a_join, a_kerns, a_child, a_digits, a_uses, a_ends, a_begins, a_hyphened, a_least, a_before, a_natural, a_spaces, a_way, a_lineFrom, a_lineTo, a_linePart, a_linePage, a_lineWide, a_lineBad, a_lineHyphen, a_sums) (nI k) (nI t) := by
  obtain ⟨-, M2, M3, M4, M5, M6, M7, M8, M9, K⟩ := M
  have hst := K.2.2.2.2.1
  have hsk := K.2.2.2.2.2.1
  have hgp := K.2.2.2.1
  have b1 : s * gv_st e ≤ 48 * 20 := Nat.mul_le_mul hs hst
  have b2 : s * gv_sk e ≤ 48 * 20 := Nat.mul_le_mul hs (by omega)
  have hv : vp_in (nI k) 49 := vp_in_nI (by omega) (by decide)
  refine ⟨hv, ?_⟩
  rw [nI_clamp (n := k) (by omega), h1, h2]
  rcases Nat.lt_or_ge t w with hlt | hge
  · have hd : w - t ≤ 3000 := by omega
    have hneg : ¬ (0 : Int32) ≤ -(nI (w - t)) := by
      rw [Int32.le_iff_toInt_le, sb_negT (by omega)]
      show ¬ (0 : Int) ≤ _
      omega
    have hne : ¬ -(nI (w - t)) = 0 := fun z => hneg (by rw [z]; decide)
    have hle : -(nI (w - t)) ≤ 0 := by
      rw [Int32.le_iff_toInt_le, sb_negT (by omega)]
      show _ ≤ (0 : Int)
      omega
    refine nm_r (nI_neg (Nat.le_of_lt hlt)) ⟨hv, br_f hneg (nm_r (e' := nI (s * gv_sk e)) (by rw [M6, pk_mul]) (br_f hne (br_t hle (br_f hneg ?_))))⟩
    have ec : bq_c e t w s (decide (k = nb)) = if s * gv_sk e < w - t then 0 else if s * gv_sk e = 0 then 10001 else min (100 * ((w - t) * (w - t) * (w - t)) / (s * gv_sk e * (s * gv_sk e) * (s * gv_sk e))) 10000 + 1 := by
      unfold bq_c; rw [if_neg (by omega), if_neg (by omega)]
    rw [ec] at h
    rw [show - -(nI (w - t)) = nI (w - t) from by grind]
    refine pk_le (w - t) (s * gv_sk e) (fun g1 => ?_) (fun g1 => ?_)
    · rw [if_neg (by omega)] at h
      refine pk_eq (s * gv_sk e) 0 (fun g2 => ?_) (fun g2 => br_f hneg ?_)
      · rw [if_pos g2] at h; exact h
      · rw [if_neg g2] at h
        refine xw_bd88 rfl (by grind) ?_ hd (by omega) (by omega) h
        rw [← lN_mul, ← nI_l (by omega)]
        have : (-(nI (w - t))).toInt64 = -(nI (w - t)).toInt64 := by
          apply Int64.toInt_inj.mp
          rw [Int32.toInt_toInt64, sb_negT (by omega), Int64.toInt_neg, Int32.toInt_toInt64, nI_toInt (by omega)]
          exact (Int.bmod_eq_of_le (by omega) (by omega)).symm
        rw [this]
        grind
    · rw [if_pos g1] at h; exact h
  · have hd : t - w ≤ 3000 := by omega
    refine nm_r (pk_sub hge) ⟨hv, br_t (nI_pos' (by omega)) (nm_r (e' := nI (s * gv_st e)) (by rw [M5, pk_mul]) (pk_eq (t - w) 0 (fun g1 => ?_) (fun g1 => br_f (nI_nle (by omega) (by omega)) ?_)))⟩
    · have ec : bq_c e t w s (decide (k = nb)) = 1 := by
        unfold bq_c; rw [if_pos (by omega)]
      rw [ec] at h; exact h
    · refine pk_eq k nb (fun g2 => ?_) (fun g2 => br_t (nI_pos' (by omega)) ?_) rfl hb
      · have ec : bq_c e t w s (decide (k = nb)) = 1 := by
          unfold bq_c; rw [if_pos (Or.inr ⟨by omega, decide_eq_true g2⟩)]
        rw [ec] at h; exact h
      · have ec : bq_c e t w s (decide (k = nb)) = if s * gv_st e = 0 then 10001 else min (100 * ((t - w) * (t - w) * (t - w)) / (s * gv_st e * (s * gv_st e) * (s * gv_st e))) 10000 + 1 := by
          unfold bq_c
          rw [if_neg (by rw [decide_eq_true_iff]; omega), if_pos (by omega)]
        rw [ec] at h
        refine pk_eq (s * gv_st e) 0 (fun g3 => ?_) (fun g3 => br_t (nI_pos' (by omega)) ?_)
        · rw [if_pos g3] at h; exact h
        · rw [if_neg g3] at h
          refine xw_bd88 rfl rfl ?_ hd (by omega) (by omega) h
          rw [← lN_mul, ← nI_l (by omega)]
theorem xw_later {S : Nat → Nat → Nat → Nat → Option (Nat × Nat)} {N nb : Nat} {cut : Nat → Nat} {D P : Nat → Nat} {V : Nat → List Nat} (I : dp_in S N nb cut D P V) (A : dp_ar nb a_least a_before D P) (hnb : nb ≤ 48) {post : Int32 → Prop} :
    ∀ m s t n, s / 16 < m → m ≤ n → s < 16 * nb + 16 → t < 16 * nb + 16 → D s ≠ 0 → D t ≠ 0 → s ≠ t → (dp_lt (V s) (V t) → post 1) → (¬ dp_lt (V s) (V t) → post 0) → wX_later_5 post f_length f_known f_joins f_patterns f_first f_rest f_narrow f_gap f_stretch f_shrink f_tolerance f_cost f_height f_breaks f_lines f_paragraphs a_text a_allowed a_counts a_wide a_join a_kerns a_child a_digits a_uses a_ends a_begins a_hyphened a_least a_before a_natural a_spaces a_way a_lineFrom a_lineTo a_linePart a_linePage a_lineWide a_lineBad a_lineHyphen a_sums n (nI s) (nI t) := by
  intro m
  induction m with
  | zero => intro s t n h; omega
  | succ m ih =>
    intro s t n hm hn hs ht ds dt hst p1 p0
    obtain ⟨n, rfl⟩ : ∃ n', n = n' + 1 := ⟨n - 1, by omega⟩
    obtain ⟨rs, es⟩ := dp_hd I hs ds
    obtain ⟨rt, et⟩ := dp_hd I ht dt
    refine pk_eq (s / 16) (t / 16) (fun h => ?_) (fun h => ?_) (iw_shr4 (by omega)) (iw_shr4 (by omega))
    · obtain ⟨n1, w1, m1, c1⟩ := I.1 s hs ds
      obtain ⟨n2, w2, m2, c2⟩ := I.1 t ht dt
      have h16 : 16 ≤ s ∧ 16 ≤ t := by
        rcases c1 with ⟨c1, -⟩ | ⟨c1, -⟩ <;> rcases c2 with ⟨c2, -⟩ | ⟨c2, -⟩ <;> omega
      rcases c1 with ⟨c1, -⟩ | ⟨-, a2, a3, a4, a5⟩
      · omega
      rcases c2 with ⟨c2, -⟩ | ⟨-, b2, b3, b4, b5⟩
      · omega
      have hlt : dp_lt (V s) (V t) ↔ dp_lt (V (P s)) (V (P t)) := by
        rw [a5, b5]
        constructor
        · intro g
          rw [dp_lt] at g
          rcases g with g | g
          · omega
          · exact g.2
        · intro g
          rw [dp_lt]
          exact Or.inr ⟨h, g⟩
      refine ⟨vp_in_nI (by omega) (by decide), nm_r (e' := nI (P s)) (by rw [nI_clamp (by omega)]; exact A.2 s h16.1 hs ds) ⟨vp_in_nI (by omega) (by decide), nm_r (e' := nI (P t)) (by rw [nI_clamp (by omega)]; exact A.2 t h16.2 ht dt) ?_⟩⟩
      refine ih (P s) (P t) n (by omega) (by omega) (by omega) (by omega) a4 b4 (fun z => ?_) (fun g => p1 (hlt.mpr g)) (fun g => p0 (fun y => g (hlt.mp y)))
      apply hst
      apply dp_inj I hs ht ds dt
      rw [a5, b5, h, z]
    · refine pk_le s t (fun g => p0 ?_) (fun g => p1 ?_)
      · rw [es, et, dp_lt]
        rintro (y | y) <;> omega
      · rw [es, et, dp_lt]
        exact Or.inl (by omega)
theorem xw_189 {S : Nat → Nat → Nat → Nat → Option (Nat × Nat)} {N nb : Nat} {cut : Nat → Nat} {D P : Nat → Nat} {V : Nat → List Nat} (O : dp_ok S N 110000000) (I : dp_in S N nb cut D P V) (A : dp_ar nb a_least a_before D P) (hnb : nb ≤ 48) {post : SX → Prop} {s k c m sum t : Nat} (hs : s < 16 * nb + 16) (ds : D s ≠ 0) (hc : c < 4) (hm : m < 4) (hk : k ≤ nb) (hsum : sum < 2 ^ 62) (et : t = 16 * k + 4 * m + c) (hps : D t ≠ 0 → P t ≠ s) (hk0 : 0 < k)
    (h1 : (D t = 0 ∨ sum < D t - 1 ∨ (D t - 1 = sum ∧ dp_lt (V s) (V (P t)))) → post (f_length, f_known, f_joins, f_patterns, f_first, f_rest, f_narrow, f_gap, f_stretch, f_shrink, f_tolerance, f_cost, f_height, f_breaks, f_lines, f_paragraphs, a_text, a_allowed, a_counts, a_wide, a_join, a_kerns, a_child, a_digits, a_uses, a_ends, a_begins, a_hyphened, vp_updL a_least t (lN sum), upd a_before t (nI s), a_natural, a_spaces, a_way, a_lineFrom, a_lineTo, a_linePart, a_linePage, a_lineWide, a_lineBad, a_lineHyphen, a_sums))
    (h2 : D t ≠ 0 → (D t - 1 < sum ∨ (D t - 1 = sum ∧ ¬ dp_lt (V s) (V (P t)))) → post (f_length, f_known, f_joins, f_patterns, f_first, f_rest, f_narrow, f_gap, f_stretch, f_shrink, f_tolerance, f_cost, f_height, f_breaks, f_lines, f_paragraphs, a_text, a_allowed, a_counts, a_wide, a_join, a_kerns, a_child, a_digits, a_uses, a_ends, a_begins, a_hyphened, a_least, a_before, a_natural, a_spaces, a_way, a_lineFrom, a_lineTo, a_linePart, a_linePage, a_lineWide, a_lineBad, a_lineHyphen, a_sums)) : wX_relax_189 post (nI s) (nI c) (lN sum) (nI m) 4 (16 * nI k) f_length f_known f_joins f_patterns f_first f_rest f_narrow f_gap f_stretch f_shrink f_tolerance f_cost f_height f_breaks f_lines f_paragraphs a_text a_allowed a_counts a_wide a_join a_kerns a_child a_digits a_uses a_ends a_begins a_hyphened a_least a_before a_natural a_spaces a_way a_lineFrom a_lineTo a_linePart a_linePage a_lineWide a_lineBad a_lineHyphen a_sums := by
  have ht : t < 16 * nb + 16 := by omega
  have hv : vp_in (nI t) 784 := vp_in_nI (by omega) (by decide)
  have hDb := dp_Db O I hnb ht
  have k250 : (D t = 0 ∨ sum < D t - 1 ∨ (D t - 1 = sum ∧ dp_lt (V s) (V (P t)))) → wX_relax_250 post (nI s) (lN sum) (nI t) f_length f_known f_joins f_patterns f_first f_rest f_narrow f_gap f_stretch f_shrink f_tolerance f_cost f_height f_breaks f_lines f_paragraphs a_text a_allowed a_counts a_wide a_join a_kerns a_child a_digits a_uses a_ends a_begins a_hyphened a_least a_before a_natural a_spaces a_way a_lineFrom a_lineTo a_linePart a_linePage a_lineWide a_lineBad a_lineHyphen a_sums := by
    intro g
    refine ⟨hv, nm_r (e' := vp_updL a_least t (lN sum)) (by rw [nI_clamp (by omega)]) ⟨hv, nm_r (e' := upd a_before t (nI s)) (by rw [nI_clamp (by omega), iw_ss (by omega)]) (h1 g)⟩⟩
  refine nm_r (e' := nI t) (by rw [iw_16, show (4 : Int32) = nI 4 from rfl, pk_mul, nI_add, nI_add, et]) ⟨hv, ?_⟩
  rw [nI_clamp (n := t) (by omega), A.1 t ht]
  refine ek_if (dp_lc_lt (by omega)) (fun g => k250 (Or.inl g)) (fun g => ⟨hv, ?_⟩)
  rw [dp_lc_n g]
  refine ek_if (pk_lLT (by omega) (by omega)) (fun g1 => h2 g (Or.inl g1)) (fun g1 => ⟨hv, ek_if (pk_lEQ (by omega) (by omega)) (fun g2 => ⟨hv, ?_⟩) (fun g2 => k250 (Or.inr (Or.inl (by omega))))⟩)
  obtain ⟨n1, w1, m1, c1⟩ := I.1 t ht g
  rcases c1 with ⟨c1, -⟩ | ⟨a1, a2, a3, a4, a5⟩
  · omega
  rw [A.2 t a1 ht g]
  exact ⟨49, xw_later I A hnb 49 s (P t) 49 (by omega) (by omega) hs (by omega) ds a4 (fun y => hps g y.symm) (fun g3 => br_f (by decide) (k250 (Or.inr (Or.inr ⟨g2, g3⟩)))) (fun g3 => br_t rfl (h2 g (Or.inr ⟨g2, g3⟩)))⟩
theorem xw_cls {post : Int32 → Prop} {b t w : Nat} {x : Int32} (hb : b ≤ 10000) (hx : x = bl_i (decide (t < w))) (h : post (nI (bq_cl t w b))) : wpX_classOf post (nI b) x := by
  unfold bq_cl at h
  refine pk_lt 12 b (fun g => bl_br hx (fun g1 => ?_) (fun g1 => ?_)) (fun g => ?_)
  · rw [if_neg (by omega), if_neg (of_decide_eq_false g1)] at h
    refine pk_le 100 b (fun g2 => ?_) (fun g2 => ?_)
    · rw [if_neg (by omega)] at h; exact h
    · rw [if_pos (by omega)] at h; exact h
  · rw [if_neg (by omega), if_pos (of_decide_eq_true g1)] at h; exact h
  · rw [if_pos (by omega)] at h; exact h
theorem xw_el {post : Int32 → Prop} {s : Nat} (hs : s < 2 ^ 31) (h : post (nI (s / 4 % 4))) : wpX_earlierLine post (f_length, f_known, f_joins, f_patterns, f_first, f_rest, f_narrow, f_gap, f_stretch, f_shrink, f_tolerance, f_cost, f_height, f_breaks, f_lines, f_paragraphs, a_text, a_allowed, a_counts, a_wide, a_join, a_kerns, a_child, a_digits, a_uses, a_ends, a_begins, a_hyphened, a_least, a_before, a_natural, a_spaces, a_way, a_lineFrom, a_lineTo, a_linePart, a_linePage, a_lineWide, a_lineBad, a_lineHyphen, a_sums) (nI s) := by
  show post ((nI s >>> ((2 : Int32) &&& 31)) &&& 3)
  rw [iw_shr2 hs, iw_and3 (by omega)]
  exact h
theorem xw_relax {post : SX → Prop} {a z : Nat} {cut : Nat → Nat} {D P : Nat → Nat} {V : Nat → List Nat} (F : ex_F e f_length a_text a_wide a_join a_kerns) (M : ex_M e f_first f_rest f_narrow f_gap f_stretch f_shrink f_tolerance f_cost f_height) (Z : pd_ok e a z) (B : ex_B e a z f_breaks a_ends a_begins a_hyphened) (I : dp_in (pr_S e a z) (gv_nr e) (pr_nb e a z) cut D P V) (A : dp_ar (pr_nb e a z) a_least a_before D P) {s k : Nat} (ds : D s ≠ 0) (hp : s / 16 < k) (hk : k ≤ pr_nb e a z) (hcp : 16 * (s / 16) ≤ cut (s / 16)) (hck : cut k = s) (hall : ∀ j, j ≤ pr_nb e a z → cut j ≤ 16 * k) (hn1 : a_natural k = nI (pr_w e a z (s / 16) k)) (hn2 : a_spaces k = nI (pr_s e a z (s / 16) k))
    (h : ∀ D' P' V' L' F', dp_in (pr_S e a z) (gv_nr e) (pr_nb e a z) (dp_u cut k (s + 1)) D' P' V' → dp_ar (pr_nb e a z) L' F' D' P' → F' 1 = a_before 1 → post (f_length, f_known, f_joins, f_patterns, f_first, f_rest, f_narrow, f_gap, f_stretch, f_shrink, f_tolerance, f_cost, f_height, f_breaks, f_lines, f_paragraphs, a_text, a_allowed, a_counts, a_wide, a_join, a_kerns, a_child, a_digits, a_uses, a_ends, a_begins, a_hyphened, L', F', a_natural, a_spaces, a_way, a_lineFrom, a_lineTo, a_linePart, a_linePage, a_lineWide, a_lineBad, a_lineHyphen, a_sums)) : wpX_relax post (f_length, f_known, f_joins, f_patterns, f_first, f_rest, f_narrow, f_gap, f_stretch, f_shrink, f_tolerance, f_cost, f_height, f_breaks, f_lines, f_paragraphs, a_text, a_allowed, a_counts, a_wide, a_join, a_kerns, a_child, a_digits, a_uses, a_ends, a_begins, a_hyphened, a_least, a_before, a_natural, a_spaces, a_way, a_lineFrom, a_lineTo, a_linePart, a_linePage, a_lineWide, a_lineBad, a_lineHyphen, a_sums) (nI s) (nI k) := by
  obtain ⟨F1, F2, F3, F4, F5, E⟩ := id F
  obtain ⟨⟨f1, m1, m2, m3⟩, M2, M3, M4, M5, M6, M7, M8, M9, K⟩ := id M
  obtain ⟨B1, B2, B3, B4⟩ := id B
  have h48 := E.1
  have hzl := Z.2.1
  have hnb := pr_nb_b (e := e) (a := a) (z := z)
  have hnb48 : pr_nb e a z ≤ 48 := by omega
  have O := pr_ok K a z (N := gv_nr e) (Nat.le_refl _) K.2.2.1
  have hs : s < 16 * pr_nb e a z + 16 := by omega
  have hwb := pr_w_b E K.2.2.2.1 (p := s / 16) Z hk
  have htg := bq_tgb K (s / 4 % 4)
  have hnar := K.2.2.1
  have hvk : vp_in (nI k) 49 := vp_in_nI (by omega) (by decide)
  have hvs : vp_in (nI s) 784 := vp_in_nI (by omega) (by decide)
  have hDs := dp_Db O I hnb48 hs
  have hbb : pr_bd e a z (s / 16) k (s / 4 % 4) ≤ 10001 := bq_b _ _ _ _ _
  unfold wpX_relax
  refine xw_el (by omega) (xw_tg M (by omega) (xw_bd M B1 (by omega) hnb48 hn1 hn2 hwb.1 hwb.2 htg ?_))
  show (bq_i (pr_bd e a z (s / 16) k (s / 4 % 4)) < 0 → _) ∧ _
  refine ek_if (bq_i_lt hbb) (fun g => ?_) (fun g => ?_)
  · refine h D P V a_least a_before (dp_raise O I (fun j hj => ?_) (fun j s' hj h1 h2 h3 => ?_)) A rfl
    · by_cases ej : j = k
      · rw [ej, dp_us]; omega
      · rw [dp_un _ _ ej]; exact Nat.le_refl _
    · by_cases ej : j = k
      · rw [ej] at h1 h2
        rw [dp_us] at h2
        have : s' = s := by omega
        rw [this, ej]
        exact Or.inr (pr_S_n (Or.inl g))
      · rw [dp_un _ _ ej] at h2; omega
  · obtain ⟨b, hb⟩ : ∃ b, pr_bd e a z (s / 16) k (s / 4 % 4) = b + 1 := ⟨pr_bd e a z (s / 16) k (s / 4 % 4) - 1, by omega⟩
    have hb' : bq_c e (bq_tg e (s / 4 % 4)) (pr_w e a z (s / 16) k) (pr_s e a z (s / 16) k) (decide (k = pr_nb e a z)) = b + 1 := hb
    rw [hb', bq_i_s]
    have hb4 : b ≤ 10000 := by omega
    have htl := K.2.2.2.2.2.2.1
    refine pk_le b (gv_tl e) (fun g1 => ⟨hvk, ?_⟩) (fun g1 => ?_) rfl M7
    · have hS : pr_S e a z (s / 16) k (s / 4 % 4) (s % 4) = some (pr_cl e a z (s / 16) k (s / 4 % 4), pr_ct e a z (s / 16) k (s / 4 % 4) (s % 4)) := pr_S_s (by rw [hb]; omega)
      have hcl4 := (O.2.1 _ _ _ _ _ _ hS)
      rw [nI_clamp (n := k) (by omega), hn1]
      have k55 : ∀ x : Int32, x = bl_i (decide (bq_tg e (s / 4 % 4) < pr_w e a z (s / 16) k)) → wX_relax_55 post (nI s) (nI k) (nI (s / 4 % 4)) (nI b) x (nI b) f_length f_known f_joins f_patterns f_first f_rest f_narrow f_gap f_stretch f_shrink f_tolerance f_cost f_height f_breaks f_lines f_paragraphs a_text a_allowed a_counts a_wide a_join a_kerns a_child a_digits a_uses a_ends a_begins a_hyphened a_least a_before a_natural a_spaces a_way a_lineFrom a_lineTo a_linePart a_linePage a_lineWide a_lineBad a_lineHyphen a_sums := by
        intro x hx
        refine xw_cls hb4 hx ?_
        have ecl : bq_cl (bq_tg e (s / 4 % 4)) (pr_w e a z (s / 16) k) b = pr_cl e a z (s / 16) k (s / 4 % 4) := by
          unfold pr_cl; rw [hb]; rfl
        rw [ecl]
        refine nm_r (iw_and3 (by omega)) ⟨hvs, hvk, ?_⟩
        rw [nI_clamp (n := k) (by omega), nI_clamp (n := s) (by omega), A.1 s hs, dp_lc_n ds]
        have e10 : ((10 : Int64) + (nI b).toInt64) * ((10 : Int32) + nI b).toInt64 = lN ((10 + b) * (10 + b)) := by
          rw [show (10 : Int32) = nI 10 from rfl, nI_add, nI_l (by omega), nI_l (by omega), show (10 : Int64) = lN 10 from rfl, lN_add, lN_mul]
        rw [e10, lN_add]
        have k166 : ∀ sum, sum = D s - 1 + pr_ct e a z (s / 16) k (s / 4 % 4) (s % 4) → wX_relax_166 post (nI s) (nI k) (nI (s / 4 % 4)) (nI (pr_cl e a z (s / 16) k (s / 4 % 4))) (lN sum) f_length f_known f_joins f_patterns f_first f_rest f_narrow f_gap f_stretch f_shrink f_tolerance f_cost f_height f_breaks f_lines f_paragraphs a_text a_allowed a_counts a_wide a_join a_kerns a_child a_digits a_uses a_ends a_begins a_hyphened a_least a_before a_natural a_spaces a_way a_lineFrom a_lineTo a_linePart a_linePage a_lineWide a_lineBad a_lineHyphen a_sums := by
          intro sum hsum
          have k189 : ∀ m : Nat, m = min (s / 4 % 4 + 1) (gv_nr e) → wX_relax_189 post (nI s) (nI (pr_cl e a z (s / 16) k (s / 4 % 4))) (lN sum) (nI m) 4 (16 * nI k) f_length f_known f_joins f_patterns f_first f_rest f_narrow f_gap f_stretch f_shrink f_tolerance f_cost f_height f_breaks f_lines f_paragraphs a_text a_allowed a_counts a_wide a_join a_kerns a_child a_digits a_uses a_ends a_begins a_hyphened a_least a_before a_natural a_spaces a_way a_lineFrom a_lineTo a_linePart a_linePage a_lineWide a_lineBad a_lineHyphen a_sums := by
            intro m hm
            refine xw_189 O I A hnb48 (t := 16 * k + 4 * m + pr_cl e a z (s / 16) k (s / 4 % 4)) hs ds hcl4.1 (by omega) hk (by omega) rfl ?_ (by omega) (fun g2 => ?_) (fun g2 g3 => ?_)
            · intro dt ept
              have ht : 16 * k + 4 * m + pr_cl e a z (s / 16) k (s / 4 % 4) < 16 * pr_nb e a z + 16 := by omega
              obtain ⟨-, -, -, c1⟩ := I.1 _ ht dt
              rcases c1 with ⟨c1, -⟩ | ⟨-, -, a3, -, -⟩
              · omega
              · rw [ept, show (16 * k + 4 * m + pr_cl e a z (s / 16) k (s / 4 % 4)) / 16 = k from by omega, hck] at a3
                omega
            · rw [hm] at g2 ⊢
              refine h _ _ _ _ _ (dp_take O I hs ds hp hk hcp hck hall hS rfl (by rw [← hsum]; exact g2)) ?_ ?_
              · rw [← hsum]; exact dp_ar_u A _ _ _
              · exact pk_un (by omega)
            · rw [hm] at g2 g3
              exact h _ _ _ _ _ (dp_keep O I hs ds hp hk hcp hck hS rfl g2 (by rw [← hsum]; exact g3)) A rfl
          refine pk_le (gv_nr e) (s / 4 % 4) (fun g2 => ?_) (fun g2 => ?_) M3 rfl
          · exact @ek_v _ (fun x => wX_relax_189 post (nI s) (nI (pr_cl e a z (s / 16) k (s / 4 % 4))) (lN sum) x 4 (16 * nI k) f_length f_known f_joins f_patterns f_first f_rest f_narrow f_gap f_stretch f_shrink f_tolerance f_cost f_height f_breaks f_lines f_paragraphs a_text a_allowed a_counts a_wide a_join a_kerns a_child a_digits a_uses a_ends a_begins a_hyphened a_least a_before a_natural a_spaces a_way a_lineFrom a_lineTo a_linePart a_linePage a_lineWide a_lineBad a_lineHyphen a_sums) _ _ M3 (k189 (gv_nr e) (by omega))
          · rw [nI_1]
            exact k189 (s / 4 % 4 + 1) (by omega)
        have k140 : ∀ sum, sum + (if s % 4 + 1 < pr_cl e a z (s / 16) k (s / 4 % 4) ∨ pr_cl e a z (s / 16) k (s / 4 % 4) + 1 < s % 4 then 2000 else 0) = D s - 1 + pr_ct e a z (s / 16) k (s / 4 % 4) (s % 4) → wX_relax_140 post (nI s) (nI k) (nI (s / 4 % 4)) (nI (pr_cl e a z (s / 16) k (s / 4 % 4))) (nI (s % 4)) (lN sum) f_length f_known f_joins f_patterns f_first f_rest f_narrow f_gap f_stretch f_shrink f_tolerance f_cost f_height f_breaks f_lines f_paragraphs a_text a_allowed a_counts a_wide a_join a_kerns a_child a_digits a_uses a_ends a_begins a_hyphened a_least a_before a_natural a_spaces a_way a_lineFrom a_lineTo a_linePart a_linePage a_lineWide a_lineBad a_lineHyphen a_sums := by
          intro sum hsum
          have hcl := hcl4.1
          refine pk_lt (s % 4 + 1) (pr_cl e a z (s / 16) k (s / 4 % 4)) (fun g2 => ?_) (fun g2 => pk_le (s % 4) (pr_cl e a z (s / 16) k (s / 4 % 4) + 1) (fun g3 => ?_) (fun g3 => ?_) rfl (nI_1 _)) (nI_1 _) rfl
          · rw [if_pos (Or.inl g2)] at hsum
            refine nm_r (e' := lN (sum + 2000)) (lN_add _ _) (k166 _ hsum)
          · rw [if_neg (by omega)] at hsum
            exact k166 _ hsum
          · rw [if_pos (Or.inr g3)] at hsum
            refine nm_r (e' := lN (sum + 2000)) (lN_add _ _) (k166 _ hsum)
        have h16 : (nI s >>> ((4 : Int32) &&& 31)) = nI (s / 16) := iw_shr4 (by omega)
        have k108 : ∀ (z0 : Int32) (v : Nat), z0.toInt64 = lN v → v = (if pr_hy e a z k = true then gv_cs e * gv_cs e else 0) → wX_relax_108 post (nI s) (nI k) (nI (s / 4 % 4)) (nI (pr_cl e a z (s / 16) k (s / 4 % 4))) (nI (s % 4)) z0 (lN (D s - 1 + (10 + b) * (10 + b))) f_length f_known f_joins f_patterns f_first f_rest f_narrow f_gap f_stretch f_shrink f_tolerance f_cost f_height f_breaks f_lines f_paragraphs a_text a_allowed a_counts a_wide a_join a_kerns a_child a_digits a_uses a_ends a_begins a_hyphened a_least a_before a_natural a_spaces a_way a_lineFrom a_lineTo a_linePart a_linePage a_lineWide a_lineBad a_lineHyphen a_sums := by
          intro z0 v hz0 hv
          have ect : pr_ct e a z (s / 16) k (s / 4 % 4) (s % 4) = (10 + b) * (10 + b) + v + (if pr_hy e a z k = true ∧ pr_hy e a z (s / 16) = true then 3000 else 0) + (if s % 4 + 1 < pr_cl e a z (s / 16) k (s / 4 % 4) ∨ pr_cl e a z (s / 16) k (s / 4 % 4) + 1 < s % 4 then 2000 else 0) := by
            unfold pr_ct
            rw [hb, ← hv, Nat.add_sub_cancel]
          refine nm_r (e' := lN (D s - 1 + (10 + b) * (10 + b) + v)) (by rw [hz0, lN_add]) ⟨hvk, ?_⟩
          rw [nI_clamp (n := k) (by omega), h16, nI_clamp (n := s / 16) (by omega)]
          refine bl_br (B4 k hk) (fun g2 => k140 _ ?_) (fun g2 => ⟨vp_in_nI (by omega) (by decide), bl_br (B4 (s / 16) (by omega)) (fun g3 => k140 _ ?_) (fun g3 => nm_r (e' := lN (D s - 1 + (10 + b) * (10 + b) + v + 3000)) (lN_add _ _) (k140 _ ?_))⟩)
          · rw [ect, if_neg (c := pr_hy e a z k = true ∧ pr_hy e a z (s / 16) = true) (fun y => by rw [g2] at y; cases y.1)]
            omega
          · rw [ect, if_neg (c := pr_hy e a z k = true ∧ pr_hy e a z (s / 16) = true) (fun y => by rw [g3] at y; cases y.2)]
            omega
          · rw [ect, if_pos (c := pr_hy e a z k = true ∧ pr_hy e a z (s / 16) = true) ⟨g2, g3⟩]
            omega
        have hcs := K.2.2.2.2.2.2.2.1
        have hcs2 : gv_cs e * gv_cs e ≤ 200 * 200 := Nat.mul_le_mul hcs hcs
        refine bl_br (B4 k hk) (fun g2 => k108 0 0 rfl (by rw [g2]; rfl)) (fun g2 => k108 _ (gv_cs e * gv_cs e) (by rw [M8, pk_mul, nI_l (by omega)]) (by rw [if_pos g2]))
      refine pk_le (pr_w e a z (s / 16) k) (bq_tg e (s / 4 % 4)) (fun g2 => k55 0 ?_) (fun g2 => k55 1 ?_)
      · rw [decide_eq_false (by omega)]; rfl
      · rw [decide_eq_true (by omega)]; rfl
    · refine h D P V a_least a_before (dp_raise O I (fun j hj => ?_) (fun j s' hj h1 h2 h3 => ?_)) A rfl
      · by_cases ej : j = k
        · rw [ej, dp_us]; omega
        · rw [dp_un _ _ ej]; exact Nat.le_refl _
      · by_cases ej : j = k
        · rw [ej] at h1 h2
          rw [dp_us] at h2
          have : s' = s := by omega
          rw [this, ej]
          exact Or.inr (pr_S_n (Or.inr (by rw [hb]; omega)))
        · rw [dp_un _ _ ej] at h2; omega
end
end
section
/-! the component: carrying the states of the breaks on -/
def dp_cx (b k s : Nat) : Nat → Nat := fun j => if j ≤ b then 16 * j else if j < k then 16 * b + 16 else if j = k then s else 16 * b
def dp_c0 (b : Nat) : Nat → Nat := fun j => if j ≤ b then 16 * j else 16 * b
theorem dp_cx_0 (b : Nat) : dp_cx b (b + 1) (16 * b) = dp_c0 b := by
  funext j
  unfold dp_cx dp_c0
  by_cases h : j ≤ b
  · rw [if_pos h, if_pos h]
  · rw [if_neg h, if_neg h, if_neg (by omega)]
    split <;> rfl
theorem dp_cx_u {b k s : Nat} (h : b < k) : dp_u (dp_cx b k s) k (s + 1) = dp_cx b k (s + 1) := by
  funext j
  by_cases e : j = k
  · subst e
    rw [dp_us]
    unfold dp_cx
    rw [if_neg (by omega), if_neg (by omega), if_pos rfl]
  · rw [dp_un _ _ e]
    unfold dp_cx
    rw [if_neg e, if_neg e]
theorem dp_cx_n {b k : Nat} (h : b < k) : dp_cx b k (16 * b + 16) = dp_cx b (k + 1) (16 * b) := by
  funext j
  unfold dp_cx
  by_cases h1 : j ≤ b
  · rw [if_pos h1, if_pos h1]
  · rw [if_neg h1, if_neg h1]
    by_cases h2 : j < k
    · rw [if_pos h2, if_pos (by omega)]
    · rw [if_neg h2]
      by_cases h3 : j = k
      · rw [if_pos h3, if_pos (by omega)]
      · rw [if_neg h3, if_neg (by omega)]
        split <;> rfl
theorem dp_cx_k {b k s : Nat} (h : b < k) : dp_cx b k s k = s := by
  unfold dp_cx; rw [if_neg (by omega), if_neg (by omega), if_pos rfl]
theorem dp_cx_b (b k s : Nat) : dp_cx b k s b = 16 * b := by
  unfold dp_cx; rw [if_pos (Nat.le_refl _)]
theorem dp_cx_all {b k s : Nat} (h : b < k) (hs : s ≤ 16 * b + 16) (j : Nat) : dp_cx b k s j ≤ 16 * k := by
  unfold dp_cx
  split
  · omega
  · split
    · omega
    · split <;> omega
section
variable {e : gv_T} {f_length f_known f_joins f_patterns f_first f_rest f_narrow f_gap f_stretch f_shrink f_tolerance f_cost f_height f_breaks f_lines f_paragraphs : Int32} {a_text a_allowed a_counts a_wide a_join a_kerns a_child a_digits a_uses a_ends a_begins a_hyphened a_before a_natural a_spaces a_way a_lineFrom a_lineTo a_linePart a_linePage a_lineWide a_lineBad a_lineHyphen : Nat → Int32} {a_least a_sums : Nat → Int64}
theorem xw_c93 {post : SX → Prop} {J : _} {a z b k : Nat} {x3 c1 : Int32} (F : ex_F e f_length a_text a_wide a_join a_kerns) (M : ex_M e f_first f_rest f_narrow f_gap f_stretch f_shrink f_tolerance f_cost f_height) (Z : pd_ok e a z) (B : ex_B e a z f_breaks a_ends a_begins a_hyphened) (hb : b < k) (hk : k ≤ pr_nb e a z) (hn1 : a_natural k = nI (pr_w e a z b k)) (hn2 : a_spaces k = nI (pr_s e a z b k))
    (h : ∀ D P V L' F', dp_in (pr_S e a z) (gv_nr e) (pr_nb e a z) (dp_cx b k (16 * b + 16)) D P V → dp_ar (pr_nb e a z) L' F' D P → F' 1 = c1 → J (nI (k + 1)) f_length f_known f_joins f_patterns f_first f_rest f_narrow f_gap f_stretch f_shrink f_tolerance f_cost f_height f_breaks f_lines f_paragraphs a_text a_allowed a_counts a_wide a_join a_kerns a_child a_digits a_uses a_ends a_begins a_hyphened L' F' a_natural a_spaces a_way a_lineFrom a_lineTo a_linePart a_linePage a_lineWide a_lineBad a_lineHyphen a_sums) :
    ∀ d n s L' F' D P V, d < n → s + d = 16 * b + 16 → 16 * b ≤ s → dp_in (pr_S e a z) (gv_nr e) (pr_nb e a z) (dp_cx b k s) D P V → dp_ar (pr_nb e a z) L' F' D P → F' 1 = c1 → wX_carry_93 post J (nI b) x3 (nI k) n (nI s) f_length f_known f_joins f_patterns f_first f_rest f_narrow f_gap f_stretch f_shrink f_tolerance f_cost f_height f_breaks f_lines f_paragraphs a_text a_allowed a_counts a_wide a_join a_kerns a_child a_digits a_uses a_ends a_begins a_hyphened L' F' a_natural a_spaces a_way a_lineFrom a_lineTo a_linePart a_linePage a_lineWide a_lineBad a_lineHyphen a_sums := by
  have E := F.2.2.2.2.2
  have K := M.2.2.2.2.2.2.2.2.2
  have h48 := E.1
  have hzl := Z.2.1
  have hnb := pr_nb_b (e := e) (a := a) (z := z)
  have O := pr_ok K a z (N := gv_nr e) (Nat.le_refl _) K.2.2.1
  intro d
  induction d with
  | zero =>
    intro n s L' F' D P V hn hs h1 I A hc
    obtain ⟨n, rfl⟩ : ∃ n', n = n' + 1 := ⟨n - 1, by omega⟩
    have : s = 16 * b + 16 := by omega
    subst this
    refine br_t ?_ (nm_r (nI_1 k) (h D P V L' F' I A hc))
    rw [iw_1616]; exact nI_le (Nat.le_refl _) (by omega)
  | succ d ih =>
    intro n s L' F' D P V hn hs h1 I A hc
    obtain ⟨n, rfl⟩ : ∃ n', n = n' + 1 := ⟨n - 1, by omega⟩
    have hs2 : s < 16 * pr_nb e a z + 16 := by omega
    have hDb := dp_Db O I (by omega) hs2
    have e16 : s / 16 = b := by omega
    refine br_f ?_ ⟨vp_in_nI (by omega) (by decide), ?_⟩
    · rw [iw_1616]; exact nI_ge (by omega) (by omega)
    rw [nI_clamp (n := s) (by omega), A.1 s hs2]
    refine ek_if (dp_lc_lt (by omega)) (fun g => nm_r (nI_1 s) (ih n (s + 1) L' F' D P V (by omega) (by omega) (by omega) ?_ A hc)) (fun g => ?_)
    · refine dp_raise O I (fun j hj => ?_) (fun j s' hj g1 g2 g3 => ?_)
      · rw [← dp_cx_u hb]
        by_cases ej : j = k
        · rw [ej, dp_us, dp_cx_k hb]; omega
        · rw [dp_un _ _ ej]; exact Nat.le_refl _
      · rw [← dp_cx_u hb] at g2
        by_cases ej : j = k
        · rw [ej, dp_us] at g2
          rw [ej, dp_cx_k hb] at g1
          have : s' = s := by omega
          rw [this, e16]
          exact Or.inl ⟨by rw [dp_cx_b]; exact Nat.le_refl _, g⟩
        · rw [dp_un _ _ ej] at g2; omega
    · refine xw_relax (a_least := L') (a_before := F') F M Z B I A g (by omega) hk (by rw [e16, dp_cx_b]; exact Nat.le_refl _) (dp_cx_k hb) (fun j _ => dp_cx_all hb (by omega) j) (by rw [e16]; exact hn1) (by rw [e16]; exact hn2) (fun D2 P2 V2 L2 F2 I2 A2 hc2 => nm_r (nI_1 s) ?_)
      rw [dp_cx_u hb] at I2
      exact ih n (s + 1) L2 F2 D2 P2 V2 (by omega) (by omega) (by omega) I2 A2 (hc2.trans hc)
theorem xw_c81 {post : SX → Prop} {a z b r : Nat} {c1 : Int32} (F : ex_F e f_length a_text a_wide a_join a_kerns) (M : ex_M e f_first f_rest f_narrow f_gap f_stretch f_shrink f_tolerance f_cost f_height) (Z : pd_ok e a z) (B : ex_B e a z f_breaks a_ends a_begins a_hyphened) (hb : b < r) (hr : r ≤ pr_nb e a z) (hn : ∀ k, b < k → k ≤ r → a_natural k = nI (pr_w e a z b k) ∧ a_spaces k = nI (pr_s e a z b k))
    (h : ∀ D P V L' F', dp_in (pr_S e a z) (gv_nr e) (pr_nb e a z) (dp_cx b (r + 1) (16 * b)) D P V → dp_ar (pr_nb e a z) L' F' D P → F' 1 = c1 → post (f_length, f_known, f_joins, f_patterns, f_first, f_rest, f_narrow, f_gap, f_stretch, f_shrink, f_tolerance, f_cost, f_height, f_breaks, f_lines, f_paragraphs, a_text, a_allowed, a_counts, a_wide, a_join, a_kerns, a_child, a_digits, a_uses, a_ends, a_begins, a_hyphened, L', F', a_natural, a_spaces, a_way, a_lineFrom, a_lineTo, a_linePart, a_linePage, a_lineWide, a_lineBad, a_lineHyphen, a_sums)) :
    ∀ d n k L' F' D P V, d < n → k + d = r + 1 → b < k → dp_in (pr_S e a z) (gv_nr e) (pr_nb e a z) (dp_cx b k (16 * b)) D P V → dp_ar (pr_nb e a z) L' F' D P → F' 1 = c1 → wX_carry_81 post (nI b) (nI r) n (nI k) f_length f_known f_joins f_patterns f_first f_rest f_narrow f_gap f_stretch f_shrink f_tolerance f_cost f_height f_breaks f_lines f_paragraphs a_text a_allowed a_counts a_wide a_join a_kerns a_child a_digits a_uses a_ends a_begins a_hyphened L' F' a_natural a_spaces a_way a_lineFrom a_lineTo a_linePart a_linePage a_lineWide a_lineBad a_lineHyphen a_sums := by
  have h48 := F.2.2.2.2.2.1
  have hzl := Z.2.1
  have hnb := pr_nb_b (e := e) (a := a) (z := z)
  intro d
  induction d with
  | zero =>
    intro n k L' F' D P V hn hk hbk I A hc
    obtain ⟨n, rfl⟩ : ∃ n', n = n' + 1 := ⟨n - 1, by omega⟩
    have : k = r + 1 := by omega
    subst this
    exact br_t (nI_lt (by omega) (by omega)) (h D P V L' F' I A hc)
  | succ d ih =>
    intro n k L' F' D P V hn' hk hbk I A hc
    obtain ⟨n, rfl⟩ : ∃ n', n = n' + 1 := ⟨n - 1, by omega⟩
    have hnk := hn k hbk (by omega)
    refine br_f (nI_nlt (by omega) (by omega)) (nm_r (iw_16 b) ⟨17, ?_⟩)
    exact xw_c93 (c1 := c1) F M Z B hbk (by omega) hnk.1 hnk.2 (fun D2 P2 V2 L2 F2 I2 A2 hc2 => ih n (k + 1) L2 F2 D2 P2 V2 (by omega) (by omega) (by omega) (by rw [← dp_cx_n hbk]; exact I2) A2 hc2) 16 17 (16 * b) L' F' D P V (by omega) (by omega) (Nat.le_refl _) I A hc
theorem xw_c7 {post : SX → Prop} {b nb : Nat} {D P : Nat → Nat} (A : dp_ar nb a_least a_before D P) (hD : ∀ s, s < 16 * nb + 16 → D s < 2 ^ 62) (hnb : nb ≤ 48) (hb : b < nb) (h0 : (∀ s, 16 * b ≤ s → s < 16 * b + 16 → D s = 0) → post (f_length, f_known, f_joins, f_patterns, f_first, f_rest, f_narrow, f_gap, f_stretch, f_shrink, f_tolerance, f_cost, f_height, f_breaks, f_lines, f_paragraphs, a_text, a_allowed, a_counts, a_wide, a_join, a_kerns, a_child, a_digits, a_uses, a_ends, a_begins, a_hyphened, a_least, a_before, a_natural, a_spaces, a_way, a_lineFrom, a_lineTo, a_linePart, a_linePage, a_lineWide, a_lineBad, a_lineHyphen, a_sums))
    (h1 : (f_first ≤ f_rest → wX_carry_72 post (nI b) f_rest (nI b) f_length f_known f_joins f_patterns f_first f_rest f_narrow f_gap f_stretch f_shrink f_tolerance f_cost f_height f_breaks f_lines f_paragraphs a_text a_allowed a_counts a_wide a_join a_kerns a_child a_digits a_uses a_ends a_begins a_hyphened a_least a_before a_natural a_spaces a_way a_lineFrom a_lineTo a_linePart a_linePage a_lineWide a_lineBad a_lineHyphen a_sums) ∧ (¬ f_first ≤ f_rest → wX_carry_72 post (nI b) f_first (nI b) f_length f_known f_joins f_patterns f_first f_rest f_narrow f_gap f_stretch f_shrink f_tolerance f_cost f_height f_breaks f_lines f_paragraphs a_text a_allowed a_counts a_wide a_join a_kerns a_child a_digits a_uses a_ends a_begins a_hyphened a_least a_before a_natural a_spaces a_way a_lineFrom a_lineTo a_linePart a_linePage a_lineWide a_lineBad a_lineHyphen a_sums)) :
    ∀ d n s fl, d < n → s + d = 16 * b + 16 → 16 * b ≤ s → (fl = false → ∀ s', 16 * b ≤ s' → s' < s → D s' = 0) → wX_carry_7 post (nI b) f_length f_known f_joins f_patterns f_first f_rest f_narrow f_gap f_stretch f_shrink f_tolerance f_cost f_height f_breaks f_lines f_paragraphs a_text a_allowed a_counts a_wide a_join a_kerns a_child a_digits a_uses a_ends a_begins a_hyphened a_least a_before a_natural a_spaces a_way a_lineFrom a_lineTo a_linePart a_linePage a_lineWide a_lineBad a_lineHyphen a_sums n (bl_i fl) (nI s) := by
  intro d
  induction d with
  | zero =>
    intro n s fl hn hs hbs hfl
    obtain ⟨n, rfl⟩ : ∃ n', n = n' + 1 := ⟨n - 1, by omega⟩
    have : s = 16 * b + 16 := by omega
    subst this
    refine br_t ?_ (bl_br rfl (fun g => h0 (hfl g)) (fun _ => h1))
    rw [iw_1616]; exact nI_le (Nat.le_refl _) (by omega)
  | succ d ih =>
    intro n s fl hn hs hbs hfl
    obtain ⟨n, rfl⟩ : ∃ n', n = n' + 1 := ⟨n - 1, by omega⟩
    refine br_f ?_ ⟨vp_in_nI (by omega) (by decide), ?_⟩
    · rw [iw_1616]; exact nI_ge (by omega) (by omega)
    rw [nI_clamp (n := s) (by omega), A.1 s (by omega)]
    refine ek_if (dp_lc_lt (hD s (by omega))) (fun g => nm_r (e' := bl_i fl) (by cases fl <;> decide) (nm_r (nI_1 s) (ih n (s + 1) fl (by omega) (by omega) (by omega) (fun g1 s' h2 h3 => ?_)))) (fun g => nm_r (e' := bl_i true) (by cases fl <;> decide) (nm_r (nI_1 s) (ih n (s + 1) true (by omega) (by omega) (by omega) (fun g1 => by cases g1))))
    by_cases es : s' = s
    · rw [es]; exact g
    · exact hfl g1 s' h2 (by omega)
theorem xw_carry {post : SX → Prop} {a z b : Nat} {D P : Nat → Nat} {V : Nat → List Nat} (F : ex_F e f_length a_text a_wide a_join a_kerns) (M : ex_M e f_first f_rest f_narrow f_gap f_stretch f_shrink f_tolerance f_cost f_height) (Z : pd_ok e a z) (B : ex_B e a z f_breaks a_ends a_begins a_hyphened) (hb : b < pr_nb e a z) (I : dp_in (pr_S e a z) (gv_nr e) (pr_nb e a z) (dp_c0 b) D P V) (A : dp_ar (pr_nb e a z) a_least a_before D P)
    (h : ∀ D' P' V' L' F' nat' spc', dp_in (pr_S e a z) (gv_nr e) (pr_nb e a z) (dp_c0 (b + 1)) D' P' V' → dp_ar (pr_nb e a z) L' F' D' P' → F' 1 = a_before 1 → post (f_length, f_known, f_joins, f_patterns, f_first, f_rest, f_narrow, f_gap, f_stretch, f_shrink, f_tolerance, f_cost, f_height, f_breaks, f_lines, f_paragraphs, a_text, a_allowed, a_counts, a_wide, a_join, a_kerns, a_child, a_digits, a_uses, a_ends, a_begins, a_hyphened, L', F', nat', spc', a_way, a_lineFrom, a_lineTo, a_linePart, a_linePage, a_lineWide, a_lineBad, a_lineHyphen, a_sums)) : wpX_carry post (f_length, f_known, f_joins, f_patterns, f_first, f_rest, f_narrow, f_gap, f_stretch, f_shrink, f_tolerance, f_cost, f_height, f_breaks, f_lines, f_paragraphs, a_text, a_allowed, a_counts, a_wide, a_join, a_kerns, a_child, a_digits, a_uses, a_ends, a_begins, a_hyphened, a_least, a_before, a_natural, a_spaces, a_way, a_lineFrom, a_lineTo, a_linePart, a_linePage, a_lineWide, a_lineBad, a_lineHyphen, a_sums) (nI b) := by
  obtain ⟨⟨f1, m1, m2, m3⟩, M2, M3, M4, M5, M6, M7, M8, M9, K⟩ := id M
  have E := F.2.2.2.2.2
  have h48 := E.1
  have hzl := Z.2.1
  have hnb := pr_nb_b (e := e) (a := a) (z := z)
  have O := pr_ok K a z (N := gv_nr e) (Nat.le_refl _) K.2.2.1
  have k72 : ∀ (x : Int32) t, x = nI t → t ≤ 300 → f1 ≤ t → gv_rs e ≤ t → wX_carry_72 post (nI b) x (nI b) f_length f_known f_joins f_patterns f_first f_rest f_narrow f_gap f_stretch f_shrink f_tolerance f_cost f_height f_breaks f_lines f_paragraphs a_text a_allowed a_counts a_wide a_join a_kerns a_child a_digits a_uses a_ends a_begins a_hyphened a_least a_before a_natural a_spaces a_way a_lineFrom a_lineTo a_linePart a_linePage a_lineWide a_lineBad a_lineHyphen a_sums := by
    intro x t hx ht h1 h2
    subst hx
    refine xw_reach F M4 M6 K.2.2.2.2.2.1 K.2.2.2.1 Z B (by omega) hb (fun r nat' spc' r1 r2 r3 r4 => nm_r (nI_1 b) ⟨r + 1, ?_⟩)
    refine xw_c81 (a_natural := nat') (a_spaces := spc') (c1 := a_before 1) F M Z B r1 r2 r3 (fun D2 P2 V2 L2 F2 I2 A2 hc2 => h D2 P2 V2 L2 F2 nat' spc' ?_ A2 hc2) (r - b) (r + 1) (b + 1) a_least a_before D P V (by omega) (by omega) (by omega) (by rw [dp_cx_0]; exact I) A rfl
    refine dp_raise O I2 (fun j hj => ?_) (fun j s hj g1 g2 g3 => ?_)
    · unfold dp_cx dp_c0
      by_cases j1 : j ≤ b
      · rw [if_pos j1, if_pos (by omega)]; exact Nat.le_refl _
      · rw [if_neg j1]
        split
        · split <;> omega
        · split <;> split <;> omega
    · unfold dp_cx at g1
      unfold dp_c0 at g2
      by_cases j1 : j ≤ b
      · rw [if_pos j1] at g1; rw [if_pos (by omega)] at g2; omega
      · rw [if_neg j1] at g1
        have g2' : s < 16 * b + 16 := by
          by_cases j2 : j ≤ b + 1
          · rw [if_pos j2] at g2; omega
          · rw [if_neg j2] at g2; omega
        by_cases j2 : j < r + 1
        · rw [if_pos j2] at g1; omega
        · rw [if_neg j2] at g1
          have g1' : 16 * b ≤ s := by
            by_cases j3 : j = r + 1
            · rw [if_pos j3] at g1; exact g1
            · rw [if_neg j3] at g1; exact g1
          have e16 : s / 16 = b := by omega
          have ho := r4 j (by omega) hj
          rw [e16]
          refine Or.inr (pr_S_n (Or.inl (bq_over ?_)))
          have : bq_tg e (s / 4 % 4) ≤ t := by
            unfold bq_tg
            split
            · rw [← m3 (by omega)]; exact h1
            · exact h2
          omega
  refine nm_r (iw_16 b) ⟨17, xw_c7 A (fun s hs => Nat.lt_of_le_of_lt (dp_Db O I (by omega) hs) (by omega)) (by omega) hb (fun g => ?_) ?_ 16 17 (16 * b) false (by omega) (by omega) (Nat.le_refl _) (fun _ s' h1 h2 => by omega)⟩
  · refine h D P V a_least a_before a_natural a_spaces (dp_raise O I (fun j hj => ?_) (fun j s hj g1 g2 g3 => ?_)) A rfl
    · unfold dp_c0
      split <;> split <;> omega
    · unfold dp_c0 at g1 g2
      by_cases j1 : j ≤ b
      · rw [if_pos j1] at g1; rw [if_pos (by omega)] at g2; omega
      · rw [if_neg j1] at g1
        have g2' : s < 16 * b + 16 := by
          by_cases j2 : j ≤ b + 1
          · rw [if_pos j2] at g2; omega
          · rw [if_neg j2] at g2; omega
        refine Or.inl ⟨?_, g s g1 g2'⟩
        have e16 : s / 16 = b := by omega
        rw [e16]
        unfold dp_c0
        rw [if_pos (Nat.le_refl _)]
        exact Nat.le_refl _
  · have hrs := K.2.1
    refine pk_le f1 (gv_rs e) (fun g => k72 _ (gv_rs e) M2 (by omega) g (Nat.le_refl _)) (fun g => k72 _ f1 m2 m1 (Nat.le_refl _) (by omega)) m2 M2
end
end
section
/-! the component: setting one paragraph -/
/-- a way in an array, forward from an index -/
def fw_ar : List Nat → Nat → (Nat → Int32) → Prop
  | [], _, _ => True
  | k :: r, i, a => a i = nI k ∧ fw_ar r (i + 1) a
theorem fw_app {a : Nat → Int32} : ∀ {A B : List Nat} {i : Nat}, fw_ar A i a → fw_ar B (i + A.length) a → fw_ar (A ++ B) i a
  | [], _, _, _, h => h
  | x :: A, B, i, h, g => ⟨h.1, fw_app h.2 (by rw [show i + 1 + A.length = i + (x :: A).length from by simp; omega]; exact g)⟩
theorem fw_rev {a : Nat → Int32} : ∀ {L : List Nat}, sh_ar L a → fw_ar L.reverse 0 a
  | [], _ => trivial
  | g :: r, h => by
    rw [List.reverse_cons]
    exact fw_app (fw_rev h.2) ⟨by simp; exact h.1, trivial⟩
theorem fw_keep {a a' : Nat → Int32} : ∀ {L : List Nat} {i : Nat}, fw_ar L i a → (∀ j, i ≤ j → a' j = a j) → fw_ar L i a'
  | [], _, _, _ => trivial
  | k :: r, i, h, g => ⟨(g i (Nat.le_refl _)).trans h.1, fw_keep h.2 (fun j hj => g j (by omega))⟩
theorem dp_rev0 {S : Nat → Nat → Nat → Nat → Option (Nat × Nat)} : ∀ {W : List Nat} {n c d : Nat}, dp_wy S W n c d → ∃ tl, W.reverse = 0 :: tl ∧ W.length = tl.length + 1
  | [], _, _, _, h => by simp only [dp_wy] at h
  | [k], _, _, _, h => by
    obtain ⟨rfl, -⟩ := dp_wy1 h
    exact ⟨[], rfl, rfl⟩
  | k :: p :: r, _, _, _, h => by
    obtain ⟨-, n', c', d', w, h', -, -, -⟩ := dp_wy2 h
    obtain ⟨tl, e1, e2⟩ := dp_rev0 h'
    refine ⟨tl ++ [k], ?_, ?_⟩
    · rw [List.reverse_cons, e1]; rfl
    · simp at e2 ⊢; omega
theorem pr_eg_skip {e : gv_T} {a z p n r : Nat} (hr : p < r) : ∀ m, r ≤ m → (∀ k, r < k → k ≤ m → pr_bd e a z p k n = 0) → pr_eg e a z p n m = pr_eg e a z p n r
  | 0, h, _ => by omega
  | m + 1, h, g => by
    by_cases e1 : r = m + 1
    · rw [e1]
    · have ih := pr_eg_skip hr m (by omega) (fun k h1 h2 => g k h1 (by omega))
      show (if m ≤ p then p + 1 else if pr_bd e a z p (m + 1) n = 0 then pr_eg e a z p n m else m + 1) = _
      rw [if_neg (by omega), if_pos (g (m + 1) (by omega) (Nat.le_refl _)), ih]
/-- the lines set so far -/
def ex_L (s : Nat × (Nat → li_T)) (f_lines : Int32) (a_lineFrom a_lineTo a_linePart a_lineWide a_lineBad a_lineHyphen : Nat → Int32) : Prop :=
  f_lines = nI s.1 ∧ ∀ i, i < s.1 → a_lineFrom i = nI (li_f (s.2 i)) ∧ a_lineTo i = nI (li_t (s.2 i)) ∧ a_linePart i = nI (li_p (s.2 i)) ∧ a_lineWide i = nI (li_w (s.2 i)) ∧ a_lineBad i = bq_i (li_b (s.2 i)) ∧ a_lineHyphen i = bl_i (li_h (s.2 i))
section
variable {e : gv_T} {f_length f_known f_joins f_patterns f_first f_rest f_narrow f_gap f_stretch f_shrink f_tolerance f_cost f_height f_breaks f_lines f_paragraphs : Int32} {a_text a_allowed a_counts a_wide a_join a_kerns a_child a_digits a_uses a_ends a_begins a_hyphened a_before a_natural a_spaces a_way a_lineFrom a_lineTo a_linePart a_linePage a_lineWide a_lineBad a_lineHyphen : Nat → Int32} {a_least a_sums : Nat → Int64}
/-- choosing the last state -/
theorem xw_76 {post : SX → Prop} {a z : Nat} {cut : Nat → Nat} {D P : Nat → Nat} {V : Nat → List Nat} (M : ex_M e f_first f_rest f_narrow f_gap f_stretch f_shrink f_tolerance f_cost f_height) (hnb : pr_nb e a z ≤ 48) (hb : f_breaks = nI (pr_nb e a z)) (I : dp_in (pr_S e a z) (gv_nr e) (pr_nb e a z) cut D P V) (A : dp_ar (pr_nb e a z) a_least a_before D P)
    (h0 : (∀ s, 16 * pr_nb e a z ≤ s → s < 16 * pr_nb e a z + 16 → D s = 0) → vp_in f_paragraphs 24 ∧ ∀ x : Nat → Int64, x = vp_updL a_sums f_paragraphs.toNatClampNeg (-1) → wX_set_191 post (-1) f_length f_known f_joins f_patterns f_first f_rest f_narrow f_gap f_stretch f_shrink f_tolerance f_cost f_height f_breaks f_lines f_paragraphs a_text a_allowed a_counts a_wide a_join a_kerns a_child a_digits a_uses a_ends a_begins a_hyphened a_least a_before a_natural a_spaces a_way a_lineFrom a_lineTo a_linePart a_linePage a_lineWide a_lineBad a_lineHyphen x)
    (h1 : ∀ b, 16 * pr_nb e a z ≤ b → b < 16 * pr_nb e a z + 16 → D b ≠ 0 → (∀ s, 16 * pr_nb e a z ≤ s → s < 16 * pr_nb e a z + 16 → D s ≠ 0 → dp_le (D b - 1) (V b) (D s - 1) (V s)) → vp_in f_paragraphs 24 ∧ ∀ x : Nat → Int64, x = vp_updL a_sums f_paragraphs.toNatClampNeg (lN (D b - 1)) → wX_set_191 post (nI b) f_length f_known f_joins f_patterns f_first f_rest f_narrow f_gap f_stretch f_shrink f_tolerance f_cost f_height f_breaks f_lines f_paragraphs a_text a_allowed a_counts a_wide a_join a_kerns a_child a_digits a_uses a_ends a_begins a_hyphened a_least a_before a_natural a_spaces a_way a_lineFrom a_lineTo a_linePart a_linePage a_lineWide a_lineBad a_lineHyphen x) :
    ∀ d n s c, d < n → s + d = 16 * pr_nb e a z + 16 → 16 * pr_nb e a z ≤ s → (c = 0 → ∀ s', 16 * pr_nb e a z ≤ s' → s' < s → D s' = 0) → (∀ b, c = b + 1 → 16 * pr_nb e a z ≤ b ∧ b < s ∧ D b ≠ 0 ∧ ∀ s', 16 * pr_nb e a z ≤ s' → s' < s → D s' ≠ 0 → dp_le (D b - 1) (V b) (D s' - 1) (V s')) → wX_set_76 post f_length f_known f_joins f_patterns f_first f_rest f_narrow f_gap f_stretch f_shrink f_tolerance f_cost f_height f_breaks f_lines f_paragraphs a_text a_allowed a_counts a_wide a_join a_kerns a_child a_digits a_uses a_ends a_begins a_hyphened a_least a_before a_natural a_spaces a_way a_lineFrom a_lineTo a_linePart a_linePage a_lineWide a_lineBad a_lineHyphen a_sums n (bq_i c) (nI s) := by
  have K := M.2.2.2.2.2.2.2.2.2
  have O := pr_ok K a z (N := gv_nr e) (Nat.le_refl _) K.2.2.1
  have hle : (16 : Int32) * f_breaks + 16 = nI (16 * pr_nb e a z + 16) := by rw [hb, iw_1616]
  have hm1 : bq_i 0 < 0 := by decide
  intro d
  induction d with
  | zero =>
    intro n s c hn hs hbs hc0 hc1
    obtain ⟨n, rfl⟩ : ∃ n', n = n' + 1 := ⟨n - 1, by omega⟩
    have : s = 16 * pr_nb e a z + 16 := by omega
    subst this
    refine br_t (by rw [hle]; exact nI_le (Nat.le_refl _) (by omega)) ?_
    cases c with
    | zero =>
      refine br_t hm1 (h0 (hc0 rfl))
    | succ b =>
      obtain ⟨b1, b2, b3, b4⟩ := hc1 b rfl
      rw [bq_i_s]
      have := h1 b b1 b2 b3 b4
      refine br_f (nI_pos (by omega)) ⟨vp_in_nI (by omega) (by decide), ?_⟩
      rw [nI_clamp (n := b) (by omega), A.1 b (by omega), dp_lc_n b3]
      exact this
  | succ d ih =>
    intro n s c hn hs hbs hc0 hc1
    obtain ⟨n, rfl⟩ : ∃ n', n = n' + 1 := ⟨n - 1, by omega⟩
    have hs2 : s < 16 * pr_nb e a z + 16 := by omega
    have hv : vp_in (nI s) 784 := vp_in_nI (by omega) (by decide)
    have hDb := dp_Db O I hnb hs2
    refine br_f (by rw [hle]; exact nI_ge (by omega) (by omega)) ⟨hv, ?_⟩
    rw [nI_clamp (n := s) (by omega), A.1 s hs2]
    refine ek_if (dp_lc_ge (by omega)) (fun g => ?_) (fun g => nm_r (nI_1 s) (ih n (s + 1) c (by omega) (by omega) (by omega) (fun g1 s' h2 h3 => ?_) (fun b g1 => ?_)))
    · have take : (∀ b, c = b + 1 → dp_le (D s - 1) (V s) (D b - 1) (V b)) → ∀ x2 : Int32, x2 = nI s + 1 → wX_set_76 post f_length f_known f_joins f_patterns f_first f_rest f_narrow f_gap f_stretch f_shrink f_tolerance f_cost f_height f_breaks f_lines f_paragraphs a_text a_allowed a_counts a_wide a_join a_kerns a_child a_digits a_uses a_ends a_begins a_hyphened a_least a_before a_natural a_spaces a_way a_lineFrom a_lineTo a_linePart a_linePage a_lineWide a_lineBad a_lineHyphen a_sums n (nI s) x2 := by
        intro g2
        refine nm_r (nI_1 s) ?_
        have := ih n (s + 1) (s + 1) (by omega) (by omega) (by omega) (fun g3 => by omega) (fun b g3 => ?_)
        · rw [bq_i_s] at this; exact this
        · have : b = s := by omega
          subst this
          refine ⟨hbs, by omega, g, fun s' h2 h3 h4 => ?_⟩
          by_cases es : s' = b
          · rw [es]; exact dp_le_rf _ _
          · cases c with
            | zero => exact absurd (hc0 rfl s' h2 (by omega)) h4
            | succ b0 => exact dp_le_tr (g2 b0 rfl) ((hc1 b0 rfl).2.2.2 s' h2 (by omega) h4)
      cases c with
      | zero => exact br_t hm1 (take (fun b g1 => by omega))
      | succ b =>
        obtain ⟨b1, b2, b3, b4⟩ := hc1 b rfl
        have hb2 : b < 16 * pr_nb e a z + 16 := by omega
        have hvb : vp_in (nI b) 784 := vp_in_nI (by omega) (by decide)
        have hDb2 := dp_Db O I hnb hb2
        have stay : dp_le (D b - 1) (V b) (D s - 1) (V s) → ∀ x2 : Int32, x2 = nI s + 1 → wX_set_76 post f_length f_known f_joins f_patterns f_first f_rest f_narrow f_gap f_stretch f_shrink f_tolerance f_cost f_height f_breaks f_lines f_paragraphs a_text a_allowed a_counts a_wide a_join a_kerns a_child a_digits a_uses a_ends a_begins a_hyphened a_least a_before a_natural a_spaces a_way a_lineFrom a_lineTo a_linePart a_linePage a_lineWide a_lineBad a_lineHyphen a_sums n (nI b) x2 := by
          intro g2
          refine nm_r (nI_1 s) ?_
          have := ih n (s + 1) (b + 1) (by omega) (by omega) (by omega) (fun g3 => by omega) (fun b' g3 => ?_)
          · rw [bq_i_s] at this; exact this
          · have : b' = b := by omega
            subst this
            refine ⟨b1, by omega, b3, fun s' h2 h3 h4 => ?_⟩
            by_cases es : s' = s
            · rw [es]; exact g2
            · exact b4 s' h2 (by omega) h4
        rw [bq_i_s]
        refine br_f (nI_pos (by omega)) ⟨hv, hvb, ?_⟩
        rw [nI_clamp (n := b) (by omega), A.1 b hb2, dp_lc_n b3, dp_lc_n g]
        refine ek_if (pk_lLT (by omega) (by omega)) (fun g1 => take (fun b' g2 => ?_)) (fun g1 => ⟨hv, hvb, ek_if (pk_lEQ (by omega) (by omega)) (fun g2 => ⟨49, xw_later I A hnb 49 s b 49 (by omega) (by omega) hs2 hb2 g b3 (by omega) (fun g3 => br_f (by decide) (take (fun b' g4 => ?_))) (fun g3 => br_t rfl (stay ?_))⟩) (fun g2 => stay (Or.inl (by omega)))⟩)
        · have : b' = b := by omega
          subst this; exact Or.inl g1
        · have : b' = b := by omega
          subst this; exact Or.inr ⟨g2, Or.inr g3⟩
        · obtain ⟨n1, w1, -, -⟩ := I.1 s hs2 g
          obtain ⟨n2, w2, -, -⟩ := I.1 b hb2 b3
          refine Or.inr ⟨g2.symm, ?_⟩
          rcases dp_tot w2 w1 with y | y | y
          · exact Or.inl y
          · exact Or.inr y
          · exact absurd y g3
    · have g' : D s = 0 := Classical.not_not.mp g
      by_cases es : s' = s
      · rw [es]; exact g'
      · exact hc0 g1 s' h2 (by omega)
    · have g' : D s = 0 := Classical.not_not.mp g
      obtain ⟨b1, b2, b3, b4⟩ := hc1 b g1
      refine ⟨b1, by omega, b3, fun s' h2 h3 h4 => ?_⟩
      by_cases es : s' = s
      · rw [es] at h4; exact absurd g' h4
      · exact b4 s' h2 (by omega) h4
theorem xw_co31 {post : Int32 → SX → Prop} {S : Nat → Nat → Nat → Nat → Option (Nat × Nat)} {N nb : Nat} {cut : Nat → Nat} {D P : Nat → Nat} {V : Nat → List Nat} {T : Int32} (I : dp_in S N nb cut D P V) (A : dp_ar nb a_least a_before D P) (hnb : nb ≤ 48) (h1 : a_before 1 = -1) :
    ∀ m s n w, (V s).length = m + 1 → m + 1 < n → m ≤ 48 → s < 16 * nb + 16 → D s ≠ 0 → (∀ w', sh_ar (V s) w' → (∀ i, (V s).length ≤ i → w' i = w i) → post T (f_length, f_known, f_joins, f_patterns, f_first, f_rest, f_narrow, f_gap, f_stretch, f_shrink, f_tolerance, f_cost, f_height, f_breaks, f_lines, f_paragraphs, a_text, a_allowed, a_counts, a_wide, a_join, a_kerns, a_child, a_digits, a_uses, a_ends, a_begins, a_hyphened, a_least, a_before, a_natural, a_spaces, w', a_lineFrom, a_lineTo, a_linePart, a_linePage, a_lineWide, a_lineBad, a_lineHyphen, a_sums)) → wX_collect_31 post T f_length f_known f_joins f_patterns f_first f_rest f_narrow f_gap f_stretch f_shrink f_tolerance f_cost f_height f_breaks f_lines f_paragraphs n (nI m) (nI s) a_text a_allowed a_counts a_wide a_join a_kerns a_child a_digits a_uses a_ends a_begins a_hyphened a_least a_before a_natural a_spaces w a_lineFrom a_lineTo a_linePart a_linePage a_lineWide a_lineBad a_lineHyphen a_sums := by
  intro m
  induction m with
  | zero =>
    intro s n w hm hn h48 hs ds h
    obtain ⟨n, rfl⟩ : ∃ n', n = n' + 1 := ⟨n - 1, by omega⟩
    obtain ⟨n, rfl⟩ : ∃ n', n = n' + 1 := ⟨n - 1, by omega⟩
    obtain ⟨n1, w1, m1, c1⟩ := I.1 s hs ds
    rcases c1 with ⟨rfl, c2⟩ | ⟨c1, c2, c3, c4, c5⟩
    · refine br_f (nI_pos (by omega)) (nm_e ⟨vp_in_nI (by omega) (by decide), nm_r (e' := upd w 0 (nI 0)) (by rw [iw_shr4 (by omega), iw_bb (by omega)]; rfl) ⟨vp_in_nI (by omega) (by decide), nm_r (e' := -1) (by rw [nI_clamp (by omega)]; exact h1) (br_t (by decide) (h _ ?_ (fun i hi => ?_)))⟩⟩)
      · rw [c2]; exact ⟨pk_us, trivial⟩
      · rw [c2] at hi
        have : 1 ≤ i := hi
        exact pk_un (by omega)
    · rw [c5] at hm
      obtain ⟨r, er⟩ := dp_hd I (s := P s) (by omega) c4
      rw [er] at hm
      simp at hm
  | succ m ih =>
    intro s n w hm hn h48 hs ds h
    obtain ⟨n, rfl⟩ : ∃ n', n = n' + 1 := ⟨n - 1, by omega⟩
    obtain ⟨n1, w1, m1, c1⟩ := I.1 s hs ds
    rcases c1 with ⟨rfl, c2⟩ | ⟨c1, c2, c3, c4, c5⟩
    · rw [c2] at hm
      simp at hm
    · have hl : (V (P s)).length = m + 1 := by rw [c5] at hm; simpa using hm
      refine br_f (nI_pos (by omega)) (nm_r (pk_m1 m) ⟨vp_in_nI (by omega) (by decide), nm_r (e' := upd w (m + 1) (nI (s / 16))) (by rw [iw_shr4 (by omega), iw_bb (by omega), nI_clamp (by omega)]) ⟨vp_in_nI (by omega) (by decide), nm_r (e' := nI (P s)) (by rw [nI_clamp (by omega)]; exact A.2 s c1 hs ds) (ih (P s) n _ hl (by omega) (by omega) (by omega) c4 (fun w' g1 g2 => h w' ?_ (fun i hi => ?_)))⟩⟩)
      · rw [c5]
        exact ⟨by rw [g2 _ (Nat.le_refl _), hl, pk_us], g1⟩
      · rw [hm] at hi
        rw [g2 i (by omega), pk_un (by omega)]
theorem xw_co9 {post : Int32 → SX → Prop} {S : Nat → Nat → Nat → Nat → Option (Nat × Nat)} {N nb : Nat} {cut : Nat → Nat} {D P : Nat → Nat} {V : Nat → List Nat} {x1 : Int32} {T : Nat} (I : dp_in S N nb cut D P V) (A : dp_ar nb a_least a_before D P) (hnb : nb ≤ 48) (h1 : a_before 1 = -1) (h : ∃ n31 : Nat, wX_collect_31 post (nI T) f_length f_known f_joins f_patterns f_first f_rest f_narrow f_gap f_stretch f_shrink f_tolerance f_cost f_height f_breaks f_lines f_paragraphs n31 (nI T) x1 a_text a_allowed a_counts a_wide a_join a_kerns a_child a_digits a_uses a_ends a_begins a_hyphened a_least a_before a_natural a_spaces a_way a_lineFrom a_lineTo a_linePart a_linePage a_lineWide a_lineBad a_lineHyphen a_sums) :
    ∀ m s n c, (V s).length = m + 1 → m + 1 < n → c + (m + 1) = T → T ≤ 49 → s < 16 * nb + 16 → D s ≠ 0 → wX_collect_9 post x1 f_length f_known f_joins f_patterns f_first f_rest f_narrow f_gap f_stretch f_shrink f_tolerance f_cost f_height f_breaks f_lines f_paragraphs a_text a_allowed a_counts a_wide a_join a_kerns a_child a_digits a_uses a_ends a_begins a_hyphened a_least a_before a_natural a_spaces a_way a_lineFrom a_lineTo a_linePart a_linePage a_lineWide a_lineBad a_lineHyphen a_sums n (nI c) (nI s) := by
  intro m
  induction m with
  | zero =>
    intro s n c hm hn hc hT hs ds
    obtain ⟨n, rfl⟩ : ∃ n', n = n' + 1 := ⟨n - 1, by omega⟩
    obtain ⟨n, rfl⟩ : ∃ n', n = n' + 1 := ⟨n - 1, by omega⟩
    obtain ⟨n1, w1, m1, c1⟩ := I.1 s hs ds
    rcases c1 with ⟨rfl, c2⟩ | ⟨c1, c2, c3, c4, c5⟩
    · have : c + 1 = T := by omega
      subst this
      exact br_f (nI_pos (by omega)) (nm_r (nI_1 c) ⟨vp_in_nI (by omega) (by decide), nm_r (e' := -1) (by rw [nI_clamp (by omega)]; exact h1) (br_t (by decide) h)⟩)
    · rw [c5] at hm
      obtain ⟨r, er⟩ := dp_hd I (s := P s) (by omega) c4
      rw [er] at hm
      simp at hm
  | succ m ih =>
    intro s n c hm hn hc hT hs ds
    obtain ⟨n, rfl⟩ : ∃ n', n = n' + 1 := ⟨n - 1, by omega⟩
    obtain ⟨n1, w1, m1, c1⟩ := I.1 s hs ds
    rcases c1 with ⟨rfl, c2⟩ | ⟨c1, c2, c3, c4, c5⟩
    · rw [c2] at hm
      simp at hm
    · have hl : (V (P s)).length = m + 1 := by rw [c5] at hm; simpa using hm
      exact br_f (nI_pos (by omega)) (nm_r (nI_1 c) ⟨vp_in_nI (by omega) (by decide), nm_r (e' := nI (P s)) (by rw [nI_clamp (by omega)]; exact A.2 s c1 hs ds) (ih (P s) n (c + 1) hl (by omega) (by omega) hT (by omega) c4)⟩)
theorem dp_len {S : Nat → Nat → Nat → Nat → Option (Nat × Nat)} : ∀ {k : Nat} {r : List Nat} {n c d : Nat}, dp_wy S (k :: r) n c d → r.length ≤ k
  | k, [], _, _, _, _ => Nat.zero_le _
  | k, p :: r, _, _, _, h => by
    obtain ⟨hk, n', c', d', w, h', -, -, -⟩ := dp_wy2 h
    have := dp_len h'
    simp
    omega
theorem xw_collect {post : Int32 → SX → Prop} {S : Nat → Nat → Nat → Nat → Option (Nat × Nat)} {N nb : Nat} {cut : Nat → Nat} {D P : Nat → Nat} {V : Nat → List Nat} (I : dp_in S N nb cut D P V) (A : dp_ar nb a_least a_before D P) (hnb : nb ≤ 48) (h1 : a_before 1 = -1) {b : Nat} (hb16 : 16 ≤ b) (hb : b < 16 * nb + 16) (db : D b ≠ 0)
    (h : ∀ w', fw_ar ((V b).reverse.tail) 1 w' → w' 0 = nI 0 → post (nI (V b).reverse.tail.length) (f_length, f_known, f_joins, f_patterns, f_first, f_rest, f_narrow, f_gap, f_stretch, f_shrink, f_tolerance, f_cost, f_height, f_breaks, f_lines, f_paragraphs, a_text, a_allowed, a_counts, a_wide, a_join, a_kerns, a_child, a_digits, a_uses, a_ends, a_begins, a_hyphened, a_least, a_before, a_natural, a_spaces, w', a_lineFrom, a_lineTo, a_linePart, a_linePage, a_lineWide, a_lineBad, a_lineHyphen, a_sums)) : wpX_collect post (f_length, f_known, f_joins, f_patterns, f_first, f_rest, f_narrow, f_gap, f_stretch, f_shrink, f_tolerance, f_cost, f_height, f_breaks, f_lines, f_paragraphs, a_text, a_allowed, a_counts, a_wide, a_join, a_kerns, a_child, a_digits, a_uses, a_ends, a_begins, a_hyphened, a_least, a_before, a_natural, a_spaces, a_way, a_lineFrom, a_lineTo, a_linePart, a_linePage, a_lineWide, a_lineBad, a_lineHyphen, a_sums) (nI b) := by
  obtain ⟨n1, w1, m1, c1⟩ := I.1 b hb db
  obtain ⟨tl, e1, e2⟩ := dp_rev0 w1
  rcases c1 with ⟨rfl, -⟩ | ⟨c1, c2, c3, c4, c5⟩
  · omega
  obtain ⟨r, er⟩ := dp_hd I hb db
  have hlen : tl.length ≤ 48 := by
    have := w1
    rw [er] at this
    have := dp_len this
    rw [er] at e2
    simp at e2
    omega
  obtain ⟨r2, er2⟩ := dp_hd I (s := P b) (by omega) c4
  have hl2 : (V (P b)).length = tl.length := by rw [c5] at e2; simpa using e2
  have hpos : 0 < tl.length := by rw [← hl2, er2]; simp
  refine ⟨vp_in_nI (by omega) (by decide), nm_r (e' := nI (P b)) (by rw [nI_clamp (by omega)]; exact A.2 b c1 hb db) ⟨tl.length + 1, ?_⟩⟩
  refine xw_co9 (T := tl.length) I A hnb h1 ⟨tl.length + 2, xw_co31 I A hnb h1 tl.length b _ a_way (by rw [e2]) (by omega) (by omega) hb db (fun w' g1 g2 => ?_)⟩ (tl.length - 1) (P b) _ 0 (by rw [hl2]; omega) (by omega) (by omega) (by omega) (by omega) c4
  have := fw_rev g1
  rw [e1] at this h
  exact h w' this.2 this.1
theorem xw_em42 {post : Int32 → SX → Prop} {J : _} {a z p j : Nat} {x1 : Int32} (M : ex_M e f_first f_rest f_narrow f_gap f_stretch f_shrink f_tolerance f_cost f_height) (hnb : pr_nb e a z ≤ 48) (hb : f_breaks = nI (pr_nb e a z)) (E : gv_okF e) (Z : pd_ok e a z) (h : ∀ x2 : Int32, x2 = nI (pr_eg e a z p j (pr_nb e a z)) → wX_emergency_82 post J x1 x2 f_length f_known f_joins f_patterns f_first f_rest f_narrow f_gap f_stretch f_shrink f_tolerance f_cost f_height f_breaks f_lines f_paragraphs a_text a_allowed a_counts a_wide a_join a_kerns a_child a_digits a_uses a_ends a_begins a_hyphened a_least a_before a_natural a_spaces a_way a_lineFrom a_lineTo a_linePart a_linePage a_lineWide a_lineBad a_lineHyphen a_sums) :
    ∀ m n, m < n → p + 1 ≤ m → m ≤ pr_nb e a z → (∀ k, p < k → k ≤ m → a_natural k = nI (pr_w e a z p k) ∧ a_spaces k = nI (pr_s e a z p k)) → pr_eg e a z p j (pr_nb e a z) = pr_eg e a z p j m → wX_emergency_42 post J x1 (nI p) (nI (bq_tg e j)) f_length f_known f_joins f_patterns f_first f_rest f_narrow f_gap f_stretch f_shrink f_tolerance f_cost f_height f_breaks f_lines f_paragraphs a_text a_allowed a_counts a_wide a_join a_kerns a_child a_digits a_uses a_ends a_begins a_hyphened a_least a_before a_natural a_spaces a_way a_lineFrom a_lineTo a_linePart a_linePage a_lineWide a_lineBad a_lineHyphen a_sums n (nI (p + 1)) (nI m) := by
  have K := M.2.2.2.2.2.2.2.2.2
  intro m
  induction m with
  | zero => intro n hn h1; omega
  | succ m ih =>
    intro n hn h1 h2 hf he
    obtain ⟨n, rfl⟩ : ∃ n', n = n' + 1 := ⟨n - 1, by omega⟩
    refine pk_le (m + 1) (p + 1) (fun g => h _ ?_) (fun g => ?_) rfl (nI_1 p)
    · rw [he]
      unfold pr_eg
      rw [if_pos (by omega)]
    · refine br_t (nI_1 p).symm ?_
      have hwb := pr_w_b E K.2.2.2.1 (p := p) Z h2
      refine xw_bd M hb (by omega) hnb (hf (m + 1) (by omega) (Nat.le_refl _)).1 (hf (m + 1) (by omega) (Nat.le_refl _)).2 hwb.1 hwb.2 (bq_tgb K j) ?_
      have he2 : pr_eg e a z p j (m + 1) = if pr_bd e a z p (m + 1) j = 0 then pr_eg e a z p j m else m + 1 := by
        conv => lhs; unfold pr_eg
        rw [if_neg (by omega)]
      refine ek_if (bq_i_lt (bq_b _ _ _ _ _)) (fun g1 => nm_r (pk_m1 m) ?_) (fun g1 => nm_r (pk_m1 m) ?_)
      · have g1' : pr_bd e a z p (m + 1) j = 0 := g1
        rw [if_pos g1'] at he2
        exact ih n (by omega) (by omega) (by omega) (fun k a b => hf k a (by omega)) (he.trans he2)
      · have g1' : ¬ pr_bd e a z p (m + 1) j = 0 := g1
        rw [if_neg g1'] at he2
        obtain ⟨n, rfl⟩ : ∃ n', n = n' + 1 := ⟨n - 1, by omega⟩
        refine pk_le m (p + 1) (fun g2 => h _ (by rw [he, he2])) (fun g2 => br_f ?_ (h _ (by rw [he, he2]))) rfl (nI_1 p)
        rw [nI_1, nI_eq (by omega) (by omega)]
        omega
theorem xw_em11 {post : Int32 → SX → Prop} {a z : Nat} (F : ex_F e f_length a_text a_wide a_join a_kerns) (M : ex_M e f_first f_rest f_narrow f_gap f_stretch f_shrink f_tolerance f_cost f_height) (Z : pd_ok e a z) (B : ex_B e a z f_breaks a_ends a_begins a_hyphened) :
    ∀ f n p j w nat' spc', f < n → pr_nb e a z ≤ p + f → p ≤ pr_nb e a z → j + (pr_nb e a z - p) ≤ pr_nb e a z → (∀ w' nat2 spc2, fw_ar (pr_em e a z f p j) (j + 1) w' → (∀ i, i ≤ j → w' i = w i) → post (nI (j + (pr_em e a z f p j).length)) (f_length, f_known, f_joins, f_patterns, f_first, f_rest, f_narrow, f_gap, f_stretch, f_shrink, f_tolerance, f_cost, f_height, f_breaks, f_lines, f_paragraphs, a_text, a_allowed, a_counts, a_wide, a_join, a_kerns, a_child, a_digits, a_uses, a_ends, a_begins, a_hyphened, a_least, a_before, nat2, spc2, w', a_lineFrom, a_lineTo, a_linePart, a_linePage, a_lineWide, a_lineBad, a_lineHyphen, a_sums)) → wX_emergency_11 post n (nI j) (nI p) f_length f_known f_joins f_patterns f_first f_rest f_narrow f_gap f_stretch f_shrink f_tolerance f_cost f_height f_breaks f_lines f_paragraphs a_text a_allowed a_counts a_wide a_join a_kerns a_child a_digits a_uses a_ends a_begins a_hyphened a_least a_before nat' spc' w a_lineFrom a_lineTo a_linePart a_linePage a_lineWide a_lineBad a_lineHyphen a_sums := by
  obtain ⟨⟨f1, m1, m2, m3⟩, M2, M3, M4, M5, M6, M7, M8, M9, K⟩ := id M
  have E := F.2.2.2.2.2
  have h48 := E.1
  have hzl := Z.2.1
  have hnb := pr_nb_b (e := e) (a := a) (z := z)
  intro f
  induction f with
  | zero =>
    intro n p j w nat' spc' hn h1 h2 h3 h
    obtain ⟨n, rfl⟩ : ∃ n', n = n' + 1 := ⟨n - 1, by omega⟩
    exact br_t (by rw [B.1]; exact nI_le (by omega) (by omega)) (h w nat' spc' trivial (fun i _ => rfl))
  | succ f ih =>
    intro n p j w nat' spc' hn h1 h2 h3 h
    obtain ⟨n, rfl⟩ : ∃ n', n = n' + 1 := ⟨n - 1, by omega⟩
    by_cases hp : pr_nb e a z ≤ p
    · have e0 : pr_em e a z (f + 1) p j = [] := by
        show (if pr_nb e a z ≤ p then [] else _) = _
        rw [if_pos hp]
      rw [e0] at h
      exact br_t (by rw [B.1]; exact nI_le (by omega) (by omega)) (h w nat' spc' trivial (fun i _ => rfl))
    · have e0 : pr_em e a z (f + 1) p j = pr_eg e a z p j (pr_nb e a z) :: pr_em e a z f (pr_eg e a z p j (pr_nb e a z)) (j + 1) := by
        show (if pr_nb e a z ≤ p then [] else _) = _
        rw [if_neg hp]
      rw [e0] at h
      have heg := pr_eg_b e a z p j (pr_nb e a z)
      have heg2 : pr_eg e a z p j (pr_nb e a z) ≤ pr_nb e a z := by rcases heg.2 with q | q <;> omega
      refine br_f (by rw [B.1]; exact nI_ge (by omega) (by omega)) (xw_tg M (by omega) (xw_reach (a_way := w) F M4 M6 K.2.2.2.2.2.1 K.2.2.2.1 Z B (Nat.le_trans (bq_tgb K j) (by omega)) (by omega) (fun r nat2 spc2 r1 r2 r3 r4 => nm_r (nI_1 p) ⟨r + 1, ?_⟩)))
      refine xw_em42 (a_way := w) (a_natural := nat2) (a_spaces := spc2) (x1 := nI j) M (by omega) B.1 E Z (fun x2 hx => ?_) r (r + 1) (by omega) (by omega) r2 r3 (pr_eg_skip r1 _ r2 (fun k k1 k2 => bq_over (r4 k k1 k2)))
      subst hx
      refine nm_r (nI_1 j) ⟨vp_in_nI (by omega) (by decide), nm_r (e' := upd w (j + 1) (nI (pr_eg e a z p j (pr_nb e a z)))) (by rw [iw_bb (by omega), nI_clamp (by omega)]) ?_⟩
      refine ih n (pr_eg e a z p j (pr_nb e a z)) (j + 1) _ nat2 spc2 (by omega) (by omega) heg2 (by omega) (fun w' nat3 spc3 g1 g2 => ?_)
      have := h w' nat3 spc3 ⟨by rw [g2 (j + 1) (Nat.le_refl _), pk_us], g1⟩ (fun i hi => by rw [g2 i (by omega), pk_un (by omega)])
      rw [show j + (pr_eg e a z p j (pr_nb e a z) :: pr_em e a z f (pr_eg e a z p j (pr_nb e a z)) (j + 1)).length = j + 1 + (pr_em e a z f (pr_eg e a z p j (pr_nb e a z)) (j + 1)).length from by simp; omega] at this
      exact this
theorem xw_emergency {post : Int32 → SX → Prop} {a z : Nat} (F : ex_F e f_length a_text a_wide a_join a_kerns) (M : ex_M e f_first f_rest f_narrow f_gap f_stretch f_shrink f_tolerance f_cost f_height) (Z : pd_ok e a z) (B : ex_B e a z f_breaks a_ends a_begins a_hyphened)
    (h : ∀ w' nat' spc', fw_ar (pr_em e a z (pr_nb e a z) 0 0) 1 w' → w' 0 = nI 0 → post (nI (pr_em e a z (pr_nb e a z) 0 0).length) (f_length, f_known, f_joins, f_patterns, f_first, f_rest, f_narrow, f_gap, f_stretch, f_shrink, f_tolerance, f_cost, f_height, f_breaks, f_lines, f_paragraphs, a_text, a_allowed, a_counts, a_wide, a_join, a_kerns, a_child, a_digits, a_uses, a_ends, a_begins, a_hyphened, a_least, a_before, nat', spc', w', a_lineFrom, a_lineTo, a_linePart, a_linePage, a_lineWide, a_lineBad, a_lineHyphen, a_sums)) : wpX_emergency post (f_length, f_known, f_joins, f_patterns, f_first, f_rest, f_narrow, f_gap, f_stretch, f_shrink, f_tolerance, f_cost, f_height, f_breaks, f_lines, f_paragraphs, a_text, a_allowed, a_counts, a_wide, a_join, a_kerns, a_child, a_digits, a_uses, a_ends, a_begins, a_hyphened, a_least, a_before, a_natural, a_spaces, a_way, a_lineFrom, a_lineTo, a_linePart, a_linePage, a_lineWide, a_lineBad, a_lineHyphen, a_sums) := by
  refine nm_r (e' := upd a_way 0 (nI 0)) rfl ⟨pr_nb e a z + 1, ?_⟩
  refine xw_em11 F M Z B (pr_nb e a z) (pr_nb e a z + 1) 0 0 _ a_natural a_spaces (by omega) (by omega) (Nat.zero_le _) (by omega) (fun w' nat' spc' g1 g2 => ?_)
  have := h w' nat' spc' g1 (by rw [g2 0 (Nat.le_refl _), pk_us])
  rw [Nat.zero_add]
  exact this
theorem xw_keep {post : SX → Prop} {a z p k j np : Nat} {s : Nat × (Nat → li_T)} (F : ex_F e f_length a_text a_wide a_join a_kerns) (M : ex_M e f_first f_rest f_narrow f_gap f_stretch f_shrink f_tolerance f_cost f_height) (Z : pd_ok e a z) (B : ex_B e a z f_breaks a_ends a_begins a_hyphened) (hp : p < k) (hk : k ≤ pr_nb e a z) (hj : j ≤ 48) (L : ex_L s f_lines a_lineFrom a_lineTo a_linePart a_lineWide a_lineBad a_lineHyphen) (hs : s.1 < 48) (hnp : f_paragraphs = nI np) (hnp2 : np < 24)
    (h : ∀ x1 x2 x3 x4 x5 x6 x7 nat' spc', ex_L (li_ap s (li_mk e a z np p k j)) x1 x2 x3 x4 x5 x6 x7 → post (f_length, f_known, f_joins, f_patterns, f_first, f_rest, f_narrow, f_gap, f_stretch, f_shrink, f_tolerance, f_cost, f_height, f_breaks, x1, f_paragraphs, a_text, a_allowed, a_counts, a_wide, a_join, a_kerns, a_child, a_digits, a_uses, a_ends, a_begins, a_hyphened, a_least, a_before, nat', spc', a_way, x2, x3, x4, a_linePage, x5, x6, x7, a_sums)) : wpX_keep post (f_length, f_known, f_joins, f_patterns, f_first, f_rest, f_narrow, f_gap, f_stretch, f_shrink, f_tolerance, f_cost, f_height, f_breaks, f_lines, f_paragraphs, a_text, a_allowed, a_counts, a_wide, a_join, a_kerns, a_child, a_digits, a_uses, a_ends, a_begins, a_hyphened, a_least, a_before, a_natural, a_spaces, a_way, a_lineFrom, a_lineTo, a_linePart, a_linePage, a_lineWide, a_lineBad, a_lineHyphen, a_sums) (nI j) (nI p) (nI k) := by
  obtain ⟨⟨f1, m1, m2, m3⟩, M2, M3, M4, M5, M6, M7, M8, M9, K⟩ := id M
  have E := F.2.2.2.2.2
  have h48 := E.1
  have hzl := Z.2.1
  have hnb := pr_nb_b (e := e) (a := a) (z := z)
  obtain ⟨L1, L2⟩ := L
  have hvp : vp_in (nI p) 49 := vp_in_nI (by omega) (by decide)
  have hvk : vp_in (nI k) 49 := vp_in_nI (by omega) (by decide)
  have hvl : vp_in f_lines 48 := by rw [L1]; exact vp_in_nI hs (by decide)
  have hcl : f_lines.toNatClampNeg = s.1 := by rw [L1]; exact nI_clamp (by omega)
  have hwb := pr_w_b E K.2.2.2.1 (p := p) Z hk
  have hen := pr_en_b Z.1 hk
  have hbg := pr_bg_lt E hp hk
  refine ⟨hvp, hvl, nm_r (e' := upd a_lineFrom s.1 (nI (pr_bg e a z p))) (by rw [hcl, nI_clamp (by omega), B.2.2.1 p (by omega), iw_b (by omega)]) ⟨hvk, hvl, nm_r (e' := upd a_lineTo s.1 (nI (pr_en e a z k))) (by rw [hcl, nI_clamp (by omega), B.2.1 k (by omega) hk, iw_b (by omega)]) ⟨hvl, nm_r (e' := upd a_linePart s.1 (nI np)) (by rw [hcl, hnp, iw_bb (by omega)]) ⟨hvk, hvl, nm_r (e' := upd a_lineHyphen s.1 (bl_i (pr_hy e a z k))) (by rw [hcl, nI_clamp (by omega), B.2.2.2 k hk, bl_nar]) ?_⟩⟩⟩⟩
  refine xw_reach (t := 30000) F M4 M6 K.2.2.2.2.2.1 K.2.2.2.1 Z B (by omega) (by omega) (fun r nat' spc' r1 r2 r3 r4 => ?_)
  have hkr : k ≤ r := by
    rcases Nat.lt_or_ge r k with y | y
    · have := r4 k y hk; omega
    · exact y
  obtain ⟨n1, n2⟩ := r3 k hp hkr
  refine ⟨hvk, hvl, nm_r (e' := upd a_lineWide s.1 (nI (pr_w e a z p k))) (by rw [hcl, nI_clamp (by omega), n1]) ?_⟩
  refine xw_tg M (by omega) (xw_bd (a_natural := nat') (a_spaces := spc') M B.1 (by omega) (by omega) n1 n2 hwb.1 hwb.2 (bq_tgb K j) ?_)
  refine nm_r (e' := nI (s.1 + 1)) (by rw [L1, nI_1]) ⟨hvl, nm_r (e' := upd a_lineBad s.1 (bq_i (pr_bd e a z p k j))) (by rw [hcl]; rfl) ?_⟩
  refine h _ _ _ _ _ _ _ nat' spc' ⟨rfl, fun i hi => ?_⟩
  have hi' : i < s.1 + 1 := hi
  by_cases ei : i = s.1
  · rw [ei, li_ap_s]
    exact ⟨pk_us, pk_us, pk_us, pk_us, pk_us, pk_us⟩
  · rw [li_ap_n ei, pk_un ei, pk_un ei, pk_un ei, pk_un ei, pk_un ei, pk_un ei]
    exact L2 i (by omega)
theorem xw_210 {post : SX → Prop} {a z np T : Nat} (F : ex_F e f_length a_text a_wide a_join a_kerns) (M : ex_M e f_first f_rest f_narrow f_gap f_stretch f_shrink f_tolerance f_cost f_height) (Z : pd_ok e a z) (B : ex_B e a z f_breaks a_ends a_begins a_hyphened) (hnp : f_paragraphs = nI np) (hnp2 : np < 24) (hT : T ≤ 48) :
    ∀ (L : List Nat) n p j (s : Nat × (Nat → li_T)) x1 x2 x3 x4 x5 x6 x7 nat' spc', L.length < n → wl_ok (pr_nb e a z) p L → j + L.length = T → s.1 + L.length ≤ 48 → a_way j = nI p → fw_ar L (j + 1) a_way → ex_L s x1 x2 x3 x4 x5 x6 x7 →
      (∀ x1 x2 x3 x4 x5 x6 x7 nat' spc', ex_L (li_pl e a z np L p j s) x1 x2 x3 x4 x5 x6 x7 → post (f_length, f_known, f_joins, f_patterns, f_first, f_rest, f_narrow, f_gap, f_stretch, f_shrink, f_tolerance, f_cost, f_height, f_breaks, x1, nI (np + 1), a_text, a_allowed, a_counts, a_wide, a_join, a_kerns, a_child, a_digits, a_uses, a_ends, a_begins, a_hyphened, a_least, a_before, nat', spc', a_way, x2, x3, x4, a_linePage, x5, x6, x7, a_sums)) →
      wX_set_210 post (nI T) n (nI j) f_length f_known f_joins f_patterns f_first f_rest f_narrow f_gap f_stretch f_shrink f_tolerance f_cost f_height f_breaks x1 f_paragraphs a_text a_allowed a_counts a_wide a_join a_kerns a_child a_digits a_uses a_ends a_begins a_hyphened a_least a_before nat' spc' a_way x2 x3 x4 a_linePage x5 x6 x7 a_sums := by
  have h48 := F.2.2.2.2.2.1
  have hzl := Z.2.1
  have hnb := pr_nb_b (e := e) (a := a) (z := z)
  intro L
  induction L with
  | nil =>
    intro n p j s x1 x2 x3 x4 x5 x6 x7 nat' spc' hn hw hj hs h1 h2 hL h
    obtain ⟨n, rfl⟩ : ∃ n', n = n' + 1 := ⟨n - 1, by have : 0 < n := hn; omega⟩
    have : j = T := hj
    subst this
    exact br_t (nI_le (Nat.le_refl _) (by omega)) (nm_r (e' := nI (np + 1)) (by rw [hnp, nI_1]) (h x1 x2 x3 x4 x5 x6 x7 nat' spc' hL))
  | cons k r ih =>
    intro n p j s x1 x2 x3 x4 x5 x6 x7 nat' spc' hn hw hj hs h1 h2 hL h
    have hlen : (k :: r).length = r.length + 1 := rfl
    rw [hlen] at hn hj hs
    obtain ⟨n, rfl⟩ : ∃ n', n = n' + 1 := ⟨n - 1, by omega⟩
    refine br_f (nI_ge (by omega) (by omega)) ⟨vp_in_nI (by omega) (by decide), ?_⟩
    rw [nI_1, nI_clamp (n := j) (by omega), nI_clamp (n := j + 1) (by omega), h1, h2.1]
    refine ⟨vp_in_nI (by omega) (by decide), xw_keep (s := s) (np := np) (f_lines := x1) (a_lineFrom := x2) (a_lineTo := x3) (a_linePart := x4) (a_lineWide := x5) (a_lineBad := x6) (a_lineHyphen := x7) F M Z B hw.1 hw.2.1 (by omega) hL (by omega) hnp hnp2 (fun y1 y2 y3 y4 y5 y6 y7 nat2 spc2 g => nm_e ?_)⟩
    exact ih n k (j + 1) _ y1 y2 y3 y4 y5 y6 y7 nat2 spc2 (by omega) hw.2.2 (by omega) (by show s.1 + 1 + r.length ≤ 48; omega) h2.1 h2.2 g h
theorem xw_47 {post : SX → Prop} {a z : Nat} (F : ex_F e f_length a_text a_wide a_join a_kerns) (M : ex_M e f_first f_rest f_narrow f_gap f_stretch f_shrink f_tolerance f_cost f_height) (Z : pd_ok e a z) (B : ex_B e a z f_breaks a_ends a_begins a_hyphened) {c1 : Int32}
    (h : ∀ D P V L' F' nat' spc', dp_in (pr_S e a z) (gv_nr e) (pr_nb e a z) (dp_c0 (pr_nb e a z)) D P V → dp_ar (pr_nb e a z) L' F' D P → F' 1 = c1 → ∃ n76 : Nat, wX_set_76 post f_length f_known f_joins f_patterns f_first f_rest f_narrow f_gap f_stretch f_shrink f_tolerance f_cost f_height f_breaks f_lines f_paragraphs a_text a_allowed a_counts a_wide a_join a_kerns a_child a_digits a_uses a_ends a_begins a_hyphened L' F' nat' spc' a_way a_lineFrom a_lineTo a_linePart a_linePage a_lineWide a_lineBad a_lineHyphen a_sums n76 (-1) (nI (16 * pr_nb e a z))) :
    ∀ d n b L' F' nat' spc' D P V, d < n → b + d = pr_nb e a z → dp_in (pr_S e a z) (gv_nr e) (pr_nb e a z) (dp_c0 b) D P V → dp_ar (pr_nb e a z) L' F' D P → F' 1 = c1 → wX_set_47 post n (nI b) f_length f_known f_joins f_patterns f_first f_rest f_narrow f_gap f_stretch f_shrink f_tolerance f_cost f_height f_breaks f_lines f_paragraphs a_text a_allowed a_counts a_wide a_join a_kerns a_child a_digits a_uses a_ends a_begins a_hyphened L' F' nat' spc' a_way a_lineFrom a_lineTo a_linePart a_linePage a_lineWide a_lineBad a_lineHyphen a_sums := by
  have h48 := F.2.2.2.2.2.1
  have hzl := Z.2.1
  have hnb := pr_nb_b (e := e) (a := a) (z := z)
  intro d
  induction d with
  | zero =>
    intro n b L' F' nat' spc' D P V hn hb I A hc
    obtain ⟨n, rfl⟩ : ∃ n', n = n' + 1 := ⟨n - 1, by omega⟩
    have : b = pr_nb e a z := by omega
    subst this
    exact br_t (by rw [B.1]; exact nI_le (Nat.le_refl _) (by omega)) (nm_r (e' := nI (16 * pr_nb e a z)) (by rw [B.1, iw_16]) (h D P V L' F' nat' spc' I A hc))
  | succ d ih =>
    intro n b L' F' nat' spc' D P V hn hb I A hc
    obtain ⟨n, rfl⟩ : ∃ n', n = n' + 1 := ⟨n - 1, by omega⟩
    exact br_f (by rw [B.1]; exact nI_ge (by omega) (by omega)) (xw_carry (a_least := L') (a_before := F') F M Z B (by omega) I A (fun D2 P2 V2 L2 F2 nat2 spc2 I2 A2 hc2 => nm_r (nI_1 b) (ih n (b + 1) L2 F2 nat2 spc2 D2 P2 V2 (by omega) (by omega) I2 A2 (hc2.trans hc))))
theorem xw_set2 {post : SX → Prop} {a z : Nat} (F : ex_F e f_length a_text a_wide a_join a_kerns) (M : ex_M e f_first f_rest f_narrow f_gap f_stretch f_shrink f_tolerance f_cost f_height) (Z : pd_ok e a z) (B : ex_B e a z f_breaks a_ends a_begins a_hyphened)
    (h : ∀ D P V L' F' nat' spc', dp_in (pr_S e a z) (gv_nr e) (pr_nb e a z) (dp_c0 (pr_nb e a z)) D P V → dp_ar (pr_nb e a z) L' F' D P → F' 1 = -1 → ∃ n76 : Nat, wX_set_76 post f_length f_known f_joins f_patterns f_first f_rest f_narrow f_gap f_stretch f_shrink f_tolerance f_cost f_height f_breaks f_lines f_paragraphs a_text a_allowed a_counts a_wide a_join a_kerns a_child a_digits a_uses a_ends a_begins a_hyphened L' F' nat' spc' a_way a_lineFrom a_lineTo a_linePart a_linePage a_lineWide a_lineBad a_lineHyphen a_sums n76 (-1) (nI (16 * pr_nb e a z))) :
    ∀ d n s L', d < n → s + d = 16 * pr_nb e a z + 16 → (∀ i, i < s → L' i = -1) → wX_set_2 post f_length f_known f_joins f_patterns f_first f_rest f_narrow f_gap f_stretch f_shrink f_tolerance f_cost f_height f_breaks f_lines f_paragraphs n (nI s) a_text a_allowed a_counts a_wide a_join a_kerns a_child a_digits a_uses a_ends a_begins a_hyphened L' a_before a_natural a_spaces a_way a_lineFrom a_lineTo a_linePart a_linePage a_lineWide a_lineBad a_lineHyphen a_sums := by
  have h48 := F.2.2.2.2.2.1
  have hzl := Z.2.1
  have hnb := pr_nb_b (e := e) (a := a) (z := z)
  have hle : (16 : Int32) * f_breaks + 16 = nI (16 * pr_nb e a z + 16) := by rw [B.1, iw_1616]
  intro d
  induction d with
  | zero =>
    intro n s L' hn hs hL
    obtain ⟨n, rfl⟩ : ∃ n', n = n' + 1 := ⟨n - 1, by omega⟩
    have : s = 16 * pr_nb e a z + 16 := by omega
    subst this
    refine br_t (by rw [hle]; exact nI_le (Nat.le_refl _) (by omega)) (nm_e (nm_r (e' := upd a_before 1 (-1)) rfl ⟨pr_nb e a z + 1, ?_⟩))
    refine xw_47 (c1 := -1) F M Z B h (pr_nb e a z) (pr_nb e a z + 1) 0 _ _ a_natural a_spaces (fun s => if s = 1 then 1 else 0) (fun _ => 0) (fun _ => [0]) (by omega) (by omega) (dp_in0 _ (fun k => ?_)) ⟨fun s hs => ?_, fun s h1 h2 h3 => ?_⟩ pk_us
    · unfold dp_c0
      split <;> omega
    · by_cases e1 : s = 1
      · subst e1
        rw [pk_uLs]; rfl
      · show _ = dp_lc (if s = 1 then 1 else 0)
        rw [pk_uLn e1, hL s hs, if_neg e1]; rfl
    · exact absurd (if_neg (by omega)) h3
  | succ d ih =>
    intro n s L' hn hs hL
    obtain ⟨n, rfl⟩ : ∃ n', n = n' + 1 := ⟨n - 1, by omega⟩
    refine br_f (by rw [hle]; exact nI_ge (by omega) (by omega)) ⟨vp_in_nI (by omega) (by decide), nm_r (e' := vp_updL L' s (-1)) (by rw [nI_clamp (by omega)]) (nm_r (nI_1 s) (ih n (s + 1) _ (by omega) (by omega) (fun i hi => ?_)))⟩
    by_cases ei : i = s
    · rw [ei, pk_uLs]
    · rw [pk_uLn ei]; exact hL i (by omega)
/-- one paragraph -/
theorem xw_set {post : SX → Prop} {a z np : Nat} {s : Nat × (Nat → li_T)} (F : ex_F e f_length a_text a_wide a_join a_kerns) (M : ex_M e f_first f_rest f_narrow f_gap f_stretch f_shrink f_tolerance f_cost f_height) (Z : pd_ok e a z) (B : ex_B e a z f_breaks a_ends a_begins a_hyphened) (h0 : 0 < pr_nb e a z) (L : ex_L s f_lines a_lineFrom a_lineTo a_linePart a_lineWide a_lineBad a_lineHyphen) (hs : s.1 + pr_nb e a z ≤ 48) (hnp : f_paragraphs = nI np) (hnp2 : np < 24)
    (h : ∀ x1 x2 x3 x4 x5 x6 x7 y1 y2 y3 y4 y5, ex_L (li_pl e a z np (pr_wl e a z) 0 0 s) x1 x2 x3 x4 x5 x6 x7 → post (f_length, f_known, f_joins, f_patterns, f_first, f_rest, f_narrow, f_gap, f_stretch, f_shrink, f_tolerance, f_cost, f_height, f_breaks, x1, nI (np + 1), a_text, a_allowed, a_counts, a_wide, a_join, a_kerns, a_child, a_digits, a_uses, a_ends, a_begins, a_hyphened, y3, y4, y1, y2, y5, x2, x3, x4, a_linePage, x5, x6, x7, vp_updL a_sums np (pr_sm e a z))) : wpX_set post (f_length, f_known, f_joins, f_patterns, f_first, f_rest, f_narrow, f_gap, f_stretch, f_shrink, f_tolerance, f_cost, f_height, f_breaks, f_lines, f_paragraphs, a_text, a_allowed, a_counts, a_wide, a_join, a_kerns, a_child, a_digits, a_uses, a_ends, a_begins, a_hyphened, a_least, a_before, a_natural, a_spaces, a_way, a_lineFrom, a_lineTo, a_linePart, a_linePage, a_lineWide, a_lineBad, a_lineHyphen, a_sums) := by
  have K := M.2.2.2.2.2.2.2.2.2
  have h48 := F.2.2.2.2.2.1
  have hzl := Z.2.1
  have hnb := pr_nb_b (e := e) (a := a) (z := z)
  have O := pr_ok K a z (N := gv_nr e) (Nat.le_refl _) K.2.2.1
  have hvp : vp_in f_paragraphs 24 := by rw [hnp]; exact vp_in_nI hnp2 (by decide)
  have hcp : f_paragraphs.toNatClampNeg = np := by rw [hnp]; exact nI_clamp (by omega)
  have hwl := wl_all e a z
  have hwlen := wl_len hwl
  refine ⟨16 * pr_nb e a z + 17, xw_set2 F M Z B (fun D P V L' F' nat' spc' I A hc => ⟨17, ?_⟩) (16 * pr_nb e a z + 16) _ 0 a_least (by omega) (by omega) (fun i hi => by omega)⟩
  have hcut : 16 * pr_nb e a z ≤ dp_c0 (pr_nb e a z) (pr_nb e a z) := by
    unfold dp_c0; rw [if_pos (Nat.le_refl _)]; exact Nat.le_refl _
  refine xw_76 (a_least := L') (a_before := F') M (by omega) B.1 I A (fun g => ⟨hvp, nm_r (e' := vp_updL a_sums np (pr_sm e a z)) ?_ (br_t (by decide) ?_)⟩) (fun b b1 b2 b3 b4 => ⟨hvp, nm_r (e' := vp_updL a_sums np (pr_sm e a z)) ?_ (br_f (nI_pos (by omega)) ?_)⟩) 16 17 (16 * pr_nb e a z) 0 (by omega) (by omega) (Nat.le_refl _) (fun _ s' h1 h2 => by omega) (fun b hb => by omega)
  · rw [hcp, (pr_wl_n (dp_end_n O I hcut g)).2]
  · have e1 := (pr_wl_n (dp_end_n O I hcut g)).1
    rw [e1] at hwl hwlen h
    exact xw_emergency F M Z B (fun w' nat2 spc2 g1 g2 => ⟨(pr_em e a z (pr_nb e a z) 0 0).length + 1, xw_210 (a_way := w') F M Z B hnp hnp2 (by omega) (pr_em e a z (pr_nb e a z) 0 0) _ 0 0 s f_lines a_lineFrom a_lineTo a_linePart a_lineWide a_lineBad a_lineHyphen nat2 spc2 (by omega) hwl (by omega) (by omega) g2 g1 L (fun x1 x2 x3 x4 x5 x6 x7 nat3 spc3 g3 => h x1 x2 x3 x4 x5 x6 x7 nat3 spc3 L' F' w' g3)⟩)
  · rw [hcp, (pr_wl_s (dp_end_s O I hcut b1 b2 b3 b4)).2]
  · have e1 := (pr_wl_s (dp_end_s O I hcut b1 b2 b3 b4)).1
    have e1' : pr_wl e a z = (V b).reverse.tail := e1
    rw [e1'] at hwl hwlen h
    exact xw_collect (a_least := L') (a_before := F') I A (by omega) hc (by omega) b2 b3 (fun w' g1 g2 => ⟨(V b).reverse.tail.length + 1, xw_210 (a_way := w') F M Z B hnp hnp2 (by omega) (V b).reverse.tail _ 0 0 s f_lines a_lineFrom a_lineTo a_linePart a_lineWide a_lineBad a_lineHyphen nat' spc' (by omega) hwl (by omega) (by omega) g2 g1 L (fun x1 x2 x3 x4 x5 x6 x7 nat3 spc3 g3 => h x1 x2 x3 x4 x5 x6 x7 nat3 spc3 L' F' w' g3)⟩)
end
end
section
/-! the component: hyphens by the trie -/
theorem s2_T {y : Nat} (h : y < 2 ^ 30) : (nI y - 2).toInt = (y : Int) - 2 := pk_sub_toInt (b := 2) h (by omega)
theorem s1_T {y : Nat} (h : y < 2 ^ 30) : (nI y - 1).toInt = (y : Int) - 1 := pk_sub_toInt (b := 1) h (by omega)
theorem s2_dn (y : Nat) : nI (y + 1) - 2 + (-1) = nI y - 2 := by
  rw [← nI_1]; grind
/-- what the trie answers for the letters l -/
def tr_v (ch l : Nat → Nat) : Nat → Nat
  | 0 => 0
  | n + 1 => ch (11 * tr_v ch l n + l n)
def tr_if (e : gv_T) (a_child a_digits : Nat → Int32) : Prop := ∃ ch dg : Nat → Nat,
  (∀ k, k < 352 → a_child k = nI (ch k) ∧ ch k < 32) ∧ (∀ v, v < 32 → a_digits v = nI (dg v) ∧ dg v < 10000) ∧ dg 0 = 0 ∧
  ∀ (l : Nat → Nat) n, (∀ j, l j < 11) → n < 3 → (∀ j, 1 ≤ j → j ≤ n → tr_v ch l j ≠ 0) →
    (dg (tr_v ch l (n + 1)) ≠ 0 → ∃ p, p < gv_np e ∧ hy_nl e p = n + 1 ∧ (∀ j, j < n + 1 → l j = hy_lt e p j) ∧ gv_pd e p = dg (tr_v ch l (n + 1))) ∧
    (∀ p, p < gv_np e → hy_nl e p = n + 1 → (∀ j, j < n + 1 → l j = hy_lt e p j) → dg (tr_v ch l (n + 1)) ≠ 0 ∧ gv_pd e p = dg (tr_v ch l (n + 1))) ∧
    (tr_v ch l (n + 1) = 0 → ∀ p, p < gv_np e → n + 1 ≤ hy_nl e p → (∀ j, j < n + 1 → l j = hy_lt e p j) → False)
theorem hy_nl_b (e : gv_T) (p : Nat) : 1 ≤ hy_nl e p ∧ hy_nl e p ≤ 3 := by
  unfold hy_nl
  split
  · omega
  · split <;> omega
def hy_Q (e : gv_T) (s t o n i d : Nat) : Prop := ∃ p k o', p < gv_np e ∧ k ≤ hy_nl e p ∧ s ≤ o' ∧ o' + hy_nl e p ≤ t + 2 ∧ (o' < o ∨ (o' = o ∧ hy_nl e p ≤ n)) ∧ hy_mt e p o' s t ∧ i + 1 = o' + k ∧ d = hy_dg e p k
def hy_C (e : gv_T) (s t o n : Nat) (C : Nat → Int32) : Prop := ∃ c : Nat → Nat, ∀ i, s ≤ i → i ≤ t → C i = nI (c i) ∧ c i ≤ 9 ∧ hy_mx (hy_Q e s t o n i) (c i)
theorem hy_C_iff {e : gv_T} {s t o n o' n' : Nat} {C : Nat → Int32} (h : hy_C e s t o n C) (g : ∀ i d, hy_Q e s t o n i d ↔ hy_Q e s t o' n' i d) : hy_C e s t o' n' C := by
  obtain ⟨c, hc⟩ := h
  refine ⟨c, fun i h1 h2 => ?_⟩
  obtain ⟨c1, c2, c3, c4⟩ := hc i h1 h2
  exact ⟨c1, c2, c3.elim Or.inl (fun z => Or.inr ((g i _).mp z)), fun d z => c4 d ((g i d).mpr z)⟩
theorem hy_C_none {e : gv_T} {s t o n : Nat} {C : Nat → Int32} (h : hy_C e s t o n C) (g : ∀ p, p < gv_np e → hy_nl e p = n + 1 → hy_mt e p o s t → False) : hy_C e s t o (n + 1) C := by
  refine hy_C_iff h (fun i d => ⟨?_, ?_⟩)
  · rintro ⟨p, k, o', h1, h2, h3, h4, h5, h6⟩
    exact ⟨p, k, o', h1, h2, h3, h4, by omega, h6⟩
  · rintro ⟨p, k, o', h1, h2, h3, h4, h5, h6, h7⟩
    refine ⟨p, k, o', h1, h2, h3, h4, ?_, h6, h7⟩
    rcases h5 with h5 | ⟨rfl, h5⟩
    · exact Or.inl h5
    · refine Or.inr ⟨rfl, ?_⟩
      rcases Nat.lt_or_ge n (hy_nl e p) with y | y
      · exact absurd h6 (fun z => g p h1 (by omega) z)
      · exact y
theorem hy_C_next {e : gv_T} {s t o n : Nat} {C : Nat → Int32} (h : hy_C e s t o n C) (g : ∀ p, p < gv_np e → n < hy_nl e p → o + hy_nl e p ≤ t + 2 → hy_mt e p o s t → False) : hy_C e s t (o + 1) 0 C := by
  refine hy_C_iff h (fun i d => ⟨?_, ?_⟩)
  · rintro ⟨p, k, o', h1, h2, h3, h4, h5, h6⟩
    exact ⟨p, k, o', h1, h2, h3, h4, Or.inl (by omega), h6⟩
  · rintro ⟨p, k, o', h1, h2, h3, h4, h5, h6, h7⟩
    have hb := hy_nl_b e p
    refine ⟨p, k, o', h1, h2, h3, h4, ?_, h6, h7⟩
    rcases Nat.lt_or_ge o' o with y | y
    · exact Or.inl y
    · have : o' = o := by omega
      subst this
      refine Or.inr ⟨rfl, ?_⟩
      rcases Nat.lt_or_ge n (hy_nl e p) with y | y
      · exact absurd h6 (fun z => g p h1 y h4 z)
      · exact y
theorem hy_C_hit {e : gv_T} {s t o n p q : Nat} {c : Nat → Nat} {C' : Nat → Int32} {c' : Nat → Nat} (hc : ∀ i, s ≤ i → i ≤ t → c i ≤ 9 ∧ hy_mx (hy_Q e s t o n i) (c i)) (hp : p < gv_np e) (hl : hy_nl e p = n + 1) (hm : hy_mt e p o s t) (hq : gv_pd e p = q) (hs : s ≤ o) (ht : o + (n + 1) ≤ t + 2)
    (hu : ∀ p', p' < gv_np e → hy_nl e p' = n + 1 → hy_mt e p' o s t → gv_pd e p' = q) (h' : ∀ i, s ≤ i → i ≤ t → C' i = nI (c' i) ∧ c' i = if o ≤ i + 1 ∧ i + 1 < o + (n + 1) + 1 then max (c i) (q / 10 ^ (o + (n + 1) - (i + 1)) % 10) else c i) : hy_C e s t o (n + 1) C' := by
  refine ⟨c', fun i h1 h2 => ?_⟩
  obtain ⟨a1, a2⟩ := h' i h1 h2
  obtain ⟨b1, b2, b3⟩ := hc i h1 h2
  have up : ∀ d, hy_Q e s t o n i d → hy_Q e s t o (n + 1) i d := by
    rintro d ⟨p, k, o', h1, h2, h3, h4, h5, h6⟩
    exact ⟨p, k, o', h1, h2, h3, h4, by omega, h6⟩
  have dn : ∀ d, hy_Q e s t o (n + 1) i d → hy_Q e s t o n i d ∨ ((o ≤ i + 1 ∧ i + 1 < o + (n + 1) + 1) ∧ d = q / 10 ^ (o + (n + 1) - (i + 1)) % 10) := by
    rintro d ⟨p', k, o', g1, g2, g3, g4, g5, g6, g7, g8⟩
    rcases Nat.lt_or_ge o' o with y | y
    · exact Or.inl ⟨p', k, o', g1, g2, g3, g4, Or.inl y, g6, g7, g8⟩
    · have : o' = o := by omega
      subst this
      rcases Nat.lt_or_ge n (hy_nl e p') with y | y
      · have e1 : hy_nl e p' = n + 1 := by omega
        refine Or.inr ⟨by omega, ?_⟩
        rw [g8]
        unfold hy_dg
        rw [hu p' g1 e1 g6, e1, show o' + (n + 1) - (i + 1) = n + 1 - k from by omega]
      · exact Or.inl ⟨p', k, o', g1, g2, g3, g4, Or.inr ⟨rfl, y⟩, g6, g7, g8⟩
  refine ⟨a1, ?_, ?_⟩
  · rw [a2]
    split
    · have := Nat.mod_lt (q / 10 ^ (o + (n + 1) - (i + 1))) (show 0 < 10 by omega)
      omega
    · exact b1
  · by_cases hr : o ≤ i + 1 ∧ i + 1 < o + (n + 1) + 1
    · rw [if_pos hr] at a2
      have hin : hy_Q e s t o (n + 1) i (q / 10 ^ (o + (n + 1) - (i + 1)) % 10) := by
        refine ⟨p, i + 1 - o, o, hp, by omega, hs, by omega, Or.inr ⟨rfl, by omega⟩, hm, by omega, ?_⟩
        unfold hy_dg
        rw [hq, hl, show o + (n + 1) - (i + 1) = n + 1 - (i + 1 - o) from by omega]
      refine ⟨?_, fun d hd => ?_⟩
      · rcases Nat.le_total (c i) (q / 10 ^ (o + (n + 1) - (i + 1)) % 10) with y | y
        · rw [Nat.max_eq_right y] at a2
          rw [a2]; exact Or.inr hin
        · rw [Nat.max_eq_left y] at a2
          rw [a2]; exact b2.elim Or.inl (fun z => Or.inr (up _ z))
      · rcases dn d hd with y | ⟨-, y⟩
        · have := b3 d y
          rw [a2]; exact Nat.le_trans this (Nat.le_max_left _ _)
        · rw [a2, y]; exact Nat.le_max_right _ _
    · rw [if_neg hr] at a2
      rw [a2]
      refine ⟨b2.elim Or.inl (fun z => Or.inr (up _ z)), fun d hd => ?_⟩
      rcases dn d hd with y | ⟨y, -⟩
      · exact b3 d y
      · exact absurd y hr
theorem hy_wc_b {e : gv_T} {s t : Nat} (W : wo_w e s t) {j : Nat} (h1 : s ≤ j) (h2 : j ≤ t + 1) : hy_wc e s t j < 11 := by
  unfold hy_wc
  split
  · omega
  · split
    · omega
    · have := (W.2.1 (j - 1) (by omega) (by omega)).2
      omega
section
variable {e : gv_T} {f_length f_known f_joins f_patterns f_first f_rest f_narrow f_gap f_stretch f_shrink f_tolerance f_cost f_height f_breaks f_lines f_paragraphs : Int32} {a_text a_allowed a_counts a_wide a_join a_kerns a_child a_digits a_uses a_ends a_begins a_hyphened a_before a_natural a_spaces a_way a_lineFrom a_lineTo a_linePart a_linePage a_lineWide a_lineBad a_lineHyphen : Nat → Int32} {a_least a_sums : Nat → Int64}
theorem xw_meet7 {post : SX → Prop} {s t o m q : Nat} (hs : s ≤ 48) (ht : t ≤ 48) (ho : o ≤ 49) (hm : m ≤ 3) (hq : q < 10000) :
    ∀ d n y C (c : Nat → Nat), d < n → y = o + d → d ≤ m + 1 → (∀ i, s ≤ i → i ≤ t → C i = nI (c i) ∧ c i ≤ 9) →
      (∀ C' (c' : Nat → Nat), (∀ i, s ≤ i → i ≤ t → C' i = nI (c' i) ∧ c' i = if o ≤ i + 1 ∧ i + 1 < y then max (c i) (q / 10 ^ (o + m - (i + 1)) % 10) else c i) → post (f_length, f_known, f_joins, f_patterns, f_first, f_rest, f_narrow, f_gap, f_stretch, f_shrink, f_tolerance, f_cost, f_height, f_breaks, f_lines, f_paragraphs, a_text, a_allowed, C', a_wide, a_join, a_kerns, a_child, a_digits, a_uses, a_ends, a_begins, a_hyphened, a_least, a_before, a_natural, a_spaces, a_way, a_lineFrom, a_lineTo, a_linePart, a_linePage, a_lineWide, a_lineBad, a_lineHyphen, a_sums)) →
      wX_meet_7 post (nI o - 1) (nI s) (nI t) f_length f_known f_joins f_patterns f_first f_rest f_narrow f_gap f_stretch f_shrink f_tolerance f_cost f_height f_breaks f_lines f_paragraphs n (nI (q / 10 ^ (o + m + 1 - y))) (nI y - 2) a_text a_allowed C a_wide a_join a_kerns a_child a_digits a_uses a_ends a_begins a_hyphened a_least a_before a_natural a_spaces a_way a_lineFrom a_lineTo a_linePart a_linePage a_lineWide a_lineBad a_lineHyphen a_sums := by
  intro d
  induction d with
  | zero =>
    intro n y C c hn hy hd hC h
    obtain ⟨n, rfl⟩ : ∃ n', n = n' + 1 := ⟨n - 1, by omega⟩
    refine br_t ?_ (h C c (fun i h1 h2 => ⟨(hC i h1 h2).1, ?_⟩))
    · rw [Int32.lt_iff_toInt_lt, s2_T (by omega), s1_T (by omega)]; omega
    · rw [if_neg (by omega)]
  | succ d ih =>
    intro n y C c hn hy hd hC h
    obtain ⟨n, rfl⟩ : ∃ n', n = n' + 1 := ⟨n - 1, by omega⟩
    obtain ⟨y, rfl⟩ : ∃ y', y = y' + 1 := ⟨y - 1, by omega⟩
    have hR : q / 10 ^ (o + m + 1 - (y + 1)) < 2 ^ 31 := Nat.lt_of_le_of_lt (Nat.div_le_self _ _) (by omega)
    have e10 : (10 : Int32) = nI 10 := rfl
    have erest : q / 10 ^ (o + m + 1 - (y + 1)) / 10 = q / 10 ^ (o + m + 1 - y) := by
      rw [Nat.div_div_eq_div_mul, ← Nat.pow_succ]
      exact congrArg (fun z => q / 10 ^ z) (by omega)
    have edg : q / 10 ^ (o + m + 1 - (y + 1)) % 10 < 10 := Nat.mod_lt _ (by omega)
    have skip : ∀ C2 (c2 : Nat → Nat), (∀ i, s ≤ i → i ≤ t → C2 i = nI (c2 i) ∧ c2 i ≤ 9) → (∀ i, s ≤ i → i ≤ t → (if i + 1 = y then max (c i) (q / 10 ^ (o + m + 1 - (y + 1)) % 10) else c i) = c2 i) → ∀ x7 : Int32, x7 = nI (y + 1) - 2 + (-1) → wX_meet_7 post (nI o - 1) (nI s) (nI t) f_length f_known f_joins f_patterns f_first f_rest f_narrow f_gap f_stretch f_shrink f_tolerance f_cost f_height f_breaks f_lines f_paragraphs n (nI (q / 10 ^ (o + m + 1 - y))) x7 a_text a_allowed C2 a_wide a_join a_kerns a_child a_digits a_uses a_ends a_begins a_hyphened a_least a_before a_natural a_spaces a_way a_lineFrom a_lineTo a_linePart a_linePage a_lineWide a_lineBad a_lineHyphen a_sums := by
      intro C2 c2 hC2 hcc
      refine nm_r (s2_dn y) (ih n y C2 c2 (by omega) (by omega) (by omega) hC2 (fun C' c' hC' => h C' c' (fun i h1 h2 => ?_)))
      obtain ⟨g1, g2⟩ := hC' i h1 h2
      refine ⟨g1, ?_⟩
      rw [g2, ← hcc i h1 h2]
      by_cases e1 : i + 1 = y
      · rw [if_neg (by omega), if_pos e1, if_pos (by omega)]
        rw [show o + m + 1 - (y + 1) = o + m - (i + 1) from by omega]
      · rw [if_neg e1]
        by_cases e2 : o ≤ i + 1 ∧ i + 1 < y
        · rw [if_pos e2, if_pos (by omega)]
        · rw [if_neg e2, if_neg (by omega)]
    refine br_f ?_ ⟨by decide, nm_r (e' := nI (q / 10 ^ (o + m + 1 - (y + 1)) % 10)) (by rw [e10, pk_rem hR (by omega) (by omega)]) ⟨by decide, nm_r (e' := nI (q / 10 ^ (o + m + 1 - y))) (by rw [e10, pk_div hR (by omega) (by omega), erest]) ?_⟩⟩
    · rw [Int32.lt_iff_toInt_lt, s2_T (by omega), s1_T (by omega)]; omega
    refine ek_if (show nI (y + 1) - 2 < nI s ↔ y + 1 < s + 2 from by rw [Int32.lt_iff_toInt_lt, s2_T (by omega), nI_toInt (by omega)]; omega) (fun g => skip C c hC (fun i h1 h2 => ?_)) (fun g => ?_)
    · rw [if_neg (by omega)]
    refine ek_if (show nI t < nI (y + 1) - 2 ↔ t + 2 < y + 1 from by rw [Int32.lt_iff_toInt_lt, s2_T (by omega), nI_toInt (by omega)]; omega) (fun g1 => skip C c hC (fun i h1 h2 => ?_)) (fun g1 => ?_)
    · rw [if_neg (by omega)]
    have epl : nI (y + 1) - 2 = nI (y - 1) := by
      rw [show (2 : Int32) = nI 2 from rfl, pk_sub (by omega)]
      exact congrArg nI (by omega)
    rw [epl] at skip ⊢
    have hv : vp_in (nI (y - 1)) 49 := vp_in_nI (by omega) (by decide)
    obtain ⟨c1, c2⟩ := hC (y - 1) (by omega) (by omega)
    refine ⟨hv, ?_⟩
    rw [nI_clamp (n := y - 1) (by omega), c1]
    refine pk_le (q / 10 ^ (o + m + 1 - (y + 1)) % 10) (c (y - 1)) (fun g2 => skip C c hC (fun i h1 h2 => ?_)) (fun g2 => ⟨hv, nm_r (e' := upd C (y - 1) (nI (q / 10 ^ (o + m + 1 - (y + 1)) % 10))) (by rw [iw_bb (by omega)]) (skip _ (dp_u c (y - 1) (q / 10 ^ (o + m + 1 - (y + 1)) % 10)) (fun i h1 h2 => ?_) (fun i h1 h2 => ?_))⟩)
    · by_cases e1 : i + 1 = y
      · rw [if_pos e1]
        have : i = y - 1 := by omega
        subst this
        exact Nat.max_eq_left g2
      · rw [if_neg e1]
    · by_cases e1 : i = y - 1
      · subst e1
        rw [pk_us, dp_us]; exact ⟨rfl, by omega⟩
      · rw [pk_un e1, dp_un _ _ e1]; exact hC i h1 h2
    · by_cases e1 : i + 1 = y
      · rw [if_pos e1]
        have : i = y - 1 := by omega
        subst this
        rw [dp_us]
        exact Nat.max_eq_right (by omega)
      · rw [if_neg e1, dp_un _ _ (by omega)]
theorem xw_h35 {post : SX → Prop} {J : _} {s t o : Nat} (F : ex_F e f_length a_text a_wide a_join a_kerns) (T : tr_if e a_child a_digits) (W : wo_w e s t) (ht : t ≤ gv_ln e) (ho : s ≤ o) (hot : o ≤ t)
    (h : ∀ C, hy_C e s t (o + 1) 0 C → J (nI (o + 1) - 1) f_length f_known f_joins f_patterns f_first f_rest f_narrow f_gap f_stretch f_shrink f_tolerance f_cost f_height f_breaks f_lines f_paragraphs a_text a_allowed C a_wide a_join a_kerns a_child a_digits a_uses a_ends a_begins a_hyphened a_least a_before a_natural a_spaces a_way a_lineFrom a_lineTo a_linePart a_linePage a_lineWide a_lineBad a_lineHyphen a_sums) :
    ∃ ch dg : Nat → Nat, ch 0 = ch 0 ∧ dg 0 = 0 ∧ ∀ d n m C, n + d = 3 → d ≤ m → o + n ≤ t + 1 → (∀ j, 1 ≤ j → j ≤ n → tr_v ch (fun j => min (hy_wc e s t (o + j)) 10) j ≠ 0) → tr_v ch (fun j => min (hy_wc e s t (o + j)) 10) n < 32 → hy_C e s t o n C → 0 < d → wX_hyphenate_35 post J (nI s) (nI t) (nI o - 1) m (nI (tr_v ch (fun j => min (hy_wc e s t (o + j)) 10) n)) (nI (o + n) - 1) f_length f_known f_joins f_patterns f_first f_rest f_narrow f_gap f_stretch f_shrink f_tolerance f_cost f_height f_breaks f_lines f_paragraphs a_text a_allowed C a_wide a_join a_kerns a_child a_digits a_uses a_ends a_begins a_hyphened a_least a_before a_natural a_spaces a_way a_lineFrom a_lineTo a_linePart a_linePage a_lineWide a_lineBad a_lineHyphen a_sums := by
  obtain ⟨ch, dg, T1, T2, T3, T4⟩ := T
  obtain ⟨F1, F2, F3, F4, F5, E⟩ := id F
  have h48 := E.1
  refine ⟨ch, dg, rfl, T3, ?_⟩
  intro d
  induction d with
  | zero => intro n m C _ _ _ _ _ _ h0; omega
  | succ d ih =>
    intro n m C hn hm hon hnz hv32 hC _
    obtain ⟨m, rfl⟩ : ∃ m', m = m' + 1 := ⟨m - 1, by omega⟩
    have hw := hy_wc_b W (j := o + n) (by omega) hon
    have hmin : min (hy_wc e s t (o + n)) 10 = hy_wc e s t (o + n) := by omega
    obtain ⟨U1, U2, U3⟩ := T4 (fun j => min (hy_wc e s t (o + j)) 10) n (fun j => by show min _ 10 < 11; omega) (by omega) hnz
    have hvn : tr_v ch (fun j => min (hy_wc e s t (o + j)) 10) (n + 1) = ch (11 * tr_v ch (fun j => min (hy_wc e s t (o + j)) 10) n + hy_wc e s t (o + n)) := by
      show ch (11 * tr_v ch (fun j => min (hy_wc e s t (o + j)) 10) n + min (hy_wc e s t (o + n)) 10) = _
      rw [hmin]
    have hmt : ∀ p, o + hy_nl e p ≤ t + 2 → hy_mt e p o s t → ∀ j, j < hy_nl e p → (fun j => min (hy_wc e s t (o + j)) 10) j = hy_lt e p j := by
      intro p hp hmm j hj
      rw [← hmm j hj]
      have := hy_wc_b W (j := o + j) (by omega) (by omega)
      show min _ 10 = _
      omega
    have hix : 11 * tr_v ch (fun j => min (hy_wc e s t (o + j)) 10) n + hy_wc e s t (o + n) < 352 := by omega
    obtain ⟨t1, t2⟩ := T1 _ hix
    rw [← hvn] at t1 t2
    obtain ⟨d1, d2⟩ := T2 _ t2
    have ex5 : nI (o + n) - 1 + 1 = nI (o + (n + 1)) - 1 := by
      rw [← Nat.add_assoc, ← nI_1 (o + n)]; grind
    have k101 : ∀ C2, hy_C e s t o (n + 1) C2 → wX_hyphenate_101 post J (wX_hyphenate_35 post J (nI s) (nI t) (nI o - 1) m) (nI s) (nI t) (nI o - 1) (nI (tr_v ch (fun j => min (hy_wc e s t (o + j)) 10) (n + 1))) (nI (o + (n + 1)) - 1) f_length f_known f_joins f_patterns f_first f_rest f_narrow f_gap f_stretch f_shrink f_tolerance f_cost f_height f_breaks f_lines f_paragraphs a_text a_allowed C2 a_wide a_join a_kerns a_child a_digits a_uses a_ends a_begins a_hyphened a_least a_before a_natural a_spaces a_way a_lineFrom a_lineTo a_linePart a_linePage a_lineWide a_lineBad a_lineHyphen a_sums := by
      intro C2 hC2
      have nxt : (∀ p, p < gv_np e → n + 1 < hy_nl e p → o + hy_nl e p ≤ t + 2 → hy_mt e p o s t → False) → ∀ x3 : Int32, x3 = nI o - 1 + 1 → J x3 f_length f_known f_joins f_patterns f_first f_rest f_narrow f_gap f_stretch f_shrink f_tolerance f_cost f_height f_breaks f_lines f_paragraphs a_text a_allowed C2 a_wide a_join a_kerns a_child a_digits a_uses a_ends a_begins a_hyphened a_least a_before a_natural a_spaces a_way a_lineFrom a_lineTo a_linePart a_linePage a_lineWide a_lineBad a_lineHyphen a_sums := by
        intro g
        refine nm_r (e' := nI (o + 1) - 1) (by rw [← nI_1]; grind) (h C2 (hy_C_next hC2 g))
      refine pk_le (tr_v ch (fun j => min (hy_wc e s t (o + j)) 10) (n + 1)) 0 (fun g => nxt (fun p p1 p2 p3 p4 => U3 (by omega) p p1 (by omega) (fun j hj => hmt p p3 p4 j (by omega)))) (fun g => ?_)
      refine ek_if (show nI t < nI (o + (n + 1)) - 1 ↔ t + 1 < o + (n + 1) from by rw [Int32.lt_iff_toInt_lt, s1_T (by omega), nI_toInt (by omega)]; omega) (fun g1 => nxt (fun p p1 p2 p3 p4 => by omega)) (fun g1 => ?_)
      refine ek_if (show nI (o + (n + 1)) - 1 < nI o - 1 + 3 ↔ n + 1 < 3 from ?_) (fun g2 => ?_) (fun g2 => nxt (fun p p1 p2 p3 p4 => by have := hy_nl_b e p; omega))
      · rw [show nI o - 1 + 3 = nI (o + 3) - 1 from by rw [← nI_add o 3]; show _ = nI o + 3 - 1; grind, Int32.lt_iff_toInt_lt, s1_T (by omega), s1_T (by omega)]
        omega
      · exact ih (n + 1) m C2 (by omega) (by omega) (by omega) (fun j j1 j2 => by
          by_cases ej : j = n + 1
          · rw [ej]; omega
          · exact hnz j j1 (by omega)) t2 hC2 (by omega)
    have k68 : ∀ z0 : Int32, z0 = nI (hy_wc e s t (o + n)) → wX_hyphenate_68 post J (wX_hyphenate_35 post J (nI s) (nI t) (nI o - 1) m) (nI s) (nI t) (nI o - 1) (nI (o + n) - 1) z0 (11 * nI (tr_v ch (fun j => min (hy_wc e s t (o + j)) 10) n)) f_length f_known f_joins f_patterns f_first f_rest f_narrow f_gap f_stretch f_shrink f_tolerance f_cost f_height f_breaks f_lines f_paragraphs a_text a_allowed C a_wide a_join a_kerns a_child a_digits a_uses a_ends a_begins a_hyphened a_least a_before a_natural a_spaces a_way a_lineFrom a_lineTo a_linePart a_linePage a_lineWide a_lineBad a_lineHyphen a_sums := by
      intro z0 hz0
      subst hz0
      have eix := iw_11 (tr_v ch (fun j => min (hy_wc e s t (o + j)) 10) n) (hy_wc e s t (o + n))
      have hv : vp_in (nI (tr_v ch (fun j => min (hy_wc e s t (o + j)) 10) (n + 1))) 32 := vp_in_nI t2 (by decide)
      refine ⟨by rw [eix]; exact vp_in_nI hix (by decide), nm_r (e' := nI (tr_v ch (fun j => min (hy_wc e s t (o + j)) 10) (n + 1))) (by rw [eix, nI_clamp (by omega)]; exact t1) (nm_r ex5 ⟨hv, ?_⟩)⟩
      rw [nI_clamp (n := tr_v ch (fun j => min (hy_wc e s t (o + j)) 10) (n + 1)) (by omega), d1]
      refine pk_le (dg (tr_v ch (fun j => min (hy_wc e s t (o + j)) 10) (n + 1))) 0 (fun g => k101 C (hy_C_none hC (fun p p1 p2 p3 => ?_))) (fun g => ⟨hv, ?_⟩)
      · exact (U2 p p1 p2 (fun j hj => hmt p (by omega) p3 j (by omega))).1 (by omega)
      · obtain ⟨p, p1, p2, p3, p4⟩ := U1 (by omega)
        obtain ⟨c, hc⟩ := hC
        have hmp : hy_mt e p o s t := by
          intro k hk
          rw [← p3 k (by omega)]
          have := hy_wc_b W (j := o + k) (by omega) (by omega)
          show _ = min _ 10
          omega
        refine ⟨n + 3, ?_⟩
        have := xw_meet7 (s := s) (t := t) (o := o) (m := n + 1) (q := dg (tr_v ch (fun j => min (hy_wc e s t (o + j)) 10) (n + 1))) (post := fun u => match u with | (f_length', f_known', f_joins', f_patterns', f_first', f_rest', f_narrow', f_gap', f_stretch', f_shrink', f_tolerance', f_cost', f_height', f_breaks', f_lines', f_paragraphs', a_text', a_allowed', a_counts', a_wide', a_join', a_kerns', a_child', a_digits', a_uses', a_ends', a_begins', a_hyphened', a_least', a_before', a_natural', a_spaces', a_way', a_lineFrom', a_lineTo', a_linePart', a_linePage', a_lineWide', a_lineBad', a_lineHyphen', a_sums') => wX_hyphenate_101 post J (wX_hyphenate_35 post J (nI s) (nI t) (nI o - 1) m) (nI s) (nI t) (nI o - 1) (nI (tr_v ch (fun j => min (hy_wc e s t (o + j)) 10) (n + 1))) (nI (o + (n + 1)) - 1) f_length' f_known' f_joins' f_patterns' f_first' f_rest' f_narrow' f_gap' f_stretch' f_shrink' f_tolerance' f_cost' f_height' f_breaks' f_lines' f_paragraphs' a_text' a_allowed' a_counts' a_wide' a_join' a_kerns' a_child' a_digits' a_uses' a_ends' a_begins' a_hyphened' a_least' a_before' a_natural' a_spaces' a_way' a_lineFrom' a_lineTo' a_linePart' a_linePage' a_lineWide' a_lineBad' a_lineHyphen' a_sums') (by have := W.1; omega) (by omega) (by omega) (by omega) d2 (n + 2) (n + 3) (o + (n + 2)) C c (by omega) rfl (by omega) (fun i h1 h2 => ⟨(hc i h1 h2).1, (hc i h1 h2).2.1⟩) (fun C' c' hC' => k101 C' (hy_C_hit (fun i h1 h2 => (hc i h1 h2).2) p1 p2 hmp p4 ho (by omega) (fun p' q1 q2 q3 => (U2 p' q1 q2 (fun j hj => hmt p' (by omega) q3 j (by omega))).2) (fun i h1 h2 => hC' i h1 h2)))
        rw [show o + (n + 1) + 1 - (o + (n + 2)) = 0 from by omega, Nat.pow_zero, Nat.div_one, show nI (o + (n + 2)) - 2 = nI (o + (n + 1)) - 1 from by rw [show o + (n + 2) = o + (n + 1) + 1 from by omega, ← nI_1]; grind] at this
        exact this
    by_cases e1 : o + n = s
    · refine br_t ?_ (k68 10 ?_)
      · rw [e1, Int32.lt_iff_toInt_lt, s1_T (by omega), nI_toInt (by omega)]; omega
      · unfold hy_wc; rw [if_pos e1]; rfl
    · refine br_f ?_ ?_
      · rw [Int32.lt_iff_toInt_lt, s1_T (by omega), nI_toInt (by omega)]; omega
      · by_cases e2 : o + n = t + 1
        · refine br_t ?_ (k68 10 ?_)
          · rw [e2, nI_pred]
          · unfold hy_wc; rw [if_neg e1, if_pos e2]; rfl
        · have e3 : nI (o + n) - 1 = nI (o + n - 1) := nI_m1 (by omega)
          refine br_f ?_ ⟨?_, k68 _ ?_⟩
          · rw [e3, nI_eq (by omega) (by omega)]; omega
          · rw [e3]; exact vp_in_nI (by omega) (by decide)
          · rw [e3, nI_clamp (by omega), F2]
            unfold hy_wc
            rw [if_neg e1, if_neg e2]
theorem xw_h24 {post : SX → Prop} {s t : Nat} (F : ex_F e f_length a_text a_wide a_join a_kerns) (T : tr_if e a_child a_digits) (W : wo_w e s t) (ht : t ≤ gv_ln e)
    (h : ∀ C, hy_C e s t (t + 1) 0 C → ∃ n128 : Nat, wX_hyphenate_128 post (nI s) (nI t) f_length f_known f_joins f_patterns f_first f_rest f_narrow f_gap f_stretch f_shrink f_tolerance f_cost f_height f_breaks f_lines f_paragraphs n128 (nI s) a_text a_allowed C a_wide a_join a_kerns a_child a_digits a_uses a_ends a_begins a_hyphened a_least a_before a_natural a_spaces a_way a_lineFrom a_lineTo a_linePart a_linePage a_lineWide a_lineBad a_lineHyphen a_sums) :
    ∀ d n o C, d < n → o + d = t + 1 → s ≤ o → hy_C e s t o 0 C → wX_hyphenate_24 post (nI s) (nI t) n (nI o - 1) f_length f_known f_joins f_patterns f_first f_rest f_narrow f_gap f_stretch f_shrink f_tolerance f_cost f_height f_breaks f_lines f_paragraphs a_text a_allowed C a_wide a_join a_kerns a_child a_digits a_uses a_ends a_begins a_hyphened a_least a_before a_natural a_spaces a_way a_lineFrom a_lineTo a_linePart a_linePage a_lineWide a_lineBad a_lineHyphen a_sums := by
  have h48 := F.2.2.2.2.2.1
  have hst := W.1
  intro d
  induction d with
  | zero =>
    intro n o C hn ho hso hC
    obtain ⟨n, rfl⟩ : ∃ n', n = n' + 1 := ⟨n - 1, by omega⟩
    have : o = t + 1 := by omega
    subst this
    refine br_t ?_ (h C hC)
    rw [nI_pred]; exact nI_le (Nat.le_refl _) (by omega)
  | succ d ih =>
    intro n o C hn ho hso hC
    obtain ⟨n, rfl⟩ : ∃ n', n = n' + 1 := ⟨n - 1, by omega⟩
    refine br_f ?_ ⟨3, ?_⟩
    · rw [Int32.le_iff_toInt_le, s1_T (by omega), nI_toInt (by omega)]; omega
    obtain ⟨ch, dg, -, -, H⟩ := xw_h35 (post := post) (J := wX_hyphenate_24 post (nI s) (nI t) n) F T W ht hso (by omega) (fun C2 hC2 => ih n (o + 1) C2 (by omega) (by omega) (by omega) hC2)
    exact H 3 0 3 C (by omega) (by omega) (by omega) (fun j j1 j2 => by omega) (show (0 : Nat) < 32 by omega) hC (by omega)
noncomputable def hy_wb (e : gv_T) (s t i : Nat) : Bool := @decide (hy_ok e s t i) (Classical.propDecidable _)
theorem hy_wb_t {s t i : Nat} : hy_wb e s t i = true ↔ hy_ok e s t i := by
  unfold hy_wb
  exact @decide_eq_true_iff _ (Classical.propDecidable _)
theorem hy_wb_w {s t q : Nat} (h : wo_w e s t) (h1 : s ≤ q) (h2 : q < t) : hy_wb e s t q = hy_b e q := by
  cases hx : hy_b e q with
  | true => exact hy_wb_t.mpr ((hy_at_w h h1 h2).mp (hy_b_t.mp hx))
  | false =>
    cases hy : hy_wb e s t q with
    | true => exact absurd ((hy_at_w h h1 h2).mpr (hy_wb_t.mp hy)) (hy_b_f.mp hx)
    | false => rfl
theorem hy_fin {s t i m : Nat} {C : Nat → Int32} (h1 : s + 2 ≤ i) (h2 : i + 2 ≤ t) (hm : hy_mx (hy_Q e s t (t + 1) 0 i) m) : hy_wb e s t i = decide (m % 2 = 1) := by
  have key : ∀ d, hy_Q e s t (t + 1) 0 i d ↔ hy_D e s t i d := by
    intro d
    constructor
    · rintro ⟨p, k, o', g1, g2, g3, g4, g5, g6, g7, g8⟩
      exact ⟨p, k, g1, g2, by rw [show i + 1 - k = o' from by omega]; exact g6, g8⟩
    · rintro ⟨p, k, g1, g2, g3, g4⟩
      have hb := hy_nl_b e p
      exact ⟨p, k, i + 1 - k, g1, g2, by omega, by omega, Or.inl (by omega), g3, by omega, g4⟩
  have hm' : hy_mx (hy_D e s t i) m := ⟨hm.1.elim Or.inl (fun y => Or.inr ((key m).mp y)), fun d y => hm.2 d ((key d).mpr y)⟩
  cases hx : hy_wb e s t i with
  | true =>
    obtain ⟨-, -, m', g1, g2⟩ := hy_wb_t.mp hx
    rw [hy_mx_u hm' g1]
    exact (decide_eq_true g2).symm
  | false =>
    refine (decide_eq_false (fun y => ?_)).symm
    have : hy_wb e s t i = true := hy_wb_t.mpr ⟨h1, h2, m, hm', y⟩
    rw [hx] at this
    cases this
theorem xw_h128 {post : SX → Prop} {s t : Nat} (h48 : t ≤ 48) (hst : s < t) (hC : hy_C e s t (t + 1) 0 a_counts)
    (h : ∀ A, (∀ i, s ≤ i → i ≤ t → A i = bl_i (hy_wb e s t i)) → post (f_length, f_known, f_joins, f_patterns, f_first, f_rest, f_narrow, f_gap, f_stretch, f_shrink, f_tolerance, f_cost, f_height, f_breaks, f_lines, f_paragraphs, a_text, A, a_counts, a_wide, a_join, a_kerns, a_child, a_digits, a_uses, a_ends, a_begins, a_hyphened, a_least, a_before, a_natural, a_spaces, a_way, a_lineFrom, a_lineTo, a_linePart, a_linePage, a_lineWide, a_lineBad, a_lineHyphen, a_sums)) :
    ∀ d n i A, d < n → i + d = t + 1 → s ≤ i → (∀ j, s ≤ j → j < i → A j = bl_i (hy_wb e s t j)) → wX_hyphenate_128 post (nI s) (nI t) f_length f_known f_joins f_patterns f_first f_rest f_narrow f_gap f_stretch f_shrink f_tolerance f_cost f_height f_breaks f_lines f_paragraphs n (nI i) a_text A a_counts a_wide a_join a_kerns a_child a_digits a_uses a_ends a_begins a_hyphened a_least a_before a_natural a_spaces a_way a_lineFrom a_lineTo a_linePart a_linePage a_lineWide a_lineBad a_lineHyphen a_sums := by
  obtain ⟨c, hc⟩ := hC
  intro d
  induction d with
  | zero =>
    intro n i A hn hi hsi hA
    obtain ⟨n, rfl⟩ : ∃ n', n = n' + 1 := ⟨n - 1, by omega⟩
    exact br_t (nI_lt (by omega) (by omega)) (h A (fun j j1 j2 => hA j j1 (by omega)))
  | succ d ih =>
    intro n i A hn hi hsi hA
    obtain ⟨n, rfl⟩ : ∃ n', n = n' + 1 := ⟨n - 1, by omega⟩
    have hv : vp_in (nI i) 49 := vp_in_nI (by omega) (by decide)
    have nx : ∀ b : Bool, b = hy_wb e s t i → vp_in (nI i) 49 ∧ ∀ x : Nat → Int32, x = upd A (nI i).toNatClampNeg (vp_nar .boolean (bl_i b)) → ∀ x3 : Int32, x3 = nI i + 1 → wX_hyphenate_128 post (nI s) (nI t) f_length f_known f_joins f_patterns f_first f_rest f_narrow f_gap f_stretch f_shrink f_tolerance f_cost f_height f_breaks f_lines f_paragraphs n x3 a_text x a_counts a_wide a_join a_kerns a_child a_digits a_uses a_ends a_begins a_hyphened a_least a_before a_natural a_spaces a_way a_lineFrom a_lineTo a_linePart a_linePage a_lineWide a_lineBad a_lineHyphen a_sums := by
      intro b hb
      refine ⟨hv, nm_r (e' := upd A i (bl_i b)) (by rw [nI_clamp (by omega), bl_nar]) (nm_r (nI_1 i) (ih n (i + 1) _ (by omega) (by omega) (by omega) (fun j j1 j2 => ?_)))⟩
      by_cases ej : j = i
      · rw [ej, pk_us, hb]
      · rw [pk_un ej]; exact hA j j1 (by omega)
    have hfalse : ¬ (s + 2 ≤ i ∧ i + 2 ≤ t) → false = hy_wb e s t i := by
      intro g
      cases hx : hy_wb e s t i with
      | false => rfl
      | true => have := hy_wb_t.mp hx; exact absurd ⟨this.1, this.2.1⟩ g
    refine br_f (nI_nlt (by omega) (by omega)) (pk_le i (s + 1) (fun g => nx false (hfalse (by omega))) (fun g => pk_le (t - 1) i (fun g1 => nx false (hfalse (by omega))) (fun g1 => ⟨hv, ?_⟩) (nI_m1 (by omega)) rfl) rfl (nI_1 s))
    obtain ⟨c1, c2, c3⟩ := hc i hsi (by omega)
    have hf := hy_fin (C := a_counts) (by omega) (by omega) c3
    rw [nI_clamp (n := i) (by omega), c1, iw_and1 (by omega)]
    have hm2 : c i % 2 < 2 := Nat.mod_lt _ (by omega)
    refine pk_eq (c i % 2) 1 (fun g2 => ?_) (fun g2 => ?_)
    · have := nx true (by rw [hf]; exact (decide_eq_true g2).symm)
      rw [nI_clamp (n := i) (by omega)] at this
      exact this
    · have := nx false (by rw [hf]; exact (decide_eq_false g2).symm)
      rw [nI_clamp (n := i) (by omega)] at this
      exact this
theorem xw_h2 {post : SX → Prop} {s t : Nat} (h48 : t ≤ 48) (hst : s < t) (h : ∀ C, (∀ i, s ≤ i → i ≤ t → C i = nI 0) → ∃ n24 : Nat, wX_hyphenate_24 post (nI s) (nI t) n24 (nI s - 1) f_length f_known f_joins f_patterns f_first f_rest f_narrow f_gap f_stretch f_shrink f_tolerance f_cost f_height f_breaks f_lines f_paragraphs a_text a_allowed C a_wide a_join a_kerns a_child a_digits a_uses a_ends a_begins a_hyphened a_least a_before a_natural a_spaces a_way a_lineFrom a_lineTo a_linePart a_linePage a_lineWide a_lineBad a_lineHyphen a_sums) :
    ∀ d n i C, d < n → i + d = t + 1 → s ≤ i → (∀ j, s ≤ j → j < i → C j = nI 0) → wX_hyphenate_2 post (nI s) (nI t) f_length f_known f_joins f_patterns f_first f_rest f_narrow f_gap f_stretch f_shrink f_tolerance f_cost f_height f_breaks f_lines f_paragraphs n (nI i) a_text a_allowed C a_wide a_join a_kerns a_child a_digits a_uses a_ends a_begins a_hyphened a_least a_before a_natural a_spaces a_way a_lineFrom a_lineTo a_linePart a_linePage a_lineWide a_lineBad a_lineHyphen a_sums := by
  intro d
  induction d with
  | zero =>
    intro n i C hn hi hsi hC
    obtain ⟨n, rfl⟩ : ∃ n', n = n' + 1 := ⟨n - 1, by omega⟩
    exact br_t (nI_lt (by omega) (by omega)) (nm_e (h C (fun j j1 j2 => hC j j1 (by omega))))
  | succ d ih =>
    intro n i C hn hi hsi hC
    obtain ⟨n, rfl⟩ : ∃ n', n = n' + 1 := ⟨n - 1, by omega⟩
    refine br_f (nI_nlt (by omega) (by omega)) ⟨vp_in_nI (by omega) (by decide), nm_r (e' := upd C i (nI 0)) (by rw [nI_clamp (by omega)]; rfl) (nm_r (nI_1 i) (ih n (i + 1) _ (by omega) (by omega) (by omega) (fun j j1 j2 => ?_)))⟩
    by_cases ej : j = i
    · rw [ej, pk_us]
    · rw [pk_un ej]; exact hC j j1 (by omega)
theorem xw_hyphenate {post : SX → Prop} {s t : Nat} (F : ex_F e f_length a_text a_wide a_join a_kerns) (T : tr_if e a_child a_digits) (W : wo_w e s t) (ht : t ≤ gv_ln e)
    (h : ∀ A C, (∀ i, s ≤ i → i < t → A i = bl_i (hy_b e i)) → post (f_length, f_known, f_joins, f_patterns, f_first, f_rest, f_narrow, f_gap, f_stretch, f_shrink, f_tolerance, f_cost, f_height, f_breaks, f_lines, f_paragraphs, a_text, A, C, a_wide, a_join, a_kerns, a_child, a_digits, a_uses, a_ends, a_begins, a_hyphened, a_least, a_before, a_natural, a_spaces, a_way, a_lineFrom, a_lineTo, a_linePart, a_linePage, a_lineWide, a_lineBad, a_lineHyphen, a_sums)) : wpX_hyphenate post (f_length, f_known, f_joins, f_patterns, f_first, f_rest, f_narrow, f_gap, f_stretch, f_shrink, f_tolerance, f_cost, f_height, f_breaks, f_lines, f_paragraphs, a_text, a_allowed, a_counts, a_wide, a_join, a_kerns, a_child, a_digits, a_uses, a_ends, a_begins, a_hyphened, a_least, a_before, a_natural, a_spaces, a_way, a_lineFrom, a_lineTo, a_linePart, a_linePage, a_lineWide, a_lineBad, a_lineHyphen, a_sums) (nI s) (nI t) := by
  have h48 := F.2.2.2.2.2.1
  have hst := W.1
  refine ⟨t + 2, xw_h2 (by omega) hst (fun C hC => ⟨t + 2, ?_⟩) (t + 1 - s) _ s a_counts (by omega) (by omega) (Nat.le_refl _) (fun j j1 j2 => by omega)⟩
  refine xw_h24 F T W ht (fun C2 hC2 => ⟨t + 2, ?_⟩) (t + 1 - s) _ s C (by omega) (by omega) (Nat.le_refl _) ⟨fun _ => 0, fun i h1 h2 => ⟨hC i h1 h2, Nat.zero_le _, Or.inl rfl, fun d hd => ?_⟩⟩
  · refine xw_h128 (a_counts := C2) (by omega) hst hC2 (fun A hA => h A C2 (fun i h1 h2 => ?_)) (t + 1 - s) _ s a_allowed (by omega) (by omega) (Nat.le_refl _) (fun j j1 j2 => by omega)
    rw [hA i h1 (by omega), hy_wb_w W h1 h2]
  · obtain ⟨p, k, o', g1, g2, g3, g4, g5, -⟩ := hd
    have := hy_nl_b e p
    omega
end
end
section
/-! the component: listing the breaks of a paragraph -/
/-- breaks up to place i are listed; begins are known below b -/
def xb_I (e : gv_T) (a i b : Nat) (fb : Int32) (en bg hy : Nat → Int32) : Prop :=
  fb = nI (bk_n e a (i - a)) ∧ (∀ k, 1 ≤ k → k ≤ bk_n e a (i - a) → en k = nI (bk_e e a (i - a) k)) ∧ (∀ k, k < b → bg k = nI (wo_fl e 48 (bk_e e a (i - a) k))) ∧ hy 0 = bl_i false ∧ (∀ k, 1 ≤ k → k ≤ bk_n e a (i - a) → hy k = bl_i (hy_b e (bk_e e a (i - a) k)))
theorem bk_none {e : gv_T} {a i : Nat} (ha : a ≤ i) (h : ¬ bk_is e (i + 1)) : bk_n e a (i + 1 - a) = bk_n e a (i - a) ∧ bk_e e a (i + 1 - a) = bk_e e a (i - a) := by
  have e1 : i + 1 - a = (i - a) + 1 := by omega
  have e2 : a + (i - a) + 1 = i + 1 := by omega
  rw [e1]
  exact ⟨bk_n_f (by rw [e2]; exact h), bk_e_f (by rw [e2]; exact h)⟩
theorem bk_some {e : gv_T} {a i : Nat} (ha : a ≤ i) (h : bk_is e (i + 1)) : bk_n e a (i + 1 - a) = bk_n e a (i - a) + 1 ∧ bk_e e a (i + 1 - a) = dp_u (bk_e e a (i - a)) (bk_n e a (i - a) + 1) (i + 1) := by
  have e1 : i + 1 - a = (i - a) + 1 := by omega
  have e2 : a + (i - a) + 1 = i + 1 := by omega
  rw [e1]
  refine ⟨bk_n_t (by rw [e2]; exact h), ?_⟩
  rw [bk_e_t (by rw [e2]; exact h), e2]
theorem bk_nl {e : gv_T} {i : Nat} (h : ¬ gv_isL e i) : ¬ bk_is e (i + 1) := by
  intro g
  obtain ⟨j, h1, h2⟩ := bk_is_l g
  rw [show i = j from by omega] at h
  exact h h2
theorem bk_ll {e : gv_T} {i : Nat} (h2 : gv_isL e (i + 1)) : bk_is e (i + 1) ↔ hy_at e (i + 1) := by
  constructor
  · rintro (⟨j, -, -, g⟩ | g)
    · exact absurd h2 g
    · exact g
  · exact Or.inr
theorem xb_none {e : gv_T} {a i b : Nat} {fb : Int32} {en bg hy : Nat → Int32} (ha : a ≤ i) (h : ¬ bk_is e (i + 1)) (H : xb_I e a i b fb en bg hy) : xb_I e a (i + 1) b fb en bg hy := by
  obtain ⟨e1, e2⟩ := bk_none ha h
  unfold xb_I
  rw [e1, e2]
  exact H
theorem xb_some {e : gv_T} {a i b : Nat} {fb x : Int32} {en bg hy : Nat → Int32} (ha : a ≤ i) (h : bk_is e (i + 1)) (H : xb_I e a i (bk_n e a (i - a) + 1) fb en bg hy) (hb : b = bk_n e a (i - a) + 1 ∨ (b = bk_n e a (i - a) + 2 ∧ gv_isL e (i + 1))) (hx : x = bl_i (hy_b e (i + 1))) : xb_I e a (i + 1) b (nI (bk_n e a (i - a) + 1)) (upd en (bk_n e a (i - a) + 1) (nI (i + 1))) (upd bg (bk_n e a (i - a) + 1) (nI (i + 1))) (upd hy (bk_n e a (i - a) + 1) x) := by
  obtain ⟨e1, e2⟩ := bk_some ha h
  obtain ⟨h1, h2, h3, h4, h5⟩ := H
  unfold xb_I
  rw [e1, e2]
  refine ⟨rfl, fun k k1 k2 => ?_, fun k k1 => ?_, by rw [pk_un (by omega)]; exact h4, fun k k1 k2 => ?_⟩
  · by_cases ek : k = bk_n e a (i - a) + 1
    · rw [ek, pk_us, dp_us]
    · rw [pk_un ek, dp_un _ _ ek]; exact h2 k k1 (by omega)
  · by_cases ek : k = bk_n e a (i - a) + 1
    · rw [ek, pk_us, dp_us]
      rcases hb with hb | ⟨-, hb⟩
      · omega
      · exact congrArg nI (wo_fl_eq (Nat.le_refl _) (by omega) (fun j j1 j2 => by omega) hb).symm
    · rw [pk_un ek, dp_un _ _ ek]; exact h3 k (by omega)
  · by_cases ek : k = bk_n e a (i - a) + 1
    · rw [ek, pk_us, dp_us, hx]
    · rw [pk_un ek, dp_un _ _ ek]; exact h5 k k1 (by omega)
theorem xb_B {e : gv_T} {a z : Nat} {fb : Int32} {en bg hy : Nat → Int32} (H : xb_I e a z (bk_n e a (z - a)) fb en bg hy) : ex_B e a z fb en bg hy := by
  obtain ⟨h1, h2, h3, h4, h5⟩ := H
  refine ⟨h1, h2, h3, fun k hk => ?_⟩
  unfold pr_hy
  by_cases ek : k = 0
  · rw [if_pos ek, ek]; exact h4
  · rw [if_neg ek]; exact h5 k (by omega) hk
section
variable {e : gv_T} {f_length f_known f_joins f_patterns f_first f_rest f_narrow f_gap f_stretch f_shrink f_tolerance f_cost f_height f_breaks f_lines f_paragraphs : Int32} {a_text a_allowed a_counts a_wide a_join a_kerns a_child a_digits a_uses a_ends a_begins a_hyphened a_before a_natural a_spaces a_way a_lineFrom a_lineTo a_linePart a_linePage a_lineWide a_lineBad a_lineHyphen : Nat → Int32} {a_least a_sums : Nat → Int64}
theorem xw_addBreak {post : SX → Prop} {c p : Nat} {x : Int32} (hc : f_breaks = nI c) (hc2 : c < 48) (hp : p < 128) (hx : vp_nar .boolean x = x) (h : post (f_length, f_known, f_joins, f_patterns, f_first, f_rest, f_narrow, f_gap, f_stretch, f_shrink, f_tolerance, f_cost, f_height, nI (c + 1), f_lines, f_paragraphs, a_text, a_allowed, a_counts, a_wide, a_join, a_kerns, a_child, a_digits, a_uses, upd a_ends (c + 1) (nI p), upd a_begins (c + 1) (nI p), upd a_hyphened (c + 1) x, a_least, a_before, a_natural, a_spaces, a_way, a_lineFrom, a_lineTo, a_linePart, a_linePage, a_lineWide, a_lineBad, a_lineHyphen, a_sums)) : wpX_addBreak post (f_length, f_known, f_joins, f_patterns, f_first, f_rest, f_narrow, f_gap, f_stretch, f_shrink, f_tolerance, f_cost, f_height, f_breaks, f_lines, f_paragraphs, a_text, a_allowed, a_counts, a_wide, a_join, a_kerns, a_child, a_digits, a_uses, a_ends, a_begins, a_hyphened, a_least, a_before, a_natural, a_spaces, a_way, a_lineFrom, a_lineTo, a_linePart, a_linePage, a_lineWide, a_lineBad, a_lineHyphen, a_sums) (nI p) x := by
  have e1 : f_breaks + 1 = nI (c + 1) := by rw [hc, nI_1]
  have hv : vp_in (nI (c + 1)) 49 := vp_in_nI (by omega) (by decide)
  refine nm_r e1 ⟨by rw [e1]; exact hv, nm_r (e' := upd a_ends (c + 1) (nI p)) (by rw [e1, nI_clamp (by omega), iw_bb hp]) ⟨hv, nm_r (e' := upd a_begins (c + 1) (nI p)) (by rw [nI_clamp (by omega), iw_bb hp]) ⟨hv, nm_r (e' := upd a_hyphened (c + 1) x) (by rw [nI_clamp (by omega), hx]) h⟩⟩⟩
theorem xw_f80 {post : SX → Prop} {J : _} {a i t : Nat} {x2 : Int32} (h48 : t ≤ 48) (ha : a ≤ i) (W : wo_w e i t) (hA : ∀ q, i ≤ q → q < t → a_allowed q = bl_i (hy_b e q))
    (h : ∀ fb en bg hy, xb_I e a t (bk_n e a (t - a)) fb en bg hy → (∀ j, bk_e e a (t - a) (bk_n e a (t - a)) ≤ j → j < t → ¬ gv_isL e j) → J (nI t) f_length f_known f_joins f_patterns f_first f_rest f_narrow f_gap f_stretch f_shrink f_tolerance f_cost f_height fb f_lines f_paragraphs a_text a_allowed a_counts a_wide a_join a_kerns a_child a_digits a_uses en bg hy a_least a_before a_natural a_spaces a_way a_lineFrom a_lineTo a_linePart a_linePage a_lineWide a_lineBad a_lineHyphen a_sums) :
    ∀ d n p fb en bg hy, d < n → p + 1 + d = t → i ≤ p → xb_I e a p (bk_n e a (p - a) + 1) fb en bg hy → wX_findBreaks_80 post J x2 (nI t) n (nI (p + 1)) f_length f_known f_joins f_patterns f_first f_rest f_narrow f_gap f_stretch f_shrink f_tolerance f_cost f_height fb f_lines f_paragraphs a_text a_allowed a_counts a_wide a_join a_kerns a_child a_digits a_uses en bg hy a_least a_before a_natural a_spaces a_way a_lineFrom a_lineTo a_linePart a_linePage a_lineWide a_lineBad a_lineHyphen a_sums := by
  intro d
  induction d with
  | zero =>
    intro n p fb en bg hy hn hp hip H
    obtain ⟨n, rfl⟩ : ∃ n', n = n' + 1 := ⟨n - 1, by omega⟩
    have : t = p + 1 := by omega
    subst this
    have hcn := bk_n_le e a (p - a)
    have hbk : bk_is e (p + 1) := Or.inl ⟨p, rfl, W.2.1 p (by omega) (by omega), W.2.2.2⟩
    have hnh : hy_b e (p + 1) = false := hy_b_f.mpr (fun y => W.2.2.2 (hy_at_l y).1)
    refine br_t (nI_le (Nat.le_refl _) (by omega)) (xw_addBreak (c := bk_n e a (p - a)) H.1 (by omega) (by omega) rfl ?_)
    have H2 := xb_some (b := bk_n e a (p - a) + 1) (x := 0) (by omega) hbk H (Or.inl rfl) (by rw [hnh]; rfl)
    obtain ⟨e1, e2⟩ := bk_some (a := a) (i := p) (by omega) hbk
    refine h _ _ _ _ (by rw [e1]; exact H2) (fun j j1 j2 => ?_)
    rw [e1, e2, dp_us] at j1
    omega
  | succ d ih =>
    intro n p fb en bg hy hn hp hip H
    obtain ⟨n, rfl⟩ : ∃ n', n = n' + 1 := ⟨n - 1, by omega⟩
    have hcn := bk_n_le e a (p - a)
    have hL := W.2.1 (p + 1) (by omega) (by omega)
    refine br_f (nI_ge (by omega) (by omega)) ⟨vp_in_nI (by omega) (by decide), ?_⟩
    rw [nI_clamp (n := p + 1) (by omega)]
    refine bl_br (hA (p + 1) (by omega) (by omega)) (fun g => nm_r (nI_1 _) (ih n (p + 1) fb en bg hy (by omega) (by omega) (by omega) ?_)) (fun g => ?_)
    · have hnb : ¬ bk_is e (p + 1) := fun y => hy_b_f.mp g ((bk_ll hL).mp y)
      rw [(bk_none (a := a) (i := p) (by omega) hnb).1]
      exact xb_none (by omega) hnb H
    · have hbk : bk_is e (p + 1) := (bk_ll hL).mpr (hy_b_t.mp g)
      refine xw_addBreak (c := bk_n e a (p - a)) H.1 (by omega) (by omega) rfl (nm_r (nI_1 _) (ih n (p + 1) _ _ _ _ (by omega) (by omega) (by omega) ?_))
      rw [(bk_some (a := a) (i := p) (by omega) hbk).1]
      exact xb_some (by omega) hbk H (Or.inr ⟨rfl, hL⟩) (by rw [g]; rfl)
theorem xw_f36 {post : SX → Prop} {J : _} {z i : Nat} (F : ex_F e f_length a_text a_wide a_join a_kerns) (hz : z ≤ gv_ln e) (hiz : i < z) (h : ∀ t, i < t → t ≤ z → (∀ j, i ≤ j → j < t → gv_isL e j) → (t = z ∨ ¬ gv_isL e t) → wX_findBreaks_57 post J (nI z) (nI i) (nI t) f_length f_known f_joins f_patterns f_first f_rest f_narrow f_gap f_stretch f_shrink f_tolerance f_cost f_height f_breaks f_lines f_paragraphs a_text a_allowed a_counts a_wide a_join a_kerns a_child a_digits a_uses a_ends a_begins a_hyphened a_least a_before a_natural a_spaces a_way a_lineFrom a_lineTo a_linePart a_linePage a_lineWide a_lineBad a_lineHyphen a_sums) :
    ∀ d n t, d < n → t + d = z → i ≤ t → gv_isL e i → (∀ j, i ≤ j → j < t → gv_isL e j) → wX_findBreaks_36 post J (nI z) (nI i) f_length f_known f_joins f_patterns f_first f_rest f_narrow f_gap f_stretch f_shrink f_tolerance f_cost f_height f_breaks f_lines f_paragraphs a_text a_allowed a_counts a_wide a_join a_kerns a_child a_digits a_uses a_ends a_begins a_hyphened a_least a_before a_natural a_spaces a_way a_lineFrom a_lineTo a_linePart a_linePage a_lineWide a_lineBad a_lineHyphen a_sums n (nI t) := by
  have h48 := F.2.2.2.2.2.1
  intro d
  induction d with
  | zero =>
    intro n t hn ht hit hLi hL
    obtain ⟨n, rfl⟩ : ∃ n', n = n' + 1 := ⟨n - 1, by omega⟩
    have : t = z := by omega
    subst this
    exact br_t (nI_le (Nat.le_refl _) (by omega)) (h t hiz (Nat.le_refl _) hL (Or.inl rfl))
  | succ d ih =>
    intro n t hn ht hit hLi hL
    obtain ⟨n, rfl⟩ : ∃ n', n = n' + 1 := ⟨n - 1, by omega⟩
    refine br_f (nI_ge (by omega) (by omega)) (xw_lt F (by omega) (fun y => br_f (by decide) (nm_r (nI_1 t) (ih n (t + 1) (by omega) (by omega) (by omega) hLi (fun j j1 j2 => ?_)))) (fun y => br_t rfl (h t ?_ (by omega) hL (Or.inr y))))
    · by_cases ej : j = t
      · rw [ej]; exact y
      · exact hL j j1 (by omega)
    · rcases Nat.lt_or_ge i t with y' | y'
      · exact y'
      · exact absurd hLi (by rw [show i = t from by omega]; exact y)
theorem xw_f14 {post : SX → Prop} {a z : Nat} (F : ex_F e f_length a_text a_wide a_join a_kerns) (T : tr_if e a_child a_digits) (Z : pd_ok e a z)
    (h : ∀ fb en bg hy al co, ex_B e a z fb en bg hy → post (f_length, f_known, f_joins, f_patterns, f_first, f_rest, f_narrow, f_gap, f_stretch, f_shrink, f_tolerance, f_cost, f_height, fb, f_lines, f_paragraphs, a_text, al, co, a_wide, a_join, a_kerns, a_child, a_digits, a_uses, en, bg, hy, a_least, a_before, a_natural, a_spaces, a_way, a_lineFrom, a_lineTo, a_linePart, a_linePage, a_lineWide, a_lineBad, a_lineHyphen, a_sums)) :
    ∀ d n i fb en bg hy al co, d < n → z ≤ i + d → a ≤ i → i ≤ z → (∀ j, i = j + 1 → gv_isL e i → ¬ gv_isL e j) → (∀ j, bk_e e a (i - a) (bk_n e a (i - a)) ≤ j → j < i → ¬ gv_isL e j) → xb_I e a i (bk_n e a (i - a)) fb en bg hy → wX_findBreaks_14 post (nI z) n (nI i) f_length f_known f_joins f_patterns f_first f_rest f_narrow f_gap f_stretch f_shrink f_tolerance f_cost f_height fb f_lines f_paragraphs a_text al co a_wide a_join a_kerns a_child a_digits a_uses en bg hy a_least a_before a_natural a_spaces a_way a_lineFrom a_lineTo a_linePart a_linePage a_lineWide a_lineBad a_lineHyphen a_sums := by
  have E := F.2.2.2.2.2
  have h48 := E.1
  have hzl := Z.2.1
  intro d
  induction d with
  | zero =>
    intro n i fb en bg hy al co hn hi hai hiz hw hnl H
    obtain ⟨n, rfl⟩ : ∃ n', n = n' + 1 := ⟨n - 1, by omega⟩
    have : i = z := by omega
    subst this
    exact br_t (nI_le (Nat.le_refl _) (by omega)) (h fb en bg hy al co (xb_B H))
  | succ d ih =>
    intro n i fb en bg hy al co hn hi hai hiz hw hnl H
    obtain ⟨n, rfl⟩ : ∃ n', n = n' + 1 := ⟨n - 1, by omega⟩
    rcases Nat.lt_or_ge i z with hlt | hge
    · refine br_f (nI_ge hlt (by omega)) (xw_lt F (by omega) (fun y => br_f (by decide) ⟨z + 1, ?_⟩) (fun y => br_t rfl (nm_r (nI_1 i) (ih n (i + 1) fb en bg hy al co (by omega) (by omega) (by omega) (by omega) (fun j hj _ => ?_) (fun j j1 j2 => ?_) ?_))))
      · refine xw_f36 (f_breaks := fb) (a_ends := en) (a_begins := bg) (a_hyphened := hy) (a_allowed := al) (a_counts := co) F hzl hlt (fun t t1 t2 t3 t4 => ?_) (z - i) _ i (by omega) (by omega) (Nat.le_refl _) y (fun j j1 j2 => by omega)
        have ht : ¬ gv_isL e t := by
          rcases t4 with rfl | t4
          · exact Z.2.2.2.1
          · exact t4
        have W : wo_w e i t := ⟨t1, t3, fun j hj => hw j hj y, ht⟩
        have hcn := bk_n_le e a (i - a)
        unfold wX_findBreaks_57
        refine xw_hyphenate (a_allowed := al) (a_counts := co) F T W (by omega) (fun A C hA => ?_)
        have hcl : fb.toNatClampNeg = bk_n e a (i - a) := by rw [H.1]; exact nI_clamp (by omega)
        refine ⟨by rw [H.1]; exact vp_in_nI (by omega) (by decide), nm_r (e' := upd bg (bk_n e a (i - a)) (nI i)) (by rw [hcl, iw_bb (by omega)]) (nm_r (nI_1 i) ⟨t + 1, ?_⟩)⟩
        refine xw_f80 (a_allowed := A) (a_counts := C) (a := a) (by omega) hai W hA (fun fb2 en2 bg2 hy2 H2 hn2 => ih n t fb2 en2 bg2 hy2 A C (by omega) (by omega) (by omega) (by omega) (fun j _ yy => absurd yy ht) hn2 H2) (t - (i + 1)) _ i fb en _ hy (by omega) (by omega) (Nat.le_refl _) ?_
        obtain ⟨H1, H2, H3, H4, H5⟩ := H
        refine ⟨H1, H2, fun k hk => ?_, H4, H5⟩
        by_cases ek : k = bk_n e a (i - a)
        · rw [ek, pk_us]
          have hb := (bk_fa e a (i - a)).1 (bk_n e a (i - a)) (Nat.le_refl _)
          exact congrArg nI (wo_fl_eq (by omega) (by omega) hnl y).symm
        · rw [pk_un ek]; exact H3 k (by omega)
      · rw [show j = i from by omega]; exact y
      · obtain ⟨e1, e2⟩ := bk_none (a := a) hai (bk_nl y)
        rw [e1, e2] at j1
        by_cases ej : j = i
        · rw [ej]; exact y
        · exact hnl j j1 (by omega)
      · obtain ⟨e1, e2⟩ := bk_none (a := a) hai (bk_nl y)
        rw [e1]
        exact xb_none hai (bk_nl y) H
    · have : i = z := by omega
      subst this
      exact br_t (nI_le (Nat.le_refl _) (by omega)) (h fb en bg hy al co (xb_B H))
theorem xw_findBreaks {post : SX → Prop} {a z : Nat} (F : ex_F e f_length a_text a_wide a_join a_kerns) (T : tr_if e a_child a_digits) (Z : pd_ok e a z)
    (h : ∀ fb en bg hy al co, ex_B e a z fb en bg hy → post (f_length, f_known, f_joins, f_patterns, f_first, f_rest, f_narrow, f_gap, f_stretch, f_shrink, f_tolerance, f_cost, f_height, fb, f_lines, f_paragraphs, a_text, al, co, a_wide, a_join, a_kerns, a_child, a_digits, a_uses, en, bg, hy, a_least, a_before, a_natural, a_spaces, a_way, a_lineFrom, a_lineTo, a_linePart, a_linePage, a_lineWide, a_lineBad, a_lineHyphen, a_sums)) : wpX_findBreaks post (f_length, f_known, f_joins, f_patterns, f_first, f_rest, f_narrow, f_gap, f_stretch, f_shrink, f_tolerance, f_cost, f_height, f_breaks, f_lines, f_paragraphs, a_text, a_allowed, a_counts, a_wide, a_join, a_kerns, a_child, a_digits, a_uses, a_ends, a_begins, a_hyphened, a_least, a_before, a_natural, a_spaces, a_way, a_lineFrom, a_lineTo, a_linePart, a_linePage, a_lineWide, a_lineBad, a_lineHyphen, a_sums) (nI a) (nI z) := by
  refine nm_r (e' := upd a_hyphened 0 (bl_i false)) rfl ⟨z + 1, ?_⟩
  have e0 : bk_n e a (a - a) = 0 := by rw [Nat.sub_self]; rfl
  refine xw_f14 F T Z h z _ a 0 a_ends a_begins _ a_allowed a_counts (by omega) (by omega) (Nat.le_refl _) Z.1 (fun j hj _ => Z.2.2.2.2 j hj) (fun j j1 j2 => ?_) ⟨by rw [e0]; rfl, fun k k1 k2 => by rw [e0] at k2; omega, fun k k1 => by rw [e0] at k1; omega, pk_us, fun k k1 k2 => by rw [e0] at k2; omega⟩
  rw [e0, bk_e0] at j1
  omega
end
end
section
/-! the component: pages, and everything anew -/
/-- facts on lines that follow from their order -/
theorem li_ends {e : gv_T} {n np pos : Nat} {g : Nat → li_T} (H : li_cl e n g np pos) {k : Nat} (hk : k + 1 < n) : li_l (g k) = decide (li_p (g k) ≠ li_p (g (k + 1))) ∧ (li_p (g k) = li_p (g (k + 1)) → 0 < li_n (g (k + 1))) ∧ (li_p (g k) ≠ li_p (g (k + 1)) → li_n (g (k + 1)) = 0) := by
  rcases (H.2.1 k hk).2 with ⟨h1, h2, h3⟩ | ⟨h1, h2, h3⟩
  · rw [h3]
    exact ⟨(decide_eq_false (fun z => z h1)).symm, fun _ => by omega, fun z => absurd h1 z⟩
  · rw [h3]
    exact ⟨(decide_eq_true (by omega)).symm, fun z => by omega, fun _ => h2⟩
theorem pg_h {n : Nat} {g : Nat → li_T} {h s : Nat} (hs : s < n) (hh : 1 ≤ h) (h0 : pg_t n g s (min h (n - s)) = 0) : min h (n - s) = h := by
  rcases Nat.lt_or_ge (n - s) h with y | y
  · exfalso
    rw [Nat.min_eq_right (by omega)] at h0
    obtain ⟨t, ht⟩ : ∃ t, n - s = t + 1 := ⟨n - s - 1, by omega⟩
    rw [ht] at h0
    have : pg_no n g (s + t) = false := by
      unfold pg_no
      rw [decide_eq_false (by omega)]
      rfl
    have e1 : pg_t n g s (t + 1) = if pg_no n g (s + t) = true then pg_t n g s t else t + 1 := rfl
    rw [e1, this] at h0
    simp at h0
  · omega
section
variable {e : gv_T} {f_length f_known f_joins f_patterns f_first f_rest f_narrow f_gap f_stretch f_shrink f_tolerance f_cost f_height f_breaks f_lines f_paragraphs : Int32} {a_text a_allowed a_counts a_wide a_join a_kerns a_child a_digits a_uses a_ends a_begins a_hyphened a_before a_natural a_spaces a_way a_lineFrom a_lineTo a_linePart a_linePage a_lineWide a_lineBad a_lineHyphen : Nat → Int32} {a_least a_sums : Nat → Int64}
theorem xw_ends {post : Int32 → Prop} {n np pos : Nat} {g : Nat → li_T} (H : li_cl e n g np pos) (hn : n ≤ 48) (hnp : np ≤ 24) (L : ex_L (n, g) f_lines a_lineFrom a_lineTo a_linePart a_lineWide a_lineBad a_lineHyphen) {k : Nat} (hk : k < n) (h : post (bl_i (li_l (g k)))) : wpX_endsHere post (f_length, f_known, f_joins, f_patterns, f_first, f_rest, f_narrow, f_gap, f_stretch, f_shrink, f_tolerance, f_cost, f_height, f_breaks, f_lines, f_paragraphs, a_text, a_allowed, a_counts, a_wide, a_join, a_kerns, a_child, a_digits, a_uses, a_ends, a_begins, a_hyphened, a_least, a_before, a_natural, a_spaces, a_way, a_lineFrom, a_lineTo, a_linePart, a_linePage, a_lineWide, a_lineBad, a_lineHyphen, a_sums) (nI k) := by
  obtain ⟨L1, L2⟩ := L
  have L1' : f_lines = nI n := L1
  have e1 : f_lines - 1 = nI (n - 1) := by rw [L1', nI_m1 (by omega)]
  refine pk_eq k (n - 1) (fun y => ?_) (fun y => ⟨vp_in_nI (by omega) (by decide), ?_⟩) rfl e1
  · rw [y, (H.2.2.1 (by omega)).2] at h; exact h
  · have hp1 : a_linePart k = nI (li_p (g k)) := (L2 k hk).2.2.1
    have hp2 : a_linePart (k + 1) = nI (li_p (g (k + 1))) := (L2 (k + 1) (show k + 1 < n by omega)).2.2.1
    have b1 := (H.1 k hk).2.1
    have b2 := (H.1 (k + 1) (by omega)).2.1
    rw [nI_1, nI_clamp (n := k) (by omega), nI_clamp (n := k + 1) (by omega), hp1, hp2]
    rw [(li_ends H (k := k) (by omega)).1] at h
    refine ⟨vp_in_nI (by omega) (by decide), pk_eq (li_p (g k)) (li_p (g (k + 1))) (fun y1 => ?_) (fun y1 => ?_)⟩
    · rw [decide_eq_false (fun z => z y1)] at h; exact h
    · rw [decide_eq_true y1] at h; exact h
theorem xw_mayEnd {post : Int32 → Prop} {n np pos : Nat} {g : Nat → li_T} (H : li_cl e n g np pos) (hn : n ≤ 48) (hnp : np ≤ 24) (L : ex_L (n, g) f_lines a_lineFrom a_lineTo a_linePart a_lineWide a_lineBad a_lineHyphen) {k : Nat} (hk : k < n) (h : post (bl_i (!pg_no n g k))) : wpX_mayEnd post (f_length, f_known, f_joins, f_patterns, f_first, f_rest, f_narrow, f_gap, f_stretch, f_shrink, f_tolerance, f_cost, f_height, f_breaks, f_lines, f_paragraphs, a_text, a_allowed, a_counts, a_wide, a_join, a_kerns, a_child, a_digits, a_uses, a_ends, a_begins, a_hyphened, a_least, a_before, a_natural, a_spaces, a_way, a_lineFrom, a_lineTo, a_linePart, a_linePage, a_lineWide, a_lineBad, a_lineHyphen, a_sums) (nI k) := by
  obtain ⟨L1, L2⟩ := id L
  have L1' : f_lines = nI n := L1
  have e1 : f_lines - 1 = nI (n - 1) := by rw [L1', nI_m1 (by omega)]
  refine pk_eq k (n - 1) (fun y => ?_) (fun y => ?_) rfl e1
  · have : pg_no n g k = false := by unfold pg_no; rw [decide_eq_false (by omega)]; rfl
    rw [this] at h; exact h
  · refine xw_ends H hn hnp L hk ⟨vp_in_nI (by omega) (by decide), ?_⟩
    have hp1 : a_linePart k = nI (li_p (g k)) := (L2 k hk).2.2.1
    have hp2 : a_linePart (k + 1) = nI (li_p (g (k + 1))) := (L2 (k + 1) (show k + 1 < n by omega)).2.2.1
    have b1 := (H.1 k hk).2.1
    have b2 := (H.1 (k + 1) (by omega)).2.1
    rw [nI_1, nI_clamp (n := k) (by omega), nI_clamp (n := k + 1) (by omega), hp1, hp2]
    obtain ⟨g1, g2, g3⟩ := li_ends H (k := k) (by omega)
    have hno : pg_no n g k = ((li_l (g (k + 1)) && pg_mn (g (k + 1))) || (decide (li_n (g k) = 0) && pg_mn (g k))) := by
      unfold pg_no; rw [decide_eq_true (by omega)]; rfl
    have k78 : ∀ st : Bool, st = decide (li_p (g k) ≠ li_p (g (k + 1))) → (decide (li_n (g k) = 0) && pg_mn (g k)) = false → wX_mayEnd_78 post (nI k) (bl_i st) f_length f_known f_joins f_patterns f_first f_rest f_narrow f_gap f_stretch f_shrink f_tolerance f_cost f_height f_breaks f_lines f_paragraphs a_text a_allowed a_counts a_wide a_join a_kerns a_child a_digits a_uses a_ends a_begins a_hyphened a_least a_before a_natural a_spaces a_way a_lineFrom a_lineTo a_linePart a_linePage a_lineWide a_lineBad a_lineHyphen a_sums := by
      intro st hst hf
      rw [hno, hf, Bool.or_false] at h
      refine bl_br rfl (fun y1 => ?_) (fun y1 => ?_)
      · have hpe : li_p (g k) = li_p (g (k + 1)) := by
          rw [y1] at hst
          exact Classical.not_not.mp (of_decide_eq_false hst.symm)
        have hmn : pg_mn (g (k + 1)) = true := by unfold pg_mn; rw [decide_eq_true (g2 hpe)]; rfl
        rw [hmn, Bool.and_true] at h
        rw [nI_1]
        refine xw_ends H hn hnp L (by omega) (bl_br rfl (fun y2 => ?_) (fun y2 => ?_))
        · rw [y2] at h; exact h
        · rw [y2] at h; exact h
      · have hpe : li_p (g k) ≠ li_p (g (k + 1)) := by
          rw [y1] at hst
          exact of_decide_eq_true hst.symm
        have hmn : (li_l (g (k + 1)) && pg_mn (g (k + 1))) = false := by
          unfold pg_mn; rw [g3 hpe]
          cases li_l (g (k + 1)) <;> rfl
        rw [hmn] at h; exact h
    have k67 : ∀ st fo : Bool, st = decide (li_p (g k) ≠ li_p (g (k + 1))) → fo = decide (li_n (g k) = 0) → wX_mayEnd_67 post (nI k) (bl_i (li_l (g k))) (bl_i st) (bl_i fo) f_length f_known f_joins f_patterns f_first f_rest f_narrow f_gap f_stretch f_shrink f_tolerance f_cost f_height f_breaks f_lines f_paragraphs a_text a_allowed a_counts a_wide a_join a_kerns a_child a_digits a_uses a_ends a_begins a_hyphened a_least a_before a_natural a_spaces a_way a_lineFrom a_lineTo a_linePart a_linePage a_lineWide a_lineBad a_lineHyphen a_sums := by
      intro st fo hst hfo
      refine bl_br rfl (fun y1 => k78 st hst ?_) (fun y1 => bl_br rfl (fun y2 => ?_) (fun y2 => k78 st hst ?_))
      · rw [← hfo, y1]; rfl
      · have : pg_no n g k = true := by
          rw [hno, ← hfo, y1]
          unfold pg_mn
          rw [y2]
          simp
        rw [this] at h; exact h
      · rw [← hfo, y1]
        unfold pg_mn
        rw [y2]
        have : li_n (g k) = 0 := by rw [y1] at hfo; exact of_decide_eq_true hfo.symm
        rw [this]; rfl
    have k40 : ∀ st : Bool, st = decide (li_p (g k) ≠ li_p (g (k + 1))) → wX_mayEnd_40 post (nI k) (bl_i (li_l (g k))) (bl_i st) f_length f_known f_joins f_patterns f_first f_rest f_narrow f_gap f_stretch f_shrink f_tolerance f_cost f_height f_breaks f_lines f_paragraphs a_text a_allowed a_counts a_wide a_join a_kerns a_child a_digits a_uses a_ends a_begins a_hyphened a_least a_before a_natural a_spaces a_way a_lineFrom a_lineTo a_linePart a_linePage a_lineWide a_lineBad a_lineHyphen a_sums := by
      intro st hst
      refine pk_eq k 0 (fun y1 => k67 st true hst ?_) (fun y1 => ?_)
      · rw [y1, (H.2.2.1 (by omega)).1]; rfl
      · have hk1 : k - 1 + 1 = k := by omega
        have hp0 : a_linePart (k - 1) = nI (li_p (g (k - 1))) := (L2 (k - 1) (show k - 1 < n by omega)).2.2.1
        have b0 := (H.1 (k - 1) (by omega)).2.1
        obtain ⟨-, f2, f3⟩ := li_ends H (k := k - 1) (by omega)
        rw [hk1] at f2 f3
        rw [nI_m1 (by omega), nI_clamp (n := k - 1) (by omega), nI_clamp (n := k) (by omega), hp0, hp1]
        refine ⟨vp_in_nI (by omega) (by decide), vp_in_nI (by omega) (by decide), pk_eq (li_p (g (k - 1))) (li_p (g k)) (fun y2 => k67 st false hst ?_) (fun y2 => k67 st true hst ?_)⟩
        · have := f2 y2
          exact (decide_eq_false (by omega)).symm
        · exact (decide_eq_true (f3 y2)).symm
    refine ⟨vp_in_nI (by omega) (by decide), pk_eq (li_p (g k)) (li_p (g (k + 1))) (fun y1 => k40 false ?_) (fun y1 => k40 true ?_)⟩
    · exact (decide_eq_false (fun z => z y1)).symm
    · exact (decide_eq_true y1).symm
theorem xw_p73 {post : SX → Prop} {J : _} {s t p : Nat} (hst : s + t ≤ 48) (hp : p < 128) {f : Nat → Nat} (h : ∀ pg', (∀ k, k < s + t → pg' k = nI (if s ≤ k ∧ k < s + t then p else f k)) → J (nI (p + 1)) (nI (s + t)) a_text a_allowed a_counts a_wide a_join a_kerns a_child a_digits a_uses a_ends a_begins a_hyphened a_least a_before a_natural a_spaces a_way a_lineFrom a_lineTo a_linePart pg' a_lineWide a_lineBad a_lineHyphen a_sums) :
    ∀ d n k pg', d < n → k + d = s + t → s ≤ k → (∀ j, j < k → pg' j = nI (if s ≤ j ∧ j < s + t then p else f j)) → wX_fillPages_73 post J (nI p) (nI s) (nI t) f_length f_known f_joins f_patterns f_first f_rest f_narrow f_gap f_stretch f_shrink f_tolerance f_cost f_height f_breaks f_lines f_paragraphs n (nI k) a_text a_allowed a_counts a_wide a_join a_kerns a_child a_digits a_uses a_ends a_begins a_hyphened a_least a_before a_natural a_spaces a_way a_lineFrom a_lineTo a_linePart pg' a_lineWide a_lineBad a_lineHyphen a_sums := by
  intro d
  induction d with
  | zero =>
    intro n k pg' hn hk hsk hpg
    obtain ⟨n, rfl⟩ : ∃ n', n = n' + 1 := ⟨n - 1, by omega⟩
    have : k = s + t := by omega
    subst this
    refine br_t (by rw [nI_add]; exact nI_le (Nat.le_refl _) (by omega)) (nm_r (nI_add s t) (nm_r (nI_1 p) (h pg' hpg)))
  | succ d ih =>
    intro n k pg' hn hk hsk hpg
    obtain ⟨n, rfl⟩ : ∃ n', n = n' + 1 := ⟨n - 1, by omega⟩
    refine br_f (by rw [nI_add]; exact nI_ge (by omega) (by omega)) ⟨vp_in_nI (by omega) (by decide), nm_r (e' := upd pg' k (nI p)) (by rw [nI_clamp (by omega), iw_bb hp]) (nm_r (nI_1 k) (ih n (k + 1) _ (by omega) (by omega) (by omega) (fun j hj => ?_)))⟩
    by_cases ej : j = k
    · rw [ej, pk_us, if_pos (by omega)]
    · rw [pk_un ej]; exact hpg j (by omega)
theorem xw_p39 {post : SX → Prop} {J : _} {n np pos s p : Nat} {g : Nat → li_T} (H : li_cl e n g np pos) (hn : n ≤ 48) (hnp : np ≤ 24) (L : ex_L (n, g) f_lines a_lineFrom a_lineTo a_linePart a_lineWide a_lineBad a_lineHyphen) (h : ∀ x3 : Int32, x3 = nI (pg_t n g s (min (gv_ht e) (n - s))) → wX_fillPages_61 post J (nI p) (nI s) x3 f_length f_known f_joins f_patterns f_first f_rest f_narrow f_gap f_stretch f_shrink f_tolerance f_cost f_height f_breaks f_lines f_paragraphs a_text a_allowed a_counts a_wide a_join a_kerns a_child a_digits a_uses a_ends a_begins a_hyphened a_least a_before a_natural a_spaces a_way a_lineFrom a_lineTo a_linePart a_linePage a_lineWide a_lineBad a_lineHyphen a_sums) :
    ∀ t m, t < m → s + t ≤ n → pg_t n g s (min (gv_ht e) (n - s)) = pg_t n g s t → wX_fillPages_39 post J (nI p) (nI s) f_length f_known f_joins f_patterns f_first f_rest f_narrow f_gap f_stretch f_shrink f_tolerance f_cost f_height f_breaks f_lines f_paragraphs a_text a_allowed a_counts a_wide a_join a_kerns a_child a_digits a_uses a_ends a_begins a_hyphened a_least a_before a_natural a_spaces a_way a_lineFrom a_lineTo a_linePart a_linePage a_lineWide a_lineBad a_lineHyphen a_sums m (nI t) := by
  intro t
  induction t with
  | zero =>
    intro m hm hst he
    obtain ⟨m, rfl⟩ : ∃ m', m = m' + 1 := ⟨m - 1, by omega⟩
    exact br_t (by decide) (h _ (by rw [he]; rfl))
  | succ t ih =>
    intro m hm hst he
    obtain ⟨m, rfl⟩ : ∃ m', m = m' + 1 := ⟨m - 1, by omega⟩
    have e1 : pg_t n g s (t + 1) = if pg_no n g (s + t) = true then pg_t n g s t else t + 1 := rfl
    have e2 : nI s + nI (t + 1) - 1 = nI (s + t) := by rw [nI_add, ← Nat.add_assoc, nI_pred]
    refine br_f (nI_nle (by omega) (by omega)) ?_
    rw [e2]
    refine xw_mayEnd H hn hnp L (by omega) (bl_br rfl (fun y => nm_r (pk_m1 t) (ih m (by omega) (by omega) ?_)) (fun y => h _ ?_))
    · have : pg_no n g (s + t) = true := by
        cases hx : pg_no n g (s + t) with
        | true => rfl
        | false => rw [hx] at y; cases y
      rw [he, e1, if_pos this]
    · have : pg_no n g (s + t) = false := by
        cases hx : pg_no n g (s + t) with
        | false => rfl
        | true => rw [hx] at y; cases y
      rw [he, e1, this]; rfl
theorem xw_p4 {post : SX → Prop} {n np pos : Nat} {g : Nat → li_T} (H : li_cl e n g np pos) (hn : n ≤ 48) (hnp : np ≤ 24) (L : ex_L (n, g) f_lines a_lineFrom a_lineTo a_linePart a_lineWide a_lineBad a_lineHyphen) (hht : f_height = nI (gv_ht e)) (hh : 1 ≤ gv_ht e) (hh2 : gv_ht e ≤ 12) :
    ∀ m d s p (f : Nat → Nat) pg', m < d → n ≤ s + m → s ≤ n → p ≤ s → (∀ k, k < s → pg' k = nI (f k)) → (∀ pg', (∀ k, k < n → pg' k = nI (pg_F n g (gv_ht e) m s p f k)) → post (f_length, f_known, f_joins, f_patterns, f_first, f_rest, f_narrow, f_gap, f_stretch, f_shrink, f_tolerance, f_cost, f_height, f_breaks, f_lines, f_paragraphs, a_text, a_allowed, a_counts, a_wide, a_join, a_kerns, a_child, a_digits, a_uses, a_ends, a_begins, a_hyphened, a_least, a_before, a_natural, a_spaces, a_way, a_lineFrom, a_lineTo, a_linePart, pg', a_lineWide, a_lineBad, a_lineHyphen, a_sums)) → wX_fillPages_4 post f_length f_known f_joins f_patterns f_first f_rest f_narrow f_gap f_stretch f_shrink f_tolerance f_cost f_height f_breaks f_lines f_paragraphs d (nI p) (nI s) a_text a_allowed a_counts a_wide a_join a_kerns a_child a_digits a_uses a_ends a_begins a_hyphened a_least a_before a_natural a_spaces a_way a_lineFrom a_lineTo a_linePart pg' a_lineWide a_lineBad a_lineHyphen a_sums := by
  have L1' : f_lines = nI n := L.1
  intro m
  induction m with
  | zero =>
    intro d s p f pg' hd hs hsn hp hpg h
    obtain ⟨d, rfl⟩ : ∃ d', d = d' + 1 := ⟨d - 1, by omega⟩
    exact br_t (by rw [L1']; exact nI_le (by omega) (by omega)) (h pg' (fun k hk => hpg k (by omega)))
  | succ m ih =>
    intro d s p f pg' hd hs hsn hp hpg h
    obtain ⟨d, rfl⟩ : ∃ d', d = d' + 1 := ⟨d - 1, by omega⟩
    by_cases hns : n ≤ s
    · have e1 : pg_F n g (gv_ht e) (m + 1) s p f = f := by
        show (if n ≤ s then f else _) = f
        rw [if_pos hns]
      rw [e1] at h
      exact br_t (by rw [L1']; exact nI_le hns (by omega)) (h pg' (fun k hk => hpg k (by omega)))
    · have e1 : pg_F n g (gv_ht e) (m + 1) s p f = pg_F n g (gv_ht e) m (s + pg_n n g (gv_ht e) s) (p + 1) (fun k => if s ≤ k ∧ k < s + pg_n n g (gv_ht e) s then p else f k) := by
        show (if n ≤ s then f else _) = _
        rw [if_neg hns]
      rw [e1] at h
      have hb := pg_n_b (n := n) (g := g) hh (s := s) (by omega)
      have hpt := pg_t_b n g s (min (gv_ht e) (n - s))
      have k73 : ∃ n73 : Nat, wX_fillPages_73 post (wX_fillPages_4 post f_length f_known f_joins f_patterns f_first f_rest f_narrow f_gap f_stretch f_shrink f_tolerance f_cost f_height f_breaks f_lines f_paragraphs d) (nI p) (nI s) (nI (pg_n n g (gv_ht e) s)) f_length f_known f_joins f_patterns f_first f_rest f_narrow f_gap f_stretch f_shrink f_tolerance f_cost f_height f_breaks f_lines f_paragraphs n73 (nI s) a_text a_allowed a_counts a_wide a_join a_kerns a_child a_digits a_uses a_ends a_begins a_hyphened a_least a_before a_natural a_spaces a_way a_lineFrom a_lineTo a_linePart pg' a_lineWide a_lineBad a_lineHyphen a_sums := by
        refine ⟨pg_n n g (gv_ht e) s + 1, xw_p73 (f := f) (by omega) (by omega) (fun pg2 h2 => ?_) (pg_n n g (gv_ht e) s) _ s pg' (by omega) (by omega) (Nat.le_refl _) (fun j hj => ?_)⟩
        · exact ih d (s + pg_n n g (gv_ht e) s) (p + 1) _ pg2 (by omega) (by omega) hb.2 (by omega) h2 h
        · rw [if_neg (by omega)]; exact hpg j hj
      have k61 : ∀ x3 : Int32, x3 = nI (pg_t n g s (min (gv_ht e) (n - s))) → wX_fillPages_61 post (wX_fillPages_4 post f_length f_known f_joins f_patterns f_first f_rest f_narrow f_gap f_stretch f_shrink f_tolerance f_cost f_height f_breaks f_lines f_paragraphs d) (nI p) (nI s) x3 f_length f_known f_joins f_patterns f_first f_rest f_narrow f_gap f_stretch f_shrink f_tolerance f_cost f_height f_breaks f_lines f_paragraphs a_text a_allowed a_counts a_wide a_join a_kerns a_child a_digits a_uses a_ends a_begins a_hyphened a_least a_before a_natural a_spaces a_way a_lineFrom a_lineTo a_linePart pg' a_lineWide a_lineBad a_lineHyphen a_sums := by
        intro x3 hx3
        refine pk_eq (pg_t n g s (min (gv_ht e) (n - s))) 0 (fun y => ?_) (fun y => ?_) hx3 rfl (by omega)
        · have e2 : pg_n n g (gv_ht e) s = gv_ht e := by
            unfold pg_n
            rw [if_pos y]
            exact pg_h (by omega) hh y
          rw [e2] at k73
          exact @ek_v _ (fun x => ∃ n73 : Nat, wX_fillPages_73 post (wX_fillPages_4 post f_length f_known f_joins f_patterns f_first f_rest f_narrow f_gap f_stretch f_shrink f_tolerance f_cost f_height f_breaks f_lines f_paragraphs d) (nI p) (nI s) x f_length f_known f_joins f_patterns f_first f_rest f_narrow f_gap f_stretch f_shrink f_tolerance f_cost f_height f_breaks f_lines f_paragraphs n73 (nI s) a_text a_allowed a_counts a_wide a_join a_kerns a_child a_digits a_uses a_ends a_begins a_hyphened a_least a_before a_natural a_spaces a_way a_lineFrom a_lineTo a_linePart pg' a_lineWide a_lineBad a_lineHyphen a_sums) _ _ hht k73
        · have e2 : pg_n n g (gv_ht e) s = pg_t n g s (min (gv_ht e) (n - s)) := by
            unfold pg_n
            rw [if_neg y]
          rw [e2, ← hx3] at k73
          exact k73
      have e3 : f_lines - nI s = nI (n - s) := by rw [L1', pk_sub (by omega)]
      refine br_f (by rw [L1']; exact nI_ge (by omega) (by omega)) (pk_le (n - s) (gv_ht e) (fun y => nm_r e3 ⟨n - s + 1, ?_⟩) (fun y => ⟨gv_ht e + 1, ?_⟩) e3 hht)
      · exact xw_p39 (a_linePage := pg') H hn hnp L k61 (n - s) _ (by omega) (by omega) (by rw [Nat.min_eq_right y])
      · have := xw_p39 (a_linePage := pg') H hn hnp L k61 (gv_ht e) (gv_ht e + 1) (by omega) (by omega) (by rw [Nat.min_eq_left (by omega)])
        exact @ek_v _ (fun x => wX_fillPages_39 post (wX_fillPages_4 post f_length f_known f_joins f_patterns f_first f_rest f_narrow f_gap f_stretch f_shrink f_tolerance f_cost f_height f_breaks f_lines f_paragraphs d) (nI p) (nI s) f_length f_known f_joins f_patterns f_first f_rest f_narrow f_gap f_stretch f_shrink f_tolerance f_cost f_height f_breaks f_lines f_paragraphs a_text a_allowed a_counts a_wide a_join a_kerns a_child a_digits a_uses a_ends a_begins a_hyphened a_least a_before a_natural a_spaces a_way a_lineFrom a_lineTo a_linePart pg' a_lineWide a_lineBad a_lineHyphen a_sums (gv_ht e + 1) x) _ _ hht this
theorem xw_fillPages {post : SX → Prop} {n np pos : Nat} {g : Nat → li_T} (H : li_cl e n g np pos) (hn : n ≤ 48) (hnp : np ≤ 24) (L : ex_L (n, g) f_lines a_lineFrom a_lineTo a_linePart a_lineWide a_lineBad a_lineHyphen) (hht : f_height = nI (gv_ht e)) (hh : 1 ≤ gv_ht e) (hh2 : gv_ht e ≤ 12)
    (h : ∀ pg', (∀ k, k < n → pg' k = nI (pg_F n g (gv_ht e) n 0 0 (fun _ => 0) k)) → post (f_length, f_known, f_joins, f_patterns, f_first, f_rest, f_narrow, f_gap, f_stretch, f_shrink, f_tolerance, f_cost, f_height, f_breaks, f_lines, f_paragraphs, a_text, a_allowed, a_counts, a_wide, a_join, a_kerns, a_child, a_digits, a_uses, a_ends, a_begins, a_hyphened, a_least, a_before, a_natural, a_spaces, a_way, a_lineFrom, a_lineTo, a_linePart, pg', a_lineWide, a_lineBad, a_lineHyphen, a_sums)) : wpX_fillPages post (f_length, f_known, f_joins, f_patterns, f_first, f_rest, f_narrow, f_gap, f_stretch, f_shrink, f_tolerance, f_cost, f_height, f_breaks, f_lines, f_paragraphs, a_text, a_allowed, a_counts, a_wide, a_join, a_kerns, a_child, a_digits, a_uses, a_ends, a_begins, a_hyphened, a_least, a_before, a_natural, a_spaces, a_way, a_lineFrom, a_lineTo, a_linePart, a_linePage, a_lineWide, a_lineBad, a_lineHyphen, a_sums) :=
  ⟨n + 1, xw_p4 H hn hnp L hht hh hh2 n _ 0 0 _ a_linePage (by omega) (by omega) (Nat.zero_le _) (Nat.le_refl _) (fun k hk => by omega) h⟩
end
/-- all that the component knows of the lines -/
def ex_D (e : gv_T) (f_lines f_paragraphs : Int32) (a_lineFrom a_lineTo a_linePart a_linePage a_lineWide a_lineBad a_lineHyphen : Nat → Int32) (a_sums : Nat → Int64) : Prop :=
  ex_L (al_n e, al_g e) f_lines a_lineFrom a_lineTo a_linePart a_lineWide a_lineBad a_lineHyphen ∧ (∀ k, k < al_n e → a_linePage k = nI (al_pg e k)) ∧ f_paragraphs = nI (al_p e) ∧ ∀ p, p < al_p e → a_sums p = al_s e p
section
variable {e : gv_T} {f_length f_known f_joins f_patterns f_first f_rest f_narrow f_gap f_stretch f_shrink f_tolerance f_cost f_height f_breaks f_lines f_paragraphs : Int32} {a_text a_allowed a_counts a_wide a_join a_kerns a_child a_digits a_uses a_ends a_begins a_hyphened a_before a_natural a_spaces a_way a_lineFrom a_lineTo a_linePart a_linePage a_lineWide a_lineBad a_lineHyphen : Nat → Int32} {a_least a_sums : Nat → Int64}
theorem xw_k27 {post : SX → Prop} (F : ex_F e f_length a_text a_wide a_join a_kerns) (M : ex_M e f_first f_rest f_narrow f_gap f_stretch f_shrink f_tolerance f_cost f_height) (T : tr_if e a_child a_digits)
    (h : ∀ x2 x3 x4 y1 y2 y3 y4 y5 y6 y7 y8 y9 y10 z1 z2 z3 z4 z5 z6 z7 z8, ex_D e x3 x4 z1 z2 z3 z4 z5 z6 z7 z8 → post (f_length, f_known, f_joins, f_patterns, f_first, f_rest, f_narrow, f_gap, f_stretch, f_shrink, f_tolerance, f_cost, f_height, x2, x3, x4, a_text, y1, y2, a_wide, a_join, a_kerns, a_child, a_digits, a_uses, y3, y4, y5, y6, y7, y8, y9, y10, z1, z2, z3, z4, z5, z6, z7, z8)) :
    ∀ d n i x2 x3 x4 y1 y2 y3 y4 y5 y6 y7 y8 y9 y10 z1 z2 z3 z4 z5 z6 z7 z8, d < n → i + d = gv_ln e + 1 → ex_L (al_F e i).2.2.1 x3 z1 z2 z3 z5 z6 z7 → x4 = nI (al_F e i).2.1 → (∀ p, p < (al_F e i).2.1 → z8 p = (al_F e i).2.2.2 p) → wX_know_27 post n (nI (al_F e i).1) (nI i) f_length f_known f_joins f_patterns f_first f_rest f_narrow f_gap f_stretch f_shrink f_tolerance f_cost f_height x2 x3 x4 a_text y1 y2 a_wide a_join a_kerns a_child a_digits a_uses y3 y4 y5 y6 y7 y8 y9 y10 z1 z2 z3 z4 z5 z6 z7 z8 := by
  obtain ⟨F1, F2, F3, F4, F5, E⟩ := id F
  have K := M.2.2.2.2.2.2.2.2.2
  have h48 := E.1
  intro d
  induction d with
  | zero =>
    intro n i x2 x3 x4 y1 y2 y3 y4 y5 y6 y7 y8 y9 y10 z1 z2 z3 z4 z5 z6 z7 z8 hn hi hL hp hs
    obtain ⟨n, rfl⟩ : ∃ n', n = n' + 1 := ⟨n - 1, by omega⟩
    have : i = gv_ln e + 1 := by omega
    subst this
    obtain ⟨a1, a2, a3⟩ := al_end E
    refine br_t (by rw [F1]; exact nI_lt (by omega) (by omega)) ?_
    exact xw_fillPages (f_lines := x3) (a_lineFrom := z1) (a_lineTo := z2) (a_linePart := z3) (a_lineWide := z5) (a_lineBad := z6) (a_lineHyphen := z7) (g := al_g e) a1 a2 a3 hL M.2.2.2.2.2.2.2.2.1 K.2.2.2.2.2.2.2.2.1 K.2.2.2.2.2.2.2.2.2 (fun pg' hpg => h x2 x3 x4 y1 y2 y3 y4 y5 y6 y7 y8 y9 y10 z1 z2 z3 pg' z5 z6 z7 z8 ⟨hL, hpg, hp, hs⟩)
  | succ d ih =>
    intro n i x2 x3 x4 y1 y2 y3 y4 y5 y6 y7 y8 y9 y10 z1 z2 z3 z4 z5 z6 z7 z8 hn hi hL hp hs
    obtain ⟨n, rfl⟩ : ∃ n', n = n' + 1 := ⟨n - 1, by omega⟩
    obtain ⟨i1, i2, i3, i4, i5, i6⟩ := al_inv E i (by omega)
    have k57 : ¬ (i < gv_ln e ∧ gv_tx e i ≠ 11) → wX_know_57 post (wX_know_27 post n) (nI (al_F e i).1) (nI i) f_length f_known f_joins f_patterns f_first f_rest f_narrow f_gap f_stretch f_shrink f_tolerance f_cost f_height x2 x3 x4 a_text y1 y2 a_wide a_join a_kerns a_child a_digits a_uses y3 y4 y5 y6 y7 y8 y9 y10 z1 z2 z3 z4 z5 z6 z7 z8 := by
      intro hc
      have hL2 : ¬ gv_isL e i := by
        rintro ⟨l1, l2⟩
        exact hc ⟨l1, by omega⟩
      have Z : pd_ok e (al_F e i).1 i := ⟨i1, by omega, fun j h1 h2 => (i2 j h1 h2).2, hL2, i3⟩
      have hnb := pr_nb_b (e := e) (a := (al_F e i).1) (z := i)
      unfold wX_know_57
      refine xw_findBreaks F T Z (fun fb en bg hy al co B => pk_le (pr_nb e (al_F e i).1 i) 0 (fun y => nm_r (nI_1 i) (nm_r (nI_1 i) ?_)) (fun y => ?_) B.1 rfl (by omega))
      · have e1 := al_F_0 hc (show pr_nb e (al_F e i).1 i = 0 by omega)
        have := ih n (i + 1) fb x3 x4 al co en bg hy y6 y7 y8 y9 y10 z1 z2 z3 z4 z5 z6 z7 z8 (by omega) (by omega) (by rw [e1]; exact hL) (by rw [e1]; exact hp) (by rw [e1]; exact hs)
        rw [e1] at this
        exact this
      · have e1 := al_F_1 hc (show ¬ pr_nb e (al_F e i).1 i = 0 by omega)
        refine xw_set (s := (al_F e i).2.2.1) (np := (al_F e i).2.1) (f_lines := x3) (a_lineFrom := z1) (a_lineTo := z2) (a_linePart := z3) (a_lineWide := z5) (a_lineBad := z6) (a_lineHyphen := z7) (a_ends := en) (a_begins := bg) (a_hyphened := hy) (f_breaks := fb) F M Z B y hL (by omega) hp (by omega) (fun u1 u2 u3 u4 u5 u6 u7 v1 v2 v3 v4 v5 hL' => nm_r (nI_1 i) (nm_r (nI_1 i) ?_))
        have := ih n (i + 1) fb u1 (nI ((al_F e i).2.1 + 1)) al co en bg hy v3 v4 v1 v2 v5 u2 u3 u4 z4 u5 u6 u7 (vp_updL z8 (al_F e i).2.1 (pr_sm e (al_F e i).1 i)) (by omega) (by omega) (by rw [e1]; exact hL') (by rw [e1]) (by
          rw [e1]
          intro p hp'
          have hp'' : p < (al_F e i).2.1 + 1 := hp'
          show _ = vp_updL (al_F e i).2.2.2 (al_F e i).2.1 (pr_sm e (al_F e i).1 i) p
          by_cases ep : p = (al_F e i).2.1
          · rw [ep, pk_uLs, pk_uLs]
          · rw [pk_uLn ep, pk_uLn ep]; exact hs p (by omega))
        rw [e1] at this
        exact this
    refine br_f (by rw [F1]; exact nI_nlt (by omega) (by omega)) (pk_le (gv_ln e) i (fun y => k57 (fun z => by omega)) (fun y => ⟨vp_in_nI (by omega) (by decide), ?_⟩) F1 rfl)
    rw [nI_clamp (n := i) (by omega), F2]
    refine pk_eq (gv_tx e i) 11 (fun q1 => k57 (fun z => z.2 q1)) (fun q1 => nm_r (nI_1 i) ?_) rfl rfl (by have := E.2.1 i; omega)
    have e1 := al_F_c (e := e) (i := i) ⟨by omega, q1⟩
    have := ih n (i + 1) x2 x3 x4 y1 y2 y3 y4 y5 y6 y7 y8 y9 y10 z1 z2 z3 z4 z5 z6 z7 z8 (by omega) (by omega) (by rw [e1]; exact hL) (by rw [e1]; exact hp) (by rw [e1]; exact hs)
    rw [e1] at this
    exact this
theorem xw_know {post : SX → Prop} {kn : Bool} (F : ex_F e f_length a_text a_wide a_join a_kerns) (M : ex_M e f_first f_rest f_narrow f_gap f_stretch f_shrink f_tolerance f_cost f_height) (T : tr_if e a_child a_digits) (hk : f_known = bl_i kn) (hD : kn = true → ex_D e f_lines f_paragraphs a_lineFrom a_lineTo a_linePart a_linePage a_lineWide a_lineBad a_lineHyphen a_sums)
    (h : ∀ x2 x3 x4 y1 y2 y3 y4 y5 y6 y7 y8 y9 y10 z1 z2 z3 z4 z5 z6 z7 z8, ex_D e x3 x4 z1 z2 z3 z4 z5 z6 z7 z8 → post (f_length, bl_i true, f_joins, f_patterns, f_first, f_rest, f_narrow, f_gap, f_stretch, f_shrink, f_tolerance, f_cost, f_height, x2, x3, x4, a_text, y1, y2, a_wide, a_join, a_kerns, a_child, a_digits, a_uses, y3, y4, y5, y6, y7, y8, y9, y10, z1, z2, z3, z4, z5, z6, z7, z8)) : wpX_know post (f_length, f_known, f_joins, f_patterns, f_first, f_rest, f_narrow, f_gap, f_stretch, f_shrink, f_tolerance, f_cost, f_height, f_breaks, f_lines, f_paragraphs, a_text, a_allowed, a_counts, a_wide, a_join, a_kerns, a_child, a_digits, a_uses, a_ends, a_begins, a_hyphened, a_least, a_before, a_natural, a_spaces, a_way, a_lineFrom, a_lineTo, a_linePart, a_linePage, a_lineWide, a_lineBad, a_lineHyphen, a_sums) := by
  refine bl_br hk (fun y => ⟨gv_ln e + 2, ?_⟩) (fun y => ?_)
  · exact xw_k27 (f_known := 1) F M T h (gv_ln e + 1) _ 0 f_breaks 0 0 a_allowed a_counts a_ends a_begins a_hyphened a_least a_before a_natural a_spaces a_way a_lineFrom a_lineTo a_linePart a_linePage a_lineWide a_lineBad a_lineHyphen a_sums (by omega) (by omega) ⟨rfl, fun i hi => by have : i < 0 := hi; omega⟩ rfl (fun p hp => by have : p < 0 := hp; omega)
  · subst hk
    subst y
    exact h _ _ _ _ _ _ _ _ _ _ _ _ _ _ _ _ _ _ _ _ _ (hD rfl)
end
end
section
/-! the glyph that a letter ends in, and where it begins: pure -/
def sh_cf (e : gv_T) (i : Nat) (L : List Nat) : Nat → Bool × List Nat
  | 0 => (true, L)
  | n + 1 => if (sh_cf e i L n).1 = true ∧ gv_jn e (10 * (sh_cf e i L n).2.headD 0 + gv_tx e (i + n)) ≠ 0 then (true, (gv_jn e (10 * (sh_cf e i L n).2.headD 0 + gv_tx e (i + n)) - 1) :: (sh_cf e i L n).2.tail) else (false, (sh_cf e i L n).2)
theorem sh_cf_1 (e : gv_T) (i : Nat) (L : List Nat) (n : Nat) : sh_cf e i L (n + 1) = if (sh_cf e i L n).1 = true ∧ gv_jn e (10 * (sh_cf e i L n).2.headD 0 + gv_tx e (i + n)) ≠ 0 then (true, (gv_jn e (10 * (sh_cf e i L n).2.headD 0 + gv_tx e (i + n)) - 1) :: (sh_cf e i L n).2.tail) else (false, (sh_cf e i L n).2) := rfl
theorem sh_cf_t {e : gv_T} {i n g : Nat} {L r : List Nat} (h : sh_cf e i L n = (true, g :: r)) (hj : gv_jn e (10 * g + gv_tx e (i + n)) ≠ 0) : sh_cf e i L (n + 1) = (true, (gv_jn e (10 * g + gv_tx e (i + n)) - 1) :: r) := by
  show (if (sh_cf e i L n).1 = true ∧ _ then _ else _) = _
  rw [h]
  exact if_pos ⟨rfl, hj⟩
theorem sh_cf_f {e : gv_T} {i n g : Nat} {L r : List Nat} (h : sh_cf e i L n = (true, g :: r)) (hj : gv_jn e (10 * g + gv_tx e (i + n)) = 0) : sh_cf e i L (n + 1) = (false, g :: r) := by
  show (if (sh_cf e i L n).1 = true ∧ _ then _ else _) = _
  rw [h]
  exact if_neg (fun z => z.2 hj)
theorem sh_cf_c {e : gv_T} {i n : Nat} {L C : List Nat} (h : sh_cf e i L n = (false, C)) : ∀ m, sh_cf e i L (n + m) = (false, C)
  | 0 => h
  | m + 1 => by
    have ih := sh_cf_c h m
    show sh_cf e i L (n + m + 1) = _
    rw [sh_cf_1, ih]
    exact if_neg (fun z => by cases z.1)
theorem sh_cf_s {e : gv_T} (E : gv_okF e) {i : Nat} {g0 : Nat} {r0 : List Nat} (h0 : sh_ok (g0 :: r0)) : ∀ n, (∀ j, i ≤ j → j < i + n → gv_tx e j < 10) → ∃ b g, sh_cf e i (g0 :: r0) n = (b, g :: r0) ∧ sh_ok (g :: r0)
  | 0, _ => ⟨true, g0, rfl, h0⟩
  | n + 1, hl => by
    obtain ⟨b, g, h1, h2⟩ := sh_cf_s E h0 n (fun j a c => hl j a (by omega))
    have hg := (sh_ok_c h2).1
    have ht := hl (i + n) (by omega) (by omega)
    have hj := E.2.2.2.2 (10 * g + gv_tx e (i + n)) (by omega)
    cases b with
    | false => exact ⟨false, g, sh_cf_c h1 1, h2⟩
    | true =>
      by_cases hx : gv_jn e (10 * g + gv_tx e (i + n)) = 0
      · exact ⟨false, g, sh_cf_f h1 hx, h2⟩
      · exact ⟨true, _, sh_cf_t h1 hx, sh_ok_k (by omega) (sh_ok_c h2).2⟩
/-- the shaped part holds the letter's glyph where it was put -/
theorem sh_cf_gl {e : gv_T} (E : gv_okF e) {w i : Nat} (hw : w ≤ i) {g0 : Nat} {r0 : List Nat} (h0 : sh_gl e w (i - w) = g0 :: r0) (hok : sh_ok (g0 :: r0)) : ∀ n, (∀ j, i ≤ j → j < i + n → gv_tx e j < 10) → ∃ A b g, sh_cf e i (g0 :: r0) n = (b, g :: r0) ∧ sh_gl e w (i + n - w) = A ++ g :: r0 ∧ (b = true → A = []) ∧ (b = false → A ≠ [])
  | 0, _ => ⟨[], true, g0, rfl, h0, fun _ => rfl, fun z => by cases z⟩
  | n + 1, hl => by
    obtain ⟨A, b, g, h1, h2, h3, h3'⟩ := sh_cf_gl E hw h0 hok n (fun j a c => hl j a (by omega))
    have e1 : sh_gl e w (i + (n + 1) - w) = sh_push e (sh_gl e w (i + n - w)) (gv_tx e (i + n)) := by
      rw [show i + (n + 1) - w = (i + n - w) + 1 from by omega]
      show sh_push e _ (gv_tx e (w + (i + n - w))) = _
      rw [show w + (i + n - w) = i + n from by omega]
    rw [e1, h2]
    have cons : ∀ (a : Nat) (A' : List Nat), ∃ A2, sh_push e (a :: A' ++ g :: r0) (gv_tx e (i + n)) = A2 ++ g :: r0 ∧ A2 ≠ [] := by
      intro a A'
      rw [show a :: A' ++ g :: r0 = a :: (A' ++ g :: r0) from rfl, sh_push_c]
      split
      · exact ⟨gv_tx e (i + n) :: a :: A', rfl, fun z => by cases z⟩
      · exact ⟨(gv_jn e (10 * a + gv_tx e (i + n)) - 1) :: A', rfl, fun z => by cases z⟩
    cases b with
    | false =>
      cases A with
      | nil => exact absurd rfl (h3' rfl)
      | cons a A' =>
        obtain ⟨A2, hA, hA2⟩ := cons a A'
        exact ⟨A2, false, g, sh_cf_c h1 1, hA, (fun z => by cases z), fun _ => hA2⟩
    | true =>
      rw [h3 rfl, List.nil_append, sh_push_c]
      by_cases hx : gv_jn e (10 * g + gv_tx e (i + n)) = 0
      · rw [if_pos hx]
        exact ⟨[gv_tx e (i + n)], false, g, sh_cf_f h1 hx, rfl, (fun z => by cases z), fun _ z => by cases z⟩
      · rw [if_neg hx]
        exact ⟨[], true, _, sh_cf_t h1 hx, rfl, fun _ => rfl, fun z => by cases z⟩
/-- where a glyph begins behind those before it in its word -/
def sh_pv (e : gv_T) : List Nat → Int32
  | [] => 0
  | [_] => 0
  | g :: p :: r => nI (sh_wd e (p :: r)) + (nI (gv_kn e (10 * p + g)) - 5)
/-- the share of the line's spaces -/
def sh_ex (x : Int32) (tot n : Nat) : Int32 := if n = 0 then 0 else x * nI n / nI tot
theorem sh_ex_q (x : Int32) {tot : Nat} (ht : 0 < tot) (ht2 : tot < 2 ^ 31) (n : Nat) : x * nI n / nI tot = sh_ex x tot n := by
  unfold sh_ex
  by_cases h : n = 0
  · rw [if_pos h, h, nI_0, Int32.mul_zero, Int32.zero_div]
  · rw [if_neg h]
/-- how much wider the spaces of a line are together -/
def sh_xt (t w s k : Nat) (l : Bool) : Int32 := if w < t then (if l = true then 0 else nI (t - w)) else if w - t ≤ s * k then -(nI (w - t)) else -(nI (s * k))
theorem sh_ns_mono {e : gv_T} {f q : Nat} (h : f ≤ q) : ∀ d, sh_ns e f q ≤ sh_ns e f (q + d)
  | 0 => Nat.le_refl _
  | d + 1 => by
    have ih := sh_ns_mono (e := e) h d
    refine Nat.le_trans ih ?_
    show (sh_at e f (q + d)).2.1 ≤ (sh_at e f (q + d + 1)).2.1
    rw [sh_at_s e (by omega)]
    by_cases h1 : gv_tx e (q + d) < 10
    · rw [sh_st_l e _ h1]; exact Nat.le_refl _
    · by_cases h2 : (sh_at e f (q + d)).2.2 = []
      · rw [sh_st_0 e _ h1 h2]; exact Nat.le_refl _
      · rw [sh_st_1 e _ h1 h2]; exact Nat.le_succ _
theorem sh_at_sp {e : gv_T} {f q : Nat} (h : f ≤ q) (hc : ¬ gv_tx e q < 10) : (sh_at e f (q + 1)).2.2 = [] := by
  rw [sh_at_s e h]
  by_cases h2 : (sh_at e f q).2.2 = []
  · rw [sh_st_0 e _ hc h2]; exact h2
  · rw [sh_st_1 e _ hc h2]
/-- the part of a word from w to t that letter i of a line from f to l lies in -/
def wp_ok (e : gv_T) (f l i w t : Nat) : Prop := f ≤ w ∧ w ≤ i ∧ i < t ∧ t ≤ l ∧ (∀ j, w ≤ j → j < t → gv_tx e j < 10) ∧ (w = f ∨ ∃ j, w = j + 1 ∧ ¬ gv_tx e j < 10) ∧ (t = l ∨ ¬ gv_tx e t < 10)
theorem wp_ex {e : gv_T} {f l i : Nat} (h1 : f ≤ i) (h2 : i < l) (h3 : gv_tx e i < 10) : ∃ w t, wp_ok e f l i w t := by
  have kw : ∀ d w, f + d = w → w ≤ i → (∀ j, w ≤ j → j ≤ i → gv_tx e j < 10) → ∃ w', f ≤ w' ∧ w' ≤ i ∧ (∀ j, w' ≤ j → j ≤ i → gv_tx e j < 10) ∧ (w' = f ∨ ∃ j, w' = j + 1 ∧ ¬ gv_tx e j < 10) := by
    intro d
    induction d with
    | zero => intro w hw hi hj; exact ⟨w, by omega, hi, hj, Or.inl (by omega)⟩
    | succ d ih =>
      intro w hw hi hj
      by_cases hc : gv_tx e (w - 1) < 10
      · exact ih (w - 1) (by omega) (by omega) (fun j j1 j2 => by
          by_cases ej : j = w - 1
          · rw [ej]; exact hc
          · exact hj j (by omega) j2)
      · exact ⟨w, by omega, hi, hj, Or.inr ⟨w - 1, by omega, hc⟩⟩
  have kt : ∀ d t, t + d = l → i < t → (∀ j, i ≤ j → j < t → gv_tx e j < 10) → ∃ t', i < t' ∧ t' ≤ l ∧ (∀ j, i ≤ j → j < t' → gv_tx e j < 10) ∧ (t' = l ∨ ¬ gv_tx e t' < 10) := by
    intro d
    induction d with
    | zero => intro t ht hi hj; exact ⟨t, hi, by omega, hj, Or.inl (by omega)⟩
    | succ d ih =>
      intro t ht hi hj
      by_cases hc : gv_tx e t < 10
      · exact ih (t + 1) (by omega) (by omega) (fun j j1 j2 => by
          by_cases ej : j = t
          · rw [ej]; exact hc
          · exact hj j j1 (by omega))
      · exact ⟨t, hi, by omega, hj, Or.inr hc⟩
  obtain ⟨w, w1, w2, w3, w4⟩ := kw (i - f) i (by omega) (Nat.le_refl _) (fun j j1 j2 => by rw [show j = i from by omega]; exact h3)
  obtain ⟨t, t1, t2, t3, t4⟩ := kt (l - (i + 1)) (i + 1) (by omega) (by omega) (fun j j1 j2 => by rw [show j = i from by omega]; exact h3)
  refine ⟨w, t, w1, w2, t1, t2, fun j j1 j2 => ?_, w4, t4⟩
  rcases Nat.lt_or_ge j i with y | y
  · exact w3 j j1 (by omega)
  · exact t3 j y j2
theorem wp_nil {e : gv_T} {f l i w t : Nat} (h : wp_ok e f l i w t) : (sh_at e f w).2.2 = [] := by
  obtain ⟨h1, -, -, -, -, h2, -⟩ := h
  rcases h2 with h2 | ⟨j, rfl, hj⟩
  · rw [h2, sh_at_0]
  · rcases Nat.lt_or_ge j f with y | y
    · rw [show j + 1 = f from by omega, sh_at_0]
    · exact sh_at_sp y hj
/-- the glyph of letter i, with those before it in its part -/
def wp_C (e : gv_T) (i w t : Nat) : List Nat := (sh_cf e (i + 1) (sh_gl e w (i + 1 - w)) (t - (i + 1))).2
/-- the number of a line is at most its index -/
theorem li_num {e : gv_T} {n np pos : Nat} {g : Nat → li_T} (H : li_cl e n g np pos) : ∀ k, k < n → li_n (g k) ≤ k
  | 0, h => by rw [(H.2.2.1 (by omega)).1]; omega
  | k + 1, h => by
    have ih := li_num H k (by omega)
    rcases (H.2.1 k h).2 with ⟨-, h2, -⟩ | ⟨-, h2, -⟩ <;> omega
end
section
/-! the component: the line of a letter, its glyph, its place -/
theorem li_wb {e : gv_T} (E : gv_okF e) (hg : gv_gp e ≤ 20) {x : li_T} (h : li_ok e x) : li_w x ≤ 2700 ∧ sh_ns e (li_f x) (li_t x) ≤ 48 := by
  obtain ⟨h1, h2, h3, h4, h5, h6, h7⟩ := h
  have a1 := sh_nw_b E hg (li_f x) (li_t x)
  have a2 := sh_ns_b E hg (li_f x) (li_t x)
  have a3 := E.1
  have a4 : (if li_h x = true then 5 else 0) ≤ 5 := by split <;> omega
  omega
section
variable {e : gv_T} {f_length f_known f_joins f_patterns f_first f_rest f_narrow f_gap f_stretch f_shrink f_tolerance f_cost f_height f_breaks f_lines f_paragraphs : Int32} {a_text a_allowed a_counts a_wide a_join a_kerns a_child a_digits a_uses a_ends a_begins a_hyphened a_before a_natural a_spaces a_way a_lineFrom a_lineTo a_linePart a_linePage a_lineWide a_lineBad a_lineHyphen : Nat → Int32} {a_least a_sums : Nat → Int64}
theorem xw_lo16 {post : Int32 → SX → Prop} {n np pos i k0 : Nat} {g : Nat → li_T} (H : li_cl e n g np pos) (hn : n ≤ 48) (h48 : gv_ln e ≤ 48) (hi : i < 48) (L : ex_L (n, g) f_lines a_lineFrom a_lineTo a_linePart a_lineWide a_lineBad a_lineHyphen) (hk0 : k0 < n) (h1 : li_f (g k0) ≤ i) (h2 : i < li_t (g k0)) (h : post (nI k0) (f_length, f_known, f_joins, f_patterns, f_first, f_rest, f_narrow, f_gap, f_stretch, f_shrink, f_tolerance, f_cost, f_height, f_breaks, f_lines, f_paragraphs, a_text, a_allowed, a_counts, a_wide, a_join, a_kerns, a_child, a_digits, a_uses, a_ends, a_begins, a_hyphened, a_least, a_before, a_natural, a_spaces, a_way, a_lineFrom, a_lineTo, a_linePart, a_linePage, a_lineWide, a_lineBad, a_lineHyphen, a_sums)) :
    ∀ d m k, d < m → k + d = k0 → wX_lineOf_16 post (nI i) f_length f_known f_joins f_patterns f_first f_rest f_narrow f_gap f_stretch f_shrink f_tolerance f_cost f_height f_breaks f_lines f_paragraphs a_text a_allowed a_counts a_wide a_join a_kerns a_child a_digits a_uses a_ends a_begins a_hyphened a_least a_before a_natural a_spaces a_way a_lineFrom a_lineTo a_linePart a_linePage a_lineWide a_lineBad a_lineHyphen a_sums m (nI k) := by
  obtain ⟨L1, L2⟩ := id L
  intro d
  induction d with
  | zero =>
    intro m k hm hk
    obtain ⟨m, rfl⟩ : ∃ m', m = m' + 1 := ⟨m - 1, by omega⟩
    have : k = k0 := by omega
    subst this
    have hlt : a_lineTo k = nI (li_t (g k)) := (L2 k hk0).2.1
    have hb := (H.1 k hk0).1.2.1
    refine ⟨vp_in_nI (by omega) (by decide), ?_⟩
    rw [nI_clamp (n := k) (by omega), hlt]
    exact br_t (nI_lt h2 (by omega)) h
  | succ d ih =>
    intro m k hm hk
    obtain ⟨m, rfl⟩ : ∃ m', m = m' + 1 := ⟨m - 1, by omega⟩
    have hlt : a_lineTo k = nI (li_t (g k)) := (L2 k (show k < n by omega)).2.1
    have hmono := li_mono H d k (by omega)
    rw [show k + 1 + d = k0 from by omega] at hmono
    refine ⟨vp_in_nI (by omega) (by decide), ?_⟩
    rw [nI_clamp (n := k) (by omega), hlt]
    exact br_f (nI_nlt (by omega) (by omega)) (nm_r (nI_1 k) (ih m (k + 1) (by omega) (by omega)))
theorem xw_gaps {post : Int32 → Prop} {n np pos k : Nat} {g : Nat → li_T} (F : ex_F e f_length a_text a_wide a_join a_kerns) (H : li_cl e n g np pos) (hn : n ≤ 48) (hg20 : gv_gp e ≤ 20) (L : ex_L (n, g) f_lines a_lineFrom a_lineTo a_linePart a_lineWide a_lineBad a_lineHyphen) (hk : k < n) (h : post (nI (sh_ns e (li_f (g k)) (li_t (g k))))) : wpX_gaps post (f_length, f_known, f_joins, f_patterns, f_first, f_rest, f_narrow, f_gap, f_stretch, f_shrink, f_tolerance, f_cost, f_height, f_breaks, f_lines, f_paragraphs, a_text, a_allowed, a_counts, a_wide, a_join, a_kerns, a_child, a_digits, a_uses, a_ends, a_begins, a_hyphened, a_least, a_before, a_natural, a_spaces, a_way, a_lineFrom, a_lineTo, a_linePart, a_linePage, a_lineWide, a_lineBad, a_lineHyphen, a_sums) (nI k) := by
  obtain ⟨F1, F2, F3, F4, F5, E⟩ := id F
  obtain ⟨L1, L2⟩ := id L
  have h48 := E.1
  have hlf : a_lineFrom k = nI (li_f (g k)) := (L2 k hk).1
  have hlt : a_lineTo k = nI (li_t (g k)) := (L2 k hk).2.1
  obtain ⟨o1, o2, o3, o4, o5, o6, o7⟩ := (H.1 k hk).1
  have hv : vp_in (nI k) 48 := vp_in_nI (by omega) (by decide)
  have loop : ∀ d m q c, d < m → q + d = li_t (g k) → li_f (g k) < q → c ≤ 48 → (gv_tx e (q - 1) < 10 → c = sh_ns e (li_f (g k)) q ∧ (sh_at e (li_f (g k)) q).2.2 ≠ []) → (¬ gv_tx e (q - 1) < 10 → c + 1 = sh_ns e (li_f (g k)) q ∧ (sh_at e (li_f (g k)) q).2.2 = []) → wX_gaps_11 post (nI k) f_length f_known f_joins f_patterns f_first f_rest f_narrow f_gap f_stretch f_shrink f_tolerance f_cost f_height f_breaks f_lines f_paragraphs a_text a_allowed a_counts a_wide a_join a_kerns a_child a_digits a_uses a_ends a_begins a_hyphened a_least a_before a_natural a_spaces a_way a_lineFrom a_lineTo a_linePart a_linePage a_lineWide a_lineBad a_lineHyphen a_sums m (nI c) (nI q) := by
    intro d
    induction d with
    | zero =>
      intro m q c hm hq hfq hc c1 c2
      obtain ⟨m, rfl⟩ : ∃ m', m = m' + 1 := ⟨m - 1, by omega⟩
      have : q = li_t (g k) := by omega
      subst this
      refine ⟨hv, ?_⟩
      rw [nI_clamp (n := k) (by omega), hlt]
      have hl := o5 (li_t (g k) - 1) (by omega)
      rw [(c1 hl.2).1]
      exact br_t (nI_le (Nat.le_refl _) (by omega)) h
    | succ d ih =>
      intro m q c hm hq hfq hc c1 c2
      obtain ⟨m, rfl⟩ : ∃ m', m = m' + 1 := ⟨m - 1, by omega⟩
      have hs := sh_at_s e (f := li_f (g k)) (q := q) (by omega)
      have hnb := sh_ns_b E hg20 (li_f (g k)) (q + 1)
      have hb := E.2.1 q
      have hb1 := E.2.1 (q - 1)
      refine ⟨hv, ?_⟩
      rw [nI_clamp (n := k) (by omega), hlt]
      refine br_f (nI_ge (by omega) (by omega)) ⟨vp_in_nI (by omega) (by decide), ?_⟩
      rw [nI_m1 (by omega), nI_clamp (n := q) (by omega), nI_clamp (n := q - 1) (by omega), F2, F2]
      refine pk_le 10 (gv_tx e q) (fun y => nm_r (nI_1 q) (ih m (q + 1) c (by omega) (by omega) (by omega) hc (fun z => by rw [Nat.add_sub_cancel] at z; omega) (fun _ => ?_))) (fun y => ⟨vp_in_nI (by omega) (by decide), pk_lt (gv_tx e (q - 1)) 10 (fun y1 => nm_r (nI_1 q) (ih m (q + 1) c (by omega) (by omega) (by omega) hc (fun _ => ?_) (fun z => by rw [Nat.add_sub_cancel] at z; omega))) (fun y1 => ?_)⟩)
      · unfold sh_ns
        rw [hs]
        by_cases y1 : gv_tx e (q - 1) < 10
        · obtain ⟨e1, e2⟩ := c1 y1
          rw [sh_st_1 e _ (by omega) e2]
          unfold sh_ns at e1
          exact ⟨by rw [e1], rfl⟩
        · obtain ⟨e1, e2⟩ := c2 y1
          rw [sh_st_0 e _ (by omega) e2]
          exact ⟨e1, e2⟩
      · obtain ⟨e1, e2⟩ := c1 y1
        unfold sh_ns
        rw [hs, sh_st_l e _ y]
        exact ⟨e1, sh_push_ne e _ _⟩
      · obtain ⟨e1, e2⟩ := c2 (by omega)
        refine nm_r (nI_1 c) (nm_r (nI_1 q) (ih m (q + 1) (c + 1) (by omega) (by omega) (by omega) ?_ (fun _ => ?_) (fun z => by rw [Nat.add_sub_cancel] at z; omega)))
        · have := sh_ns_b E hg20 (li_f (g k)) q; omega
        · unfold sh_ns at e1 ⊢
          rw [hs, sh_st_l e _ y]
          exact ⟨e1, sh_push_ne e _ _⟩
  refine ⟨hv, nm_r (e' := nI (li_f (g k) + 1)) (by rw [nI_clamp (by omega), hlf, nI_1]) ⟨li_t (g k) + 1, loop (li_t (g k) - (li_f (g k) + 1)) _ (li_f (g k) + 1) 0 (by omega) (by omega) (by omega) (by omega) (fun _ => ?_) (fun z => ?_)⟩⟩
  · have hs := sh_at_s e (f := li_f (g k)) (q := li_f (g k)) (Nat.le_refl _)
    rw [sh_at_0, sh_st_l e _ o4.2] at hs
    unfold sh_ns
    rw [hs]
    show 0 = 0 ∧ sh_push e [] (gv_tx e (li_f (g k))) ≠ []
    exact ⟨rfl, sh_push_ne e _ _⟩
  · rw [Nat.add_sub_cancel] at z
    exact absurd o4.2 z
theorem xw_extra {post : Int32 → Prop} {n np pos k s : Nat} {g : Nat → li_T} (F : ex_F e f_length a_text a_wide a_join a_kerns) (M : ex_M e f_first f_rest f_narrow f_gap f_stretch f_shrink f_tolerance f_cost f_height) (H : li_cl e n g np pos) (hn : n ≤ 48) (hnp : np ≤ 24) (L : ex_L (n, g) f_lines a_lineFrom a_lineTo a_linePart a_lineWide a_lineBad a_lineHyphen) (hk : k < n) (hs : s ≤ 48) (h : post (sh_xt (bq_tg e (li_n (g k))) (li_w (g k)) s (gv_sk e) (li_l (g k)))) : wpX_extra post (f_length, f_known, f_joins, f_patterns, f_first, f_rest, f_narrow, f_gap, f_stretch, f_shrink, f_tolerance, f_cost, f_height, f_breaks, f_lines, f_paragraphs, a_text, a_allowed, a_counts, a_wide, a_join, a_kerns, a_child, a_digits, a_uses, a_ends, a_begins, a_hyphened, a_least, a_before, a_natural, a_spaces, a_way, a_lineFrom, a_lineTo, a_linePart, a_linePage, a_lineWide, a_lineBad, a_lineHyphen, a_sums) (nI k) (nI s) := by
  obtain ⟨⟨f1, m1, m2, m3⟩, M2, M3, M4, M5, M6, M7, M8, M9, K⟩ := id M
  obtain ⟨L1, L2⟩ := id L
  have E := F.2.2.2.2.2
  have hlw : a_lineWide k = nI (li_w (g k)) := (L2 k hk).2.2.2.1
  have hpk : a_linePart k = nI (li_p (g k)) := (L2 k hk).2.2.1
  have hbk := (H.1 k hk).2.1
  have hwb := (li_wb E K.2.2.2.1 (H.1 k hk).1).1
  have htg := bq_tgb K (li_n (g k))
  have hsk : s * gv_sk e ≤ 48 * 20 := Nat.mul_le_mul hs (by have := K.2.2.2.2.2.1; have := K.2.2.2.1; omega)
  have hln := li_num H k hk
  have k32 : wX_extra_32 post (nI k) (nI s) (nI (li_n (g k))) f_length f_known f_joins f_patterns f_first f_rest f_narrow f_gap f_stretch f_shrink f_tolerance f_cost f_height f_breaks f_lines f_paragraphs a_text a_allowed a_counts a_wide a_join a_kerns a_child a_digits a_uses a_ends a_begins a_hyphened a_least a_before a_natural a_spaces a_way a_lineFrom a_lineTo a_linePart a_linePage a_lineWide a_lineBad a_lineHyphen a_sums := by
    unfold wX_extra_32
    refine xw_tg M (by omega) ⟨vp_in_nI (by omega) (by decide), ?_⟩
    rw [nI_clamp (n := k) (by omega), hlw]
    have hneg : (-(nI s)) * f_shrink = -(nI (s * gv_sk e)) := by rw [M6, ← pk_mul]; grind
    unfold sh_xt at h
    rcases Nat.lt_or_ge (li_w (g k)) (bq_tg e (li_n (g k))) with y | y
    · rw [if_pos y] at h
      refine nm_r (pk_sub (Nat.le_of_lt y)) (br_f (nI_nle (by omega) (by omega)) (xw_ends H hn hnp L hk (bl_br rfl (fun y1 => ?_) (fun y1 => ?_))))
      · rw [y1] at h; exact h
      · rw [y1] at h; exact h
    · rw [if_neg (by omega)] at h
      refine nm_r (nI_neg y) (br_t ?_ ?_)
      · rw [Int32.le_iff_toInt_le, sb_negT (by omega)]
        show _ ≤ (0 : Int)
        omega
      · rw [hneg]
        refine ek_if (sb_nle (by omega) (by omega)) (fun y1 => ?_) (fun y1 => ?_)
        · rw [if_pos y1] at h; exact h
        · rw [if_neg y1] at h; exact h
  have loop : ∀ d m j, d < m → j + d = li_n (g k) → j ≤ k → li_p (g (k - j)) = li_p (g k) → li_n (g (k - j)) = d → wX_extra_2 post (nI k) (nI s) f_length f_known f_joins f_patterns f_first f_rest f_narrow f_gap f_stretch f_shrink f_tolerance f_cost f_height f_breaks f_lines f_paragraphs a_text a_allowed a_counts a_wide a_join a_kerns a_child a_digits a_uses a_ends a_begins a_hyphened a_least a_before a_natural a_spaces a_way a_lineFrom a_lineTo a_linePart a_linePage a_lineWide a_lineBad a_lineHyphen a_sums m (nI j) := by
    intro d
    induction d with
    | zero =>
      intro m j hm hj hjk hp hd
      obtain ⟨m, rfl⟩ : ∃ m', m = m' + 1 := ⟨m - 1, by omega⟩
      have ej : j = li_n (g k) := by omega
      refine pk_le k j (fun y => by rw [ej]; exact k32) (fun y => ?_)
      have e1 : nI k - nI j - 1 = nI (k - j - 1) := by rw [pk_sub hjk, nI_m1 (by omega)]
      have hp1 : a_linePart (k - j - 1) = nI (li_p (g (k - j - 1))) := (L2 (k - j - 1) (show k - j - 1 < n by omega)).2.2.1
      have hb1 := (H.1 (k - j - 1) (by omega)).2.1
      rw [e1, nI_clamp (n := k - j - 1) (by omega), nI_clamp (n := k) (by omega), hp1, hpk]
      refine ⟨vp_in_nI (by omega) (by decide), vp_in_nI (by omega) (by decide), pk_eq (li_p (g (k - j - 1))) (li_p (g k)) (fun y1 => ?_) (fun y1 => by rw [ej]; exact k32)⟩
      exfalso
      have := (li_ends H (k := k - j - 1) (by omega)).2.1
      rw [show k - j - 1 + 1 = k - j from by omega] at this
      have := this (by rw [y1, hp])
      omega
    | succ d ih =>
      intro m j hm hj hjk hp hd
      obtain ⟨m, rfl⟩ : ∃ m', m = m' + 1 := ⟨m - 1, by omega⟩
      have hjk2 : j < k := by
        rcases Nat.lt_or_ge j k with y | y
        · exact y
        · rw [show k - j = 0 from by omega, (H.2.2.1 (by omega)).1] at hd; omega
      have e1 : nI k - nI j - 1 = nI (k - j - 1) := by rw [pk_sub hjk, nI_m1 (by omega)]
      have hp1 : a_linePart (k - j - 1) = nI (li_p (g (k - j - 1))) := (L2 (k - j - 1) (show k - j - 1 < n by omega)).2.2.1
      have hb1 := (H.1 (k - j - 1) (by omega)).2.1
      have hst := (H.2.1 (k - j - 1) (by omega)).2
      rw [show k - j - 1 + 1 = k - j from by omega] at hst
      refine br_f (nI_ge hjk2 (by omega)) ?_
      rw [e1, nI_clamp (n := k - j - 1) (by omega), nI_clamp (n := k) (by omega), hp1, hpk]
      rcases hst with ⟨s1, s2, s3⟩ | ⟨s1, s2, s3⟩
      · refine ⟨vp_in_nI (by omega) (by decide), vp_in_nI (by omega) (by decide), br_t (by rw [s1, hp]) (nm_r (nI_1 j) (ih m (j + 1) (by omega) (by omega) (by omega) ?_ ?_))⟩
        · rw [show k - (j + 1) = k - j - 1 from by omega, s1, hp]
        · rw [show k - (j + 1) = k - j - 1 from by omega]; omega
      · omega
  exact ⟨li_n (g k) + 1, loop (li_n (g k)) _ 0 (by omega) (by omega) (by omega) rfl rfl⟩
theorem xw_237 {post : Int32 → Prop} {as : Bool} {acc : Nat} {x3 x4 ex : Int32} {g0 : Nat} {r0 : List Nat} (F : ex_F e f_length a_text a_wide a_join a_kerns) (hok : sh_ok (g0 :: r0)) (h3 : x3 = bl_i as) (h4 : x4 = nI (acc + sh_wd e r0) + ex) (h : post (if as = true then nI g0 else nI acc + sh_pv e (g0 :: r0) + ex)) : wX_locate_237 post x3 x4 (nI g0) (sh_hd r0) f_length f_known f_joins f_patterns f_first f_rest f_narrow f_gap f_stretch f_shrink f_tolerance f_cost f_height f_breaks f_lines f_paragraphs a_text a_allowed a_counts a_wide a_join a_kerns a_child a_digits a_uses a_ends a_begins a_hyphened a_least a_before a_natural a_spaces a_way a_lineFrom a_lineTo a_linePart a_linePage a_lineWide a_lineBad a_lineHyphen a_sums := by
  obtain ⟨F1, F2, F3, F4, F5, E⟩ := id F
  have hg := (sh_ok_c hok).1
  have hw := E.2.2.1 g0 hg
  refine bl_br h3 (fun y => ?_) (fun y => ?_)
  · rw [y] at h
    refine xw_adv (L := g0 :: r0) F hok (fun z => by cases z) ⟨vp_in_nI hg (by decide), ?_⟩
    rw [nI_clamp (n := g0) (by omega), F3 g0 hg, h4]
    have : nI (acc + sh_wd e r0) + ex + nI (sh_av e (g0 :: r0)) - nI (gv_wd e g0) = nI acc + sh_pv e (g0 :: r0) + ex := by
      cases r0 with
      | nil =>
        show nI (acc + 0) + ex + nI (gv_wd e g0) - nI (gv_wd e g0) = nI acc + 0 + ex
        rw [Nat.add_zero]; grind
      | cons p r =>
        have hp := (sh_ok_c (sh_ok_c hok).2).1
        show nI (acc + sh_wd e (p :: r)) + ex + nI (gv_wd e g0 + gv_kn e (10 * p + g0) - 5) - nI (gv_wd e g0) = nI acc + (nI (sh_wd e (p :: r)) + (nI (gv_kn e (10 * p + g0)) - 5)) + ex
        rw [← iw_kw (k := gv_kn e (10 * p + g0)) (w := gv_wd e g0) (by omega), ← nI_add]
        grind
    rw [this]; exact h
  · rw [y] at h; exact h
/-- behind the letter: only joins go on -/
theorem xw_loc2 {post : Int32 → Prop} {n np pos k i w t acc g1 : Nat} {g : Nat → li_T} {as : Bool} {x8 x9 x7 x4 ex : Int32} {r1 : List Nat} (F : ex_F e f_length a_text a_wide a_join a_kerns) (H : li_cl e n g np pos) (hn : n ≤ 48) (L : ex_L (n, g) f_lines a_lineFrom a_lineTo a_linePart a_lineWide a_lineBad a_lineHyphen) (hk : k < n) (W : wp_ok e (li_f (g k)) (li_t (g k)) i w t) (h4 : x4 = nI (acc + sh_wd e r1) + ex) (hgl : sh_gl e w (i + 1 - w) = g1 :: r1) (hok1 : sh_ok (g1 :: r1))
    (h : post (if as = true then sh_hd (wp_C e i w t) else nI acc + sh_pv e (wp_C e i w t) + ex)) :
    ∀ d m j g0, d < m → i + 1 + j + d = t → sh_cf e (i + 1) (g1 :: r1) j = (true, g0 :: r1) → wX_locate_39 post (nI k) (nI i) (bl_i as) x8 x9 f_length f_known f_joins f_patterns f_first f_rest f_narrow f_gap f_stretch f_shrink f_tolerance f_cost f_height f_breaks f_lines f_paragraphs a_text a_allowed a_counts a_wide a_join a_kerns a_child a_digits a_uses a_ends a_begins a_hyphened a_least a_before a_natural a_spaces a_way a_lineFrom a_lineTo a_linePart a_linePage a_lineWide a_lineBad a_lineHyphen a_sums m x4 (nI g0) (sh_hd r1) x7 (nI (i + 1 + j)) 1 := by
  obtain ⟨F1, F2, F3, F4, F5, E⟩ := id F
  obtain ⟨L1, L2⟩ := id L
  have h48 := E.1
  have hlt : a_lineTo k = nI (li_t (g k)) := (L2 k hk).2.1
  obtain ⟨o1, o2, o3, o4, o5, o6, o7⟩ := (H.1 k hk).1
  obtain ⟨w1, w2, w3, w4, w5, w6, w7⟩ := id W
  have hv : vp_in (nI k) 48 := vp_in_nI (by omega) (by decide)
  intro d
  induction d with
  | zero =>
    intro m j g0 hm hj hcf
    obtain ⟨m, rfl⟩ : ∃ m', m = m' + 1 := ⟨m - 1, by omega⟩
    have eC : wp_C e i w t = g0 :: r1 := by
      unfold wp_C
      rw [hgl, show t - (i + 1) = j from by omega, hcf]
    have hok : sh_ok (g0 :: r1) := by
      obtain ⟨b, g', c1, c2⟩ := sh_cf_s E (i := i + 1) hok1 j (fun q q1 q2 => w5 q (by omega) (by omega))
      rw [hcf] at c1
      simp only [Prod.mk.injEq, List.cons.injEq] at c1
      rw [c1.2.1]; exact c2
    rw [eC] at h
    have fin : wX_locate_237 post (bl_i as) x4 (nI g0) (sh_hd r1) f_length f_known f_joins f_patterns f_first f_rest f_narrow f_gap f_stretch f_shrink f_tolerance f_cost f_height f_breaks f_lines f_paragraphs a_text a_allowed a_counts a_wide a_join a_kerns a_child a_digits a_uses a_ends a_begins a_hyphened a_least a_before a_natural a_spaces a_way a_lineFrom a_lineTo a_linePart a_linePage a_lineWide a_lineBad a_lineHyphen a_sums := xw_237 F hok rfl h4 h
    refine ⟨hv, ?_⟩
    rw [nI_clamp (n := k) (by omega), hlt]
    refine pk_le (li_t (g k)) (i + 1 + j) (fun y => fin) (fun y => ⟨vp_in_nI (by omega) (by decide), nm_r (e' := nI (gv_tx e (i + 1 + j))) (by rw [nI_clamp (by omega), F2]) ?_⟩)
    have hx : ¬ gv_tx e (i + 1 + j) < 10 := by
      rw [show i + 1 + j = t from by omega]
      exact w7.resolve_left (by omega)
    have hb := E.2.1 (i + 1 + j)
    exact br_f (nI_nlt (b := 10) (by omega) (by omega)) (br_f (by decide) fin)
  | succ d ih =>
    intro m j g0 hm hj hcf
    obtain ⟨m, rfl⟩ : ∃ m', m = m' + 1 := ⟨m - 1, by omega⟩
    have hok : sh_ok (g0 :: r1) := by
      obtain ⟨b, g', c1, c2⟩ := sh_cf_s E (i := i + 1) hok1 j (fun q q1 q2 => w5 q (by omega) (by omega))
      rw [hcf] at c1
      simp only [Prod.mk.injEq, List.cons.injEq] at c1
      rw [c1.2.1]; exact c2
    have hg := (sh_ok_c hok).1
    have htx := w5 (i + 1 + j) (by omega) (by omega)
    have hjb := E.2.2.2.2 (10 * g0 + gv_tx e (i + 1 + j)) (by omega)
    refine ⟨hv, ?_⟩
    rw [nI_clamp (n := k) (by omega), hlt]
    refine br_f (nI_ge (by omega) (by omega)) ⟨vp_in_nI (by omega) (by decide), nm_r (e' := nI (gv_tx e (i + 1 + j))) (by rw [nI_clamp (by omega), F2]) (br_t (nI_lt (b := 10) htx (by omega)) (br_t (nI_pos' (by omega)) ?_))⟩
    rw [iw_ix, nI_clamp (n := 10 * g0 + gv_tx e (i + 1 + j)) (by omega), F4 _ (by omega)]
    refine ⟨vp_in_nI (by omega) (by decide), pk_le (gv_jn e (10 * g0 + gv_tx e (i + 1 + j))) 0 (fun y => br_f (by decide) ?_) (fun y => nm_r (nI_m1 (by omega)) ?_)⟩
    · have hcl := sh_cf_c (sh_cf_f hcf (by omega)) d
      have eC : wp_C e i w t = g0 :: r1 := by
        unfold wp_C
        rw [hgl, show t - (i + 1) = j + 1 + d from by omega, hcl]
      rw [eC] at h
      exact xw_237 F hok rfl h4 h
    · have hcf2 := sh_cf_t hcf (by omega)
      refine br_f ?_ (nm_r (e' := 1) (by decide) (nm_r (e' := nI (i + 1 + (j + 1))) (by rw [nI_1]; rfl) (ih m (j + 1) _ (by omega) (by omega) hcf2)))
      rw [nI_eq (by omega) (by omega)]
      omega
theorem xw_skip125 {post : Int32 → Prop} {J : _} {q' : Nat} {x1 x2 x3 x4 x5 x6 x7 x8 x9 x11 : Int32} (F : ex_F e f_length a_text a_wide a_join a_kerns) (hq : q' < 48) (hl : gv_tx e q' < 10) (h : J x4 x5 x6 x7 (nI q') x11) : ∀ d m q, d < m → q + d = q' → (∀ j, q ≤ j → j < q' → ¬ gv_tx e j < 10) → wX_locate_125 post J x1 x2 x3 x4 x5 x6 x7 x8 x9 x11 f_length f_known f_joins f_patterns f_first f_rest f_narrow f_gap f_stretch f_shrink f_tolerance f_cost f_height f_breaks f_lines f_paragraphs a_text a_allowed a_counts a_wide a_join a_kerns a_child a_digits a_uses a_ends a_begins a_hyphened a_least a_before a_natural a_spaces a_way a_lineFrom a_lineTo a_linePart a_linePage a_lineWide a_lineBad a_lineHyphen a_sums m (nI q) := by
  obtain ⟨F1, F2, F3, F4, F5, E⟩ := id F
  intro d
  induction d with
  | zero =>
    intro m q hm hd hsp
    obtain ⟨m, rfl⟩ : ∃ m', m = m' + 1 := ⟨m - 1, by omega⟩
    have : q = q' := by omega
    subst this
    refine ⟨vp_in_nI (by omega) (by decide), ?_⟩
    rw [nI_clamp (n := q) (by omega), F2]
    exact br_t (nI_lt (b := 10) hl (by omega)) h
  | succ d ih =>
    intro m q hm hd hsp
    obtain ⟨m, rfl⟩ : ∃ m', m = m' + 1 := ⟨m - 1, by omega⟩
    have hb := E.2.1 q
    have hx := hsp q (Nat.le_refl _) (by omega)
    refine ⟨vp_in_nI (by omega) (by decide), ?_⟩
    rw [nI_clamp (n := q) (by omega), F2]
    exact br_f (nI_nlt (b := 10) (by omega) (by omega)) (nm_r (nI_1 q) (ih m (q + 1) (by omega) (by omega) (fun j j1 j2 => hsp j (by omega) j2)))
theorem xw_loc1 {post : Int32 → Prop} {n np pos k i w t : Nat} {g : Nat → li_T} {as : Bool} {x9 : Int32} (F : ex_F e f_length a_text a_wide a_join a_kerns) (hgap : f_gap = nI (gv_gp e)) (hg20 : gv_gp e ≤ 20) (H : li_cl e n g np pos) (hn : n ≤ 48) (L : ex_L (n, g) f_lines a_lineFrom a_lineTo a_linePart a_lineWide a_lineBad a_lineHyphen) (hk : k < n) (W : wp_ok e (li_f (g k)) (li_t (g k)) i w t)
    (h : post (if as = true then sh_hd (wp_C e i w t) else nI (sh_at e (li_f (g k)) w).1 + sh_pv e (wp_C e i w t) + sh_ex x9 (sh_ns e (li_f (g k)) (li_t (g k))) (sh_at e (li_f (g k)) w).2.1)) :
    ∀ d m q, d + 50 < m → i ≤ q + d → li_f (g k) ≤ q → q ≤ i → (gv_tx e q < 10 ∨ (sh_at e (li_f (g k)) q).2.2 ≠ []) → wX_locate_39 post (nI k) (nI i) (bl_i as) (nI (sh_ns e (li_f (g k)) (li_t (g k)))) x9 f_length f_known f_joins f_patterns f_first f_rest f_narrow f_gap f_stretch f_shrink f_tolerance f_cost f_height f_breaks f_lines f_paragraphs a_text a_allowed a_counts a_wide a_join a_kerns a_child a_digits a_uses a_ends a_begins a_hyphened a_least a_before a_natural a_spaces a_way a_lineFrom a_lineTo a_linePart a_linePage a_lineWide a_lineBad a_lineHyphen a_sums m (nI ((sh_at e (li_f (g k)) q).1 + sh_wd e (sh_at e (li_f (g k)) q).2.2.tail) + sh_ex x9 (sh_ns e (li_f (g k)) (li_t (g k))) (sh_at e (li_f (g k)) q).2.1) (sh_hd (sh_at e (li_f (g k)) q).2.2) (sh_hd (sh_at e (li_f (g k)) q).2.2.tail) (nI (sh_at e (li_f (g k)) q).2.1) (nI q) 0 := by
  obtain ⟨F1, F2, F3, F4, F5, E⟩ := id F
  obtain ⟨L1, L2⟩ := id L
  have h48 := E.1
  have hlt : a_lineTo k = nI (li_t (g k)) := (L2 k hk).2.1
  obtain ⟨o1, o2, o3, o4, o5, o6, o7⟩ := (H.1 k hk).1
  obtain ⟨w1, w2, w3, w4, w5, w6, w7⟩ := id W
  have hv : vp_in (nI k) 48 := vp_in_nI (by omega) (by decide)
  have hi10 : gv_tx e i < 10 := w5 i w2 w3
  have letter : ∀ m q, 50 ≤ m → li_f (g k) ≤ q → q ≤ i → gv_tx e q < 10 → (q < i → wX_locate_39 post (nI k) (nI i) (bl_i as) (nI (sh_ns e (li_f (g k)) (li_t (g k)))) x9 f_length f_known f_joins f_patterns f_first f_rest f_narrow f_gap f_stretch f_shrink f_tolerance f_cost f_height f_breaks f_lines f_paragraphs a_text a_allowed a_counts a_wide a_join a_kerns a_child a_digits a_uses a_ends a_begins a_hyphened a_least a_before a_natural a_spaces a_way a_lineFrom a_lineTo a_linePart a_linePage a_lineWide a_lineBad a_lineHyphen a_sums m (nI ((sh_at e (li_f (g k)) (q + 1)).1 + sh_wd e (sh_at e (li_f (g k)) (q + 1)).2.2.tail) + sh_ex x9 (sh_ns e (li_f (g k)) (li_t (g k))) (sh_at e (li_f (g k)) (q + 1)).2.1) (sh_hd (sh_at e (li_f (g k)) (q + 1)).2.2) (sh_hd (sh_at e (li_f (g k)) (q + 1)).2.2.tail) (nI (sh_at e (li_f (g k)) (q + 1)).2.1) (nI (q + 1)) 0) → wX_locate_39 post (nI k) (nI i) (bl_i as) (nI (sh_ns e (li_f (g k)) (li_t (g k)))) x9 f_length f_known f_joins f_patterns f_first f_rest f_narrow f_gap f_stretch f_shrink f_tolerance f_cost f_height f_breaks f_lines f_paragraphs a_text a_allowed a_counts a_wide a_join a_kerns a_child a_digits a_uses a_ends a_begins a_hyphened a_least a_before a_natural a_spaces a_way a_lineFrom a_lineTo a_linePart a_linePage a_lineWide a_lineBad a_lineHyphen a_sums (m + 1) (nI ((sh_at e (li_f (g k)) q).1 + sh_wd e (sh_at e (li_f (g k)) q).2.2.tail) + sh_ex x9 (sh_ns e (li_f (g k)) (li_t (g k))) (sh_at e (li_f (g k)) q).2.1) (sh_hd (sh_at e (li_f (g k)) q).2.2) (sh_hd (sh_at e (li_f (g k)) q).2.2.tail) (nI (sh_at e (li_f (g k)) q).2.1) (nI q) 0 := by
    intro m q hm hfq hqi htx hnext
    have hS := sh_at_s e hfq
    rw [sh_st_l e _ htx] at hS
    have hok := sh_at_ok E hg20 (li_f (g k)) q
    have hb1 := sh_at_1b E hg20 (li_f (g k)) q
    have key : ∀ x4 x5 x6 : Int32, x4 = nI ((sh_at e (li_f (g k)) (q + 1)).1 + sh_wd e (sh_at e (li_f (g k)) (q + 1)).2.2.tail) + sh_ex x9 (sh_ns e (li_f (g k)) (li_t (g k))) (sh_at e (li_f (g k)) (q + 1)).2.1 → x5 = sh_hd (sh_at e (li_f (g k)) (q + 1)).2.2 → x6 = sh_hd (sh_at e (li_f (g k)) (q + 1)).2.2.tail → wX_locate_215 post (wX_locate_39 post (nI k) (nI i) (bl_i as) (nI (sh_ns e (li_f (g k)) (li_t (g k)))) x9 f_length f_known f_joins f_patterns f_first f_rest f_narrow f_gap f_stretch f_shrink f_tolerance f_cost f_height f_breaks f_lines f_paragraphs a_text a_allowed a_counts a_wide a_join a_kerns a_child a_digits a_uses a_ends a_begins a_hyphened a_least a_before a_natural a_spaces a_way a_lineFrom a_lineTo a_linePart a_linePage a_lineWide a_lineBad a_lineHyphen a_sums m) (nI k) (nI i) (bl_i as) x4 x5 x6 (nI (sh_at e (li_f (g k)) q).2.1) (nI (sh_ns e (li_f (g k)) (li_t (g k)))) x9 (nI q) 0 f_length f_known f_joins f_patterns f_first f_rest f_narrow f_gap f_stretch f_shrink f_tolerance f_cost f_height f_breaks f_lines f_paragraphs a_text a_allowed a_counts a_wide a_join a_kerns a_child a_digits a_uses a_ends a_begins a_hyphened a_least a_before a_natural a_spaces a_way a_lineFrom a_lineTo a_linePart a_linePage a_lineWide a_lineBad a_lineHyphen a_sums := by
      intro x4 x5 x6 e4 e5 e6
      subst e4 e5 e6
      have e7 : (sh_at e (li_f (g k)) q).2.1 = (sh_at e (li_f (g k)) (q + 1)).2.1 := by rw [hS]
      refine pk_eq q i (fun y => nm_r (e' := 1) (by decide) (nm_r (nI_1 q) ?_)) (fun y => nm_r (e' := 0) (by decide) (nm_r (nI_1 q) ?_))
      · subst y
        have hw := sh_word (e := e) w1 (wp_nil W) (q + 1 - w) (fun j j1 j2 => w5 j j1 (by omega))
        rw [show w + (q + 1 - w) = q + 1 from by omega] at hw
        have hne := sh_at_ne hfq htx
        have hok' := sh_at_ok E hg20 (li_f (g k)) (q + 1)
        rw [hw] at hne hok' ⊢
        obtain ⟨g1, r1, hgl⟩ : ∃ g1 r1, sh_gl e w (q + 1 - w) = g1 :: r1 := by
          cases hx : sh_gl e w (q + 1 - w) with
          | nil => exact absurd hx hne
          | cons g1 r1 => exact ⟨g1, r1, rfl⟩
        dsimp only at hok' ⊢
        rw [hgl] at hok' ⊢
        exact xw_loc2 (acc := (sh_at e (li_f (g k)) w).1) F H hn L hk W rfl hgl hok' h (t - (q + 1)) m 0 g1 (by omega) (by omega) rfl
      · rw [e7]
        exact hnext (by omega)
    refine ⟨hv, ?_⟩
    rw [nI_clamp (n := k) (by omega), hlt]
    refine br_f (nI_ge (by omega) (by omega)) ⟨vp_in_nI (by omega) (by decide), nm_r (e' := nI (gv_tx e q)) (by rw [nI_clamp (by omega), F2]) (br_t (nI_lt (b := 10) htx (by omega)) ?_)⟩
    rw [hS] at key
    dsimp only at key
    revert key hok
    generalize (sh_at e (li_f (g k)) q).2.2 = L2
    intro hok key
    cases L2 with
    | nil =>
      refine br_f (by show ¬ (0 : Int32) ≤ -1; decide) (br_t (by decide) (br_t rfl (br_t (by show (-1 : Int32) < 0; decide) ?_)))
      exact key _ _ _ rfl rfl rfl
    | cons g1 r1 =>
      have hg := (sh_ok_c hok).1
      have hj := E.2.2.2.2 (10 * g1 + gv_tx e q) (by omega)
      refine br_t (nI_pos' (by omega)) ?_
      have eix := iw_ix g1 (gv_tx e q)
      refine ⟨by rw [show sh_hd (g1 :: r1) = nI g1 from rfl, eix]; exact vp_in_nI (by omega) (by decide), ?_⟩
      rw [show sh_hd (g1 :: r1) = nI g1 from rfl, eix, nI_clamp (n := 10 * g1 + gv_tx e q) (by omega), F4 (10 * g1 + gv_tx e q) (by omega)]
      by_cases hj0 : gv_jn e (10 * g1 + gv_tx e q) = 0
      · have ep : sh_push e (g1 :: r1) (gv_tx e q) = gv_tx e q :: g1 :: r1 := if_pos hj0
        rw [ep] at key
        rw [hj0]
        refine br_t (by decide) (br_t rfl (br_f (nI_pos (by omega)) ?_))
        refine xw_adv (L := g1 :: r1) F hok (fun z => by cases z) (nm_e (key _ _ _ ?_ rfl rfl))
        rw [show ((gv_tx e q :: g1 :: r1).tail) = g1 :: r1 from rfl, sh_wd_t e (g1 :: r1), show (g1 :: r1).tail = r1 from rfl, ← nI_add, ← nI_add, ← nI_add]
        grind
      · have ep : sh_push e (g1 :: r1) (gv_tx e q) = (gv_jn e (10 * g1 + gv_tx e q) - 1) :: r1 := if_neg hj0
        rw [ep] at key
        exact br_f (nI_nle (by omega) (by omega)) (nm_r (nI_m1 (by omega)) (key _ _ _ rfl rfl rfl))
  intro d
  induction d with
  | zero =>
    intro m q hm hq hfq hqi hnz
    obtain ⟨m, rfl⟩ : ∃ m', m = m' + 1 := ⟨m - 1, by omega⟩
    have : q = i := by omega
    subst this
    exact letter m q (by omega) hfq (Nat.le_refl _) hi10 (fun y => by omega)
  | succ d ih =>
    intro m q hm hq hfq hqi hnz
    obtain ⟨m, rfl⟩ : ∃ m', m = m' + 1 := ⟨m - 1, by omega⟩
    by_cases htx : gv_tx e q < 10
    · refine letter m q (by omega) hfq hqi htx (fun y => ih m (q + 1) (by omega) (by omega) (by omega) (by omega) (Or.inr (sh_at_ne hfq htx)))
    · have hne := hnz.resolve_left htx
      have hb := E.2.1 q
      have hqi2 : q < i := by
        rcases Nat.lt_or_ge q i with y | y
        · exact y
        · exact absurd hi10 (by rw [show i = q from by omega]; exact htx)
      obtain ⟨p1, p2, p3, p4⟩ := wo_fl_ex (e := e) (n := 48) (q := q) (j := i) hqi (by omega) ⟨by omega, hi10⟩
      have hsp : ∀ j, q ≤ j → j < wo_fl e 48 q → ¬ gv_tx e j < 10 := fun j j1 j2 z => p4 j j1 j2 ⟨by omega, z⟩
      have hql : q < wo_fl e 48 q := by
        rcases Nat.lt_or_ge q (wo_fl e 48 q) with y | y
        · exact y
        · exact absurd p1.2 (by rw [show wo_fl e 48 q = q from by omega]; exact htx)
      have hgp := sh_gap (e := e) (f := li_f (g k)) (q := q) (q' := wo_fl e 48 q) hfq hql hne hsp
      have hmono := sh_ns_mono (e := e) (f := li_f (g k)) (q := wo_fl e 48 q) (by omega) (li_t (g k) - wo_fl e 48 q)
      rw [show wo_fl e 48 q + (li_t (g k) - wo_fl e 48 q) = li_t (g k) from by omega] at hmono
      have htot : 0 < sh_ns e (li_f (g k)) (li_t (g k)) := by
        have : sh_ns e (li_f (g k)) (wo_fl e 48 q) = (sh_at e (li_f (g k)) q).2.1 + 1 := by
          unfold sh_ns; rw [hgp]
        omega
      have htb := sh_ns_b E hg20 (li_f (g k)) (li_t (g k))
      have hok := sh_at_ok E hg20 (li_f (g k)) q
      have hx8 : ¬ nI (sh_ns e (li_f (g k)) (li_t (g k))) = 0 := nI_ne0 htot (by omega)
      have hnext := ih m (wo_fl e 48 q) (by omega) (by omega) (by omega) p3 (Or.inl p1.2)
      rw [hgp] at hnext
      dsimp only at hnext
      refine ⟨hv, ?_⟩
      rw [nI_clamp (n := k) (by omega), hlt]
      refine br_f (nI_ge (by omega) (by omega)) ⟨vp_in_nI (by omega) (by decide), nm_r (e' := nI (gv_tx e q)) (by rw [nI_clamp (by omega), F2]) (br_f (nI_nlt (b := 10) (by omega) (by omega)) (br_t rfl ?_))⟩
      revert hnext hok hne
      generalize (sh_at e (li_f (g k)) q).2.2 = L2
      generalize (sh_at e (li_f (g k)) q).1 = acc
      generalize (sh_at e (li_f (g k)) q).2.1 = gaps
      intro hne hok hnext
      refine xw_adv (L := L2) F hok hne (nm_e ⟨hx8, hx8, nm_r (e' := nI (acc + sh_wd e L2 + gv_gp e) + sh_ex x9 (sh_ns e (li_f (g k)) (li_t (g k))) (gaps + 1)) ?_ (nm_r (nI_1 gaps) ⟨wo_fl e 48 q + 1, ?_⟩)⟩)
      · rw [nI_1, sh_ex_q x9 htot (by omega), sh_ex_q x9 htot (by omega), hgap, sh_wd_t e L2, ← nI_add, ← nI_add, ← nI_add, ← nI_add]
        grind
      · exact xw_skip125 F (by omega) p1.2 hnext (wo_fl e 48 q - q) _ q (by omega) (by omega) hsp
theorem xw_locate {post : Int32 → Prop} {n np pos k i w t : Nat} {g : Nat → li_T} {as : Bool} (F : ex_F e f_length a_text a_wide a_join a_kerns) (M : ex_M e f_first f_rest f_narrow f_gap f_stretch f_shrink f_tolerance f_cost f_height) (H : li_cl e n g np pos) (hn : n ≤ 48) (hnp : np ≤ 24) (L : ex_L (n, g) f_lines a_lineFrom a_lineTo a_linePart a_lineWide a_lineBad a_lineHyphen) (hk : k < n) (W : wp_ok e (li_f (g k)) (li_t (g k)) i w t)
    (h : post (if as = true then sh_hd (wp_C e i w t) else nI (sh_at e (li_f (g k)) w).1 + sh_pv e (wp_C e i w t) + sh_ex (sh_xt (bq_tg e (li_n (g k))) (li_w (g k)) (sh_ns e (li_f (g k)) (li_t (g k))) (gv_sk e) (li_l (g k))) (sh_ns e (li_f (g k)) (li_t (g k))) (sh_at e (li_f (g k)) w).2.1)) : wpX_locate post (f_length, f_known, f_joins, f_patterns, f_first, f_rest, f_narrow, f_gap, f_stretch, f_shrink, f_tolerance, f_cost, f_height, f_breaks, f_lines, f_paragraphs, a_text, a_allowed, a_counts, a_wide, a_join, a_kerns, a_child, a_digits, a_uses, a_ends, a_begins, a_hyphened, a_least, a_before, a_natural, a_spaces, a_way, a_lineFrom, a_lineTo, a_linePart, a_linePage, a_lineWide, a_lineBad, a_lineHyphen, a_sums) (nI k) (nI i) (bl_i as) := by
  have E := F.2.2.2.2.2
  have K := M.2.2.2.2.2.2.2.2.2
  have hlf : a_lineFrom k = nI (li_f (g k)) := (L.2 k hk).1
  have hwb := (li_wb E K.2.2.2.1 (H.1 k hk).1).2
  obtain ⟨w1, w2, w3, w4, w5, w6, w7⟩ := id W
  obtain ⟨o1, o2, o3, o4, o5, o6, o7⟩ := (H.1 k hk).1
  have h48 := E.1
  unfold wpX_locate
  refine xw_gaps F H hn K.2.2.2.1 L hk (xw_extra F M H hn hnp L hk hwb ⟨vp_in_nI (by omega) (by decide), nm_r (e' := nI (li_f (g k))) (by rw [nI_clamp (by omega), hlf]) ⟨150, ?_⟩⟩)
  have : wX_locate_39 post (nI k) (nI i) (bl_i as) (nI (sh_ns e (li_f (g k)) (li_t (g k)))) (sh_xt (bq_tg e (li_n (g k))) (li_w (g k)) (sh_ns e (li_f (g k)) (li_t (g k))) (gv_sk e) (li_l (g k))) f_length f_known f_joins f_patterns f_first f_rest f_narrow f_gap f_stretch f_shrink f_tolerance f_cost f_height f_breaks f_lines f_paragraphs a_text a_allowed a_counts a_wide a_join a_kerns a_child a_digits a_uses a_ends a_begins a_hyphened a_least a_before a_natural a_spaces a_way a_lineFrom a_lineTo a_linePart a_linePage a_lineWide a_lineBad a_lineHyphen a_sums 150 (nI ((sh_at e (li_f (g k)) (li_f (g k))).1 + sh_wd e (sh_at e (li_f (g k)) (li_f (g k))).2.2.tail) + sh_ex (sh_xt (bq_tg e (li_n (g k))) (li_w (g k)) (sh_ns e (li_f (g k)) (li_t (g k))) (gv_sk e) (li_l (g k))) (sh_ns e (li_f (g k)) (li_t (g k))) (sh_at e (li_f (g k)) (li_f (g k))).2.1) (sh_hd (sh_at e (li_f (g k)) (li_f (g k))).2.2) (sh_hd (sh_at e (li_f (g k)) (li_f (g k))).2.2.tail) (nI (sh_at e (li_f (g k)) (li_f (g k))).2.1) (nI (li_f (g k))) 0 := xw_loc1 F M.2.2.2.1 K.2.2.2.1 H hn L hk W h i 150 (li_f (g k)) (by omega) (by omega) (Nat.le_refl _) (by omega) (Or.inl o4.2)
  rw [sh_at_0] at this
  have e0 : nI (0 + sh_wd e ([] : List Nat).tail) + sh_ex (sh_xt (bq_tg e (li_n (g k))) (li_w (g k)) (sh_ns e (li_f (g k)) (li_t (g k))) (gv_sk e) (li_l (g k))) (sh_ns e (li_f (g k)) (li_t (g k))) 0 = 0 := by
    show nI (0 + 0) + 0 = 0
    decide
  dsimp only at this
  rw [e0] at this
  exact this
end
end
section
/-! the trie: keys (letter + 1, letter + 1 or 0, letter + 1 or 0), N the node of a key, C its uses, G the digits of the pattern -/
abbrev tr_K : Type := Nat × Nat × Nat
def tr_ok (w : tr_K) : Prop := 1 ≤ w.1 ∧ w.1 ≤ 11 ∧ w.2.1 ≤ 11 ∧ w.2.2 ≤ 11 ∧ (w.2.1 = 0 → w.2.2 = 0)
def tr_x (w : tr_K) (l : Nat) : tr_K := if w.1 = 0 then (l + 1, 0, 0) else if w.2.1 = 0 then (w.1, l + 1, 0) else (w.1, w.2.1, l + 1)
def tr_in (N : tr_K → Nat) (w : tr_K) : Prop := w.2.2 = 0 ∧ (w = (0, 0, 0) ∨ (tr_ok w ∧ N w ≠ 0))
def tr_u (f : tr_K → Nat) (k : tr_K) (v : Nat) : tr_K → Nat := fun w => if w = k then v else f w
theorem tr_us (f : tr_K → Nat) (k : tr_K) (v : Nat) : tr_u f k v k = v := if_pos rfl
theorem tr_un (f : tr_K → Nat) {k w : tr_K} (v : Nat) (h : w ≠ k) : tr_u f k v w = f w := if_neg h
def tr_sum (f : Nat → Nat) : Nat → Nat
  | 0 => 0
  | n + 1 => tr_sum f n + f (n + 1)
theorem tr_sum_u {f : Nat → Nat} {v a b : Nat} (hf : f v = a) : ∀ n, (v = 0 ∨ n < v → tr_sum (dp_u f v b) n = tr_sum f n) ∧ (1 ≤ v → v ≤ n → tr_sum (dp_u f v b) n + a = tr_sum f n + b)
  | 0 => ⟨fun _ => rfl, fun h1 h2 => by omega⟩
  | n + 1 => by
    obtain ⟨i1, i2⟩ := tr_sum_u (b := b) hf n
    refine ⟨fun h => ?_, fun h1 h2 => ?_⟩
    · show tr_sum (dp_u f v b) n + dp_u f v b (n + 1) = tr_sum f n + f (n + 1)
      rw [dp_un _ _ (by omega), i1 (by omega)]
    · show tr_sum (dp_u f v b) n + dp_u f v b (n + 1) + a = tr_sum f n + f (n + 1) + b
      by_cases e : v = n + 1
      · subst e
        rw [dp_us, i1 (Or.inr (by omega)), hf]; omega
      · rw [dp_un _ _ (fun z => e z.symm)]
        have := i2 h1 (by omega)
        omega
theorem tr_sum_full {f : Nat → Nat} : ∀ n, (∀ v, 1 ≤ v → v ≤ n → 1 ≤ f v) → n ≤ tr_sum f n
  | 0, _ => Nat.le_refl _
  | n + 1, h => by
    have i := tr_sum_full n (fun v a b => h v a (by omega))
    have := h (n + 1) (by omega) (Nat.le_refl _)
    show n + 1 ≤ tr_sum f n + f (n + 1)
    omega
def tr_T (C G N : tr_K → Nat) (ch us dg : Nat → Nat) (S : Nat) : Prop :=
  (N (0, 0, 0) = 0 ∧ dg 0 = 0) ∧
  (∀ w, tr_ok w → N w < 32 ∧ (N w = 0 ↔ C w = 0) ∧ (N w ≠ 0 → us (N w) = C w ∧ dg (N w) = G w) ∧ (G w ≠ 0 → C w ≠ 0)) ∧
  (∀ w w', tr_ok w → tr_ok w' → N w = N w' → N w ≠ 0 → w = w') ∧
  (∀ v, 1 ≤ v → v < 32 → (∀ w, tr_ok w → N w ≠ v) → us v = 0 ∧ dg v = 0 ∧ ∀ l, l < 11 → ch (11 * v + l) = 0) ∧
  (∀ w l, tr_in N w → l < 11 → ch (11 * N w + l) = N (tr_x w l)) ∧
  (∀ w l, tr_ok w → w.2.2 ≠ 0 → N w ≠ 0 → l < 11 → ch (11 * N w + l) = 0) ∧
  (∀ w l, tr_ok w → w.2.2 = 0 → l < 11 → C (tr_x w l) ≠ 0 → C w ≠ 0) ∧
  tr_sum us 31 ≤ S
theorem tr_x_ok {w : tr_K} {l : Nat} (h : w.2.2 = 0) (h2 : w = (0, 0, 0) ∨ tr_ok w) (hl : l < 11) : tr_ok (tr_x w l) := by
  rcases h2 with rfl | ⟨a1, a2, a3, a4, a5⟩
  · show 1 ≤ l + 1 ∧ l + 1 ≤ 11 ∧ (0 : Nat) ≤ 11 ∧ (0 : Nat) ≤ 11 ∧ ((0 : Nat) = 0 → (0 : Nat) = 0)
    omega
  · unfold tr_x
    rw [if_neg (by omega)]
    split
    · show 1 ≤ w.1 ∧ w.1 ≤ 11 ∧ l + 1 ≤ 11 ∧ (0 : Nat) ≤ 11 ∧ (l + 1 = 0 → (0 : Nat) = 0)
      omega
    · show 1 ≤ w.1 ∧ w.1 ≤ 11 ∧ w.2.1 ≤ 11 ∧ l + 1 ≤ 11 ∧ (w.2.1 = 0 → l + 1 = 0)
      omega
theorem tr_k3 {a b c a' b' c' : Nat} (h1 : a = a') (h2 : b = b') (h3 : c = c') : ((a, b, c) : tr_K) = (a', b', c') := by rw [h1, h2, h3]
theorem tr_x_inj {w w' : tr_K} {l l' : Nat} (h : w.2.2 = 0) (h2 : w = (0, 0, 0) ∨ tr_ok w) (h' : w'.2.2 = 0) (h2' : w' = (0, 0, 0) ∨ tr_ok w') (e : tr_x w l = tr_x w' l') : w = w' ∧ l = l' := by
  obtain ⟨a, b, c⟩ := w
  obtain ⟨a', b', c'⟩ := w'
  have h0 : c = 0 := h
  have h0' : c' = 0 := h'
  subst h0 h0'
  unfold tr_x at e
  rcases h2 with h2 | ⟨p1, p2, p3, p4, p5⟩
  · simp only [Prod.mk.injEq] at h2
    obtain ⟨rfl, rfl, -⟩ := h2
    rcases h2' with h2' | ⟨q1, q2, q3, q4, q5⟩
    · simp only [Prod.mk.injEq] at h2'
      obtain ⟨rfl, rfl, -⟩ := h2'
      simp only [if_pos] at e
      simp only [Prod.mk.injEq] at e
      exact ⟨rfl, by omega⟩
    · dsimp only at q1 q2 q3 q4 q5 e
      rw [if_pos rfl, if_neg (by omega)] at e
      split at e <;> simp only [Prod.mk.injEq] at e <;> omega
  · dsimp only at p1 p2 p3 p4 p5 e
    rw [if_neg (by omega)] at e
    rcases h2' with h2' | ⟨q1, q2, q3, q4, q5⟩
    · simp only [Prod.mk.injEq] at h2'
      obtain ⟨rfl, rfl, -⟩ := h2'
      rw [if_pos rfl] at e
      split at e <;> simp only [Prod.mk.injEq] at e <;> omega
    · dsimp only at q1 q2 q3 q4 q5 e
      rw [if_neg (by omega : ¬ a' = 0)] at e
      split at e <;> split at e <;> simp only [Prod.mk.injEq] at e
      · exact ⟨tr_k3 (by omega) (by omega) rfl, by omega⟩
      · omega
      · omega
      · exact ⟨tr_k3 (by omega) (by omega) rfl, by omega⟩
theorem tr_x_ne {w : tr_K} {l : Nat} (h : w.2.2 = 0) (h2 : w = (0, 0, 0) ∨ tr_ok w) : w ≠ tr_x w l := by
  obtain ⟨a, b, c⟩ := w
  have h0 : c = 0 := h
  subst h0
  unfold tr_x
  intro e
  dsimp only at e
  rcases h2 with h2 | ⟨p1, -⟩
  · simp only [Prod.mk.injEq] at h2
    obtain ⟨rfl, rfl, -⟩ := h2
    rw [if_pos rfl] at e
    simp only [Prod.mk.injEq] at e
    omega
  · dsimp only at p1
    rw [if_neg (by omega)] at e
    split at e <;> simp only [Prod.mk.injEq] at e <;> omega
theorem tr_in_ok {N : tr_K → Nat} {w : tr_K} (h : tr_in N w) : w = (0, 0, 0) ∨ tr_ok w := h.2.elim Or.inl (fun z => Or.inr z.1)
section
variable {C G N : tr_K → Nat} {ch us dg : Nat → Nat} {S : Nat}
theorem tr_img (T : tr_T C G N ch us dg S) {w w' : tr_K} (h : tr_in N w) (h' : tr_in N w') (e : N w = N w') : w = w' := by
  obtain ⟨⟨a1, -⟩, a2, a3, -⟩ := T
  rcases h.2 with rfl | ⟨o, n⟩
  · rcases h'.2 with rfl | ⟨o', n'⟩
    · rfl
    · rw [a1] at e; exact absurd e.symm n'
  · rcases h'.2 with rfl | ⟨o', n'⟩
    · rw [a1] at e; exact absurd e n
    · exact a3 w w' o o' e n
theorem tr_free (T : tr_T C G N ch us dg S) {v : Nat} (h1 : 1 ≤ v) (hv : us v = 0) : ∀ w, tr_ok w → N w ≠ v := by
  intro w hw e
  obtain ⟨-, a2, -⟩ := T
  obtain ⟨-, b2, b3, -⟩ := a2 w hw
  have hn : N w ≠ 0 := by omega
  have := (b3 hn).1
  rw [e, hv] at this
  exact hn (b2.mpr this.symm)
theorem tr_room (T : tr_T C G N ch us dg S) (hS : S < 31) : ∃ v, 1 ≤ v ∧ v ≤ 31 ∧ us v = 0 ∧ ∀ u, 1 ≤ u → u < v → 0 < us u := by
  obtain ⟨-, -, -, -, -, -, -, a8⟩ := T
  have hex : ∃ v, 1 ≤ v ∧ v ≤ 31 ∧ us v = 0 := by
    rcases Classical.em (∃ v, 1 ≤ v ∧ v ≤ 31 ∧ us v = 0) with y | y
    · exact y
    · exfalso
      have := tr_sum_full (f := us) 31 (fun v a b => by
        rcases Nat.eq_zero_or_pos (us v) with z | z
        · exact absurd ⟨v, a, b, z⟩ y
        · exact z)
      omega
  obtain ⟨v, ⟨v1, v2, v3⟩, v4⟩ := pk_least (fun v => 1 ≤ v ∧ v ≤ 31 ∧ us v = 0) hex
  refine ⟨v, v1, v2, v3, fun u u1 u2 => ?_⟩
  rcases Nat.eq_zero_or_pos (us u) with z | z
  · exact absurd ⟨u1, by omega, z⟩ (v4 u u2)
  · exact z
theorem tr_new (T : tr_T C G N ch us dg S) {w : tr_K} {l v : Nat} (hw : tr_in N w) (hl : l < 11) (h0 : N (tr_x w l) = 0) (h1 : 1 ≤ v) (h2 : v < 32) (hv : us v = 0) : tr_T (tr_u C (tr_x w l) (C (tr_x w l) + 1)) G (tr_u N (tr_x w l) v) (dp_u ch (11 * N w + l) v) (dp_u us v 1) dg (S + 1) := by
  have hfr := tr_free T h1 hv
  have hxo := tr_x_ok (l := l) hw.1 (tr_in_ok hw) hl
  have hNw : N w ≠ v := by
    rcases hw.2 with rfl | ⟨o, -⟩
    · rw [T.1.1]; omega
    · exact hfr w o
  have hwx := tr_x_ne (l := l) hw.1 (tr_in_ok hw)
  obtain ⟨⟨a1, a1'⟩, a2, a3, a4, a5, a6, a7, a8⟩ := id T
  obtain ⟨f1, f2, f3⟩ := a4 v h1 h2 hfr
  have hC0 : C (tr_x w l) = 0 := (a2 _ hxo).2.1.mp h0
  have hix : ∀ {v' l' : Nat}, l' < 11 → v' ≠ N w → 11 * v' + l' ≠ 11 * N w + l := fun hl' hn => by omega
  refine ⟨⟨?_, a1'⟩, fun w' ho => ?_, fun w' w'' o' o'' e n => ?_, fun v' p1 p2 p3 => ?_, fun w' l' hi hl' => ?_, fun w' l' ho hz hn hl' => ?_, fun w' l' ho hz hl' hc => ?_, ?_⟩
  · rw [tr_un]
    · exact a1
    · intro e; have := hxo.1; rw [← e] at this; exact absurd this (by decide)
  · obtain ⟨b1, b2, b3, b4⟩ := a2 w' ho
    by_cases e : w' = tr_x w l
    · rw [e, tr_us, tr_us, dp_us, hC0]
      refine ⟨h2, by omega, fun _ => ⟨rfl, ?_⟩, fun _ => by omega⟩
      rw [f2]
      rcases Nat.eq_zero_or_pos (G (tr_x w l)) with z | z
      · exact z.symm
      · exact absurd hC0 ((a2 _ hxo).2.2.2 (by omega))
    · rw [tr_un _ _ e, tr_un _ _ e, dp_un _ _ (hfr w' ho)]
      exact ⟨b1, b2, b3, b4⟩
  · by_cases e1 : w' = tr_x w l
    · by_cases e2 : w'' = tr_x w l
      · rw [e1, e2]
      · rw [e1, tr_us, tr_un _ _ e2] at e
        exact absurd e.symm (hfr w'' o'')
    · by_cases e2 : w'' = tr_x w l
      · rw [e2, tr_us, tr_un _ _ e1] at e
        exact absurd e (hfr w' o')
      · rw [tr_un _ _ e1] at e n
        rw [tr_un _ _ e2] at e
        exact a3 w' w'' o' o'' e n
  · have hvv : v' ≠ v := by
      intro z
      have := p3 _ hxo
      rw [tr_us] at this
      exact this z.symm
    have hno : ∀ w', tr_ok w' → N w' ≠ v' := by
      intro w' ho e
      by_cases e1 : w' = tr_x w l
      · rw [e1, h0] at e; omega
      · have := p3 w' ho
        rw [tr_un _ _ e1] at this
        exact this e
    obtain ⟨c1, c2, c3⟩ := a4 v' p1 p2 hno
    rw [dp_un _ _ hvv]
    refine ⟨c1, c2, fun l' hl' => ?_⟩
    rw [dp_un _ _ (hix hl' ?_)]
    · exact c3 l' hl'
    · intro z
      rcases hw.2 with rfl | ⟨o, -⟩
      · rw [a1] at z; omega
      · exact hno w o z.symm
  · by_cases e1 : w' = tr_x w l
    · have hz : (tr_x w l).2.2 = 0 := by rw [← e1]; exact hi.1
      rw [e1, tr_us, dp_un _ _ (hix hl' (fun z => hNw z.symm)), f3 l' hl', tr_un _ _ (fun z => tr_x_ne (l := l') hz (Or.inr hxo) z.symm)]
      have hxx := tr_x_ok (l := l') hz (Or.inr hxo) hl'
      refine ((a2 _ hxx).2.1.mpr ?_).symm
      rcases Nat.eq_zero_or_pos (C (tr_x (tr_x w l) l')) with z | z
      · exact z
      · exact absurd hC0 (a7 _ l' hxo hz hl' (by omega))
    · have hi' : tr_in N w' := ⟨hi.1, hi.2.elim Or.inl (fun z => Or.inr ⟨z.1, by have := z.2; rw [tr_un _ _ e1] at this; exact this⟩)⟩
      rw [tr_un _ _ e1]
      by_cases e2 : w' = w ∧ l' = l
      · obtain ⟨rfl, rfl⟩ := e2
        rw [dp_us, tr_us]
      · have hne : 11 * N w' + l' ≠ 11 * N w + l := by
          intro z
          have : N w' = N w ∧ l' = l := by omega
          exact e2 ⟨tr_img T hi' hw this.1, this.2⟩
        rw [dp_un _ _ hne, a5 w' l' hi' hl', tr_un]
        intro z
        have := tr_x_inj hi.1 (tr_in_ok hi') hw.1 (tr_in_ok hw) z
        exact e2 this
  · by_cases e1 : w' = tr_x w l
    · rw [e1, tr_us, dp_un _ _ (hix hl' (fun z => hNw z.symm))]
      exact f3 l' hl'
    · rw [tr_un _ _ e1] at hn ⊢
      rw [dp_un _ _ (hix hl' ?_)]
      · exact a6 w' l' ho hz hn hl'
      · intro z
        rcases hw.2 with rfl | ⟨o, n⟩
        · rw [a1] at z; exact hn z
        · have := a3 w' w ho o z hn
          rw [this] at hz
          exact hz hw.1
  · by_cases e1 : tr_x w' l' = tr_x w l
    · obtain ⟨rfl, rfl⟩ := tr_x_inj hz (Or.inr ho) hw.1 (tr_in_ok hw) e1
      rw [tr_un _ _ hwx]
      rcases hw.2 with e2 | ⟨o, n⟩
      · rw [e2] at ho; exact absurd ho.1 (by decide)
      · exact fun z => n ((a2 _ o).2.1.mpr z)
    · rw [tr_un _ _ e1] at hc
      have := a7 w' l' ho hz hl' hc
      by_cases e2 : w' = tr_x w l
      · rw [e2, tr_us]; omega
      · rw [tr_un _ _ e2]; exact this
  · have := (tr_sum_u (b := 1) hv 31).2 h1 (by omega)
    omega
theorem tr_old (T : tr_T C G N ch us dg S) {x : tr_K} (hx : tr_ok x) (h0 : N x ≠ 0) : tr_T (tr_u C x (C x + 1)) G N ch (dp_u us (N x) (us (N x) + 1)) dg (S + 1) := by
  obtain ⟨⟨a1, a1'⟩, a2, a3, a4, a5, a6, a7, a8⟩ := id T
  refine ⟨⟨a1, a1'⟩, fun w' ho => ?_, a3, fun v' p1 p2 p3 => ?_, a5, a6, fun w' l' ho hz hl' hc => ?_, ?_⟩
  · obtain ⟨b1, b2, b3, b4⟩ := a2 w' ho
    by_cases e : w' = x
    · rw [e, tr_us, dp_us]
      rw [e] at b1 b2 b3 b4
      exact ⟨b1, by omega, fun z => ⟨by rw [(b3 z).1], (b3 z).2⟩, fun _ => by omega⟩
    · rw [tr_un _ _ e]
      refine ⟨b1, b2, fun z => ?_, b4⟩
      rw [dp_un _ _ (fun y => e (a3 w' x ho hx y z))]
      exact b3 z
  · obtain ⟨c1, c2, c3⟩ := a4 v' p1 p2 p3
    rw [dp_un _ _ (fun y => p3 x hx y.symm)]
    exact ⟨c1, c2, c3⟩
  · have hcx : C x ≠ 0 := fun z => h0 ((a2 x hx).2.1.mpr z)
    by_cases e2 : w' = x
    · rw [e2, tr_us]; omega
    · rw [tr_un _ _ e2]
      by_cases e1 : tr_x w' l' = x
      · exact a7 w' l' ho hz hl' (by rw [e1]; exact hcx)
      · rw [tr_un _ _ e1] at hc
        exact a7 w' l' ho hz hl' hc
  · have h32 := (a2 x hx).1
    have := (tr_sum_u (f := us) (v := N x) (b := us (N x) + 1) rfl 31).2 (by omega) (by omega)
    omega
theorem tr_dig (T : tr_T C G N ch us dg S) {x : tr_K} (d : Nat) (hx : tr_ok x) (h0 : N x ≠ 0) : tr_T C (tr_u G x d) N ch us (dp_u dg (N x) d) S := by
  obtain ⟨⟨a1, a1'⟩, a2, a3, a4, a5, a6, a7, a8⟩ := id T
  refine ⟨⟨a1, by rw [dp_un _ _ (fun z => h0 z.symm)]; exact a1'⟩, fun w' ho => ?_, a3, fun v' p1 p2 p3 => ?_, a5, a6, a7, a8⟩
  · obtain ⟨b1, b2, b3, b4⟩ := a2 w' ho
    by_cases e : w' = x
    · rw [e] at b1 b2 b3 b4 ⊢
      rw [tr_us, dp_us]
      exact ⟨b1, b2, fun z => ⟨(b3 z).1, rfl⟩, fun _ z => h0 (b2.mpr z)⟩
    · rw [tr_un _ _ e]
      refine ⟨b1, b2, fun z => ?_, b4⟩
      rw [dp_un _ _ (fun y => e (a3 w' x ho hx y z))]
      exact b3 z
  · obtain ⟨c1, c2, c3⟩ := a4 v' p1 p2 p3
    rw [dp_un _ _ (fun y => p3 x hx y.symm)]
    exact ⟨c1, c2, c3⟩
/-- one use less, others left -/
theorem tr_dec (T : tr_T C G N ch us dg S) {x : tr_K} (hx : tr_ok x) (h2 : 2 ≤ C x) : tr_T (tr_u C x (C x - 1)) G N ch (dp_u us (N x) (C x - 1)) dg (S - 1) := by
  obtain ⟨⟨a1, a1'⟩, a2, a3, a4, a5, a6, a7, a8⟩ := id T
  have h0 : N x ≠ 0 := fun z => by have := (a2 x hx).2.1.mp z; omega
  have hus := ((a2 x hx).2.2.1 h0).1
  refine ⟨⟨a1, a1'⟩, fun w' ho => ?_, a3, fun v' p1 p2 p3 => ?_, a5, a6, fun w' l' ho hz hl' hc => ?_, ?_⟩
  · obtain ⟨b1, b2, b3, b4⟩ := a2 w' ho
    by_cases e : w' = x
    · rw [e, tr_us, dp_us]
      rw [e] at b1 b2 b3 b4
      exact ⟨b1, by omega, fun z => ⟨rfl, (b3 z).2⟩, fun _ => by omega⟩
    · rw [tr_un _ _ e]
      refine ⟨b1, b2, fun z => ?_, b4⟩
      rw [dp_un _ _ (fun y => e (a3 w' x ho hx y z))]
      exact b3 z
  · obtain ⟨c1, c2, c3⟩ := a4 v' p1 p2 p3
    rw [dp_un _ _ (fun y => p3 x hx y.symm)]
    exact ⟨c1, c2, c3⟩
  · by_cases e2 : w' = x
    · rw [e2, tr_us]; omega
    · rw [tr_un _ _ e2]
      by_cases e1 : tr_x w' l' = x
      · exact a7 w' l' ho hz hl' (by rw [e1]; omega)
      · rw [tr_un _ _ e1] at hc
        exact a7 w' l' ho hz hl' hc
  · have h32 := (a2 x hx).1
    have := (tr_sum_u (f := us) (v := N x) (b := C x - 1) rfl 31).2 (by omega) (by omega)
    omega
/-- the last use: the node goes -/
theorem tr_del (T : tr_T C G N ch us dg S) {w : tr_K} {l : Nat} (hw : tr_in N w) (hl : l < 11) (h1 : C (tr_x w l) = 1) (hG : G (tr_x w l) = 0) (hch : (tr_x w l).2.2 = 0 → ∀ l', l' < 11 → C (tr_x (tr_x w l) l') = 0) : tr_T (tr_u C (tr_x w l) 0) G (tr_u N (tr_x w l) 0) (dp_u ch (11 * N w + l) 0) (dp_u us (N (tr_x w l)) 0) dg (S - 1) := by
  have hxo := tr_x_ok (l := l) hw.1 (tr_in_ok hw) hl
  have hwx := tr_x_ne (l := l) hw.1 (tr_in_ok hw)
  obtain ⟨⟨a1, a1'⟩, a2, a3, a4, a5, a6, a7, a8⟩ := id T
  have h0 : N (tr_x w l) ≠ 0 := fun z => by have := (a2 _ hxo).2.1.mp z; omega
  have hus := ((a2 _ hxo).2.2.1 h0).1
  have hNN : N w ≠ N (tr_x w l) := by
    intro z
    rcases hw.2 with rfl | ⟨o, n⟩
    · rw [a1] at z; exact h0 z.symm
    · exact hwx (a3 _ _ o hxo z n)
  have hix : ∀ {v' l' : Nat}, l' < 11 → v' ≠ N w → 11 * v' + l' ≠ 11 * N w + l := fun hl' hn => by omega
  refine ⟨⟨?_, a1'⟩, fun w' ho => ?_, fun w' w'' o' o'' e n => ?_, fun v' p1 p2 p3 => ?_, fun w' l' hi hl' => ?_, fun w' l' ho hz hn hl' => ?_, fun w' l' ho hz hl' hc => ?_, ?_⟩
  · rw [tr_un]
    · exact a1
    · intro e; have := hxo.1; rw [← e] at this; exact absurd this (by decide)
  · obtain ⟨b1, b2, b3, b4⟩ := a2 w' ho
    by_cases e : w' = tr_x w l
    · rw [e, tr_us, tr_us]
      exact ⟨by omega, ⟨fun _ => rfl, fun _ => rfl⟩, fun z => absurd rfl z, fun z => absurd hG z⟩
    · rw [tr_un _ _ e, tr_un _ _ e]
      refine ⟨b1, b2, fun z => ?_, b4⟩
      rw [dp_un _ _ (fun y => e (a3 w' _ ho hxo y z))]
      exact b3 z
  · by_cases e1 : w' = tr_x w l
    · rw [e1, tr_us] at n; exact absurd rfl n
    · rw [tr_un _ _ e1] at n e
      by_cases e2 : w'' = tr_x w l
      · rw [e2, tr_us] at e; exact absurd e n
      · rw [tr_un _ _ e2] at e
        exact a3 w' w'' o' o'' e n
  · by_cases ev : v' = N (tr_x w l)
    · subst ev
      rw [dp_us]
      refine ⟨rfl, by rw [((a2 _ hxo).2.2.1 h0).2, hG], fun l' hl' => ?_⟩
      rw [dp_un _ _ (hix hl' (fun z => hNN z.symm))]
      by_cases hz : (tr_x w l).2.2 = 0
      · rw [a5 _ l' ⟨hz, Or.inr ⟨hxo, h0⟩⟩ hl']
        exact (a2 _ (tr_x_ok hz (Or.inr hxo) hl')).2.1.mpr (hch hz l' hl')
      · exact a6 _ l' hxo hz h0 hl'
    · have hno : ∀ w', tr_ok w' → N w' ≠ v' := by
        intro w' ho e
        by_cases e1 : w' = tr_x w l
        · rw [e1] at e; exact ev e.symm
        · have := p3 w' ho
          rw [tr_un _ _ e1] at this
          exact this e
      obtain ⟨c1, c2, c3⟩ := a4 v' p1 p2 hno
      rw [dp_un _ _ ev]
      refine ⟨c1, c2, fun l' hl' => ?_⟩
      rw [dp_un _ _ (hix hl' ?_)]
      · exact c3 l' hl'
      · intro z
        rcases hw.2 with rfl | ⟨o, -⟩
        · rw [a1] at z; omega
        · exact hno w o z.symm
  · have e1 : w' ≠ tr_x w l := by
      intro e1
      rcases hi.2 with e2 | ⟨-, n⟩
      · rw [← e1, e2] at hxo; exact absurd hxo.1 (by decide)
      · rw [e1, tr_us] at n; exact n rfl
    have hi' : tr_in N w' := ⟨hi.1, hi.2.elim Or.inl (fun z => Or.inr ⟨z.1, by have := z.2; rw [tr_un _ _ e1] at this; exact this⟩)⟩
    rw [tr_un _ _ e1]
    by_cases e2 : w' = w ∧ l' = l
    · obtain ⟨rfl, rfl⟩ := e2
      rw [dp_us, tr_us]
    · have hne : 11 * N w' + l' ≠ 11 * N w + l := by
        intro z
        have : N w' = N w ∧ l' = l := by omega
        exact e2 ⟨tr_img T hi' hw this.1, this.2⟩
      rw [dp_un _ _ hne, a5 w' l' hi' hl', tr_un]
      intro z
      exact e2 (tr_x_inj hi.1 (tr_in_ok hi') hw.1 (tr_in_ok hw) z)
  · have e1 : w' ≠ tr_x w l := by
      intro e1
      rw [e1, tr_us] at hn; exact hn rfl
    rw [tr_un _ _ e1] at hn ⊢
    rw [dp_un _ _ (hix hl' ?_)]
    · exact a6 w' l' ho hz hn hl'
    · intro z
      rcases hw.2 with rfl | ⟨o, n⟩
      · rw [a1] at z; exact hn z
      · have := a3 w' w ho o z hn
        rw [this] at hz
        exact hz hw.1
  · have e1 : tr_x w' l' ≠ tr_x w l := by
      intro e1
      rw [e1, tr_us] at hc; exact hc rfl
    rw [tr_un _ _ e1] at hc
    by_cases e2 : w' = tr_x w l
    · subst e2
      exact absurd (hch hz l' hl') hc
    · rw [tr_un _ _ e2]; exact a7 w' l' ho hz hl' hc
  · have h32 := (a2 _ hxo).1
    have := (tr_sum_u (f := us) (v := N (tr_x w l)) (b := 0) rfl 31).2 (by omega) (by omega)
    omega
theorem tr_cong {C' G' : tr_K → Nat} (T : tr_T C G N ch us dg S) {S' : Nat} (hS : S ≤ S') (h : ∀ w, tr_ok w → C' w = C w) (hg : ∀ w, tr_ok w → G' w = G w) : tr_T C' G' N ch us dg S' := by
  obtain ⟨a1, a2, a3, a4, a5, a6, a7, a8⟩ := T
  refine ⟨a1, fun w ho => ?_, a3, a4, a5, a6, fun w l ho hz hl hc => ?_, by omega⟩
  · rw [h w ho, hg w ho]; exact a2 w ho
  · rw [h w ho]
    rw [h _ (tr_x_ok hz (Or.inr ho) hl)] at hc
    exact a7 w l ho hz hl hc
end
end
section
/-! the reference: letters, shaping, measuring -/
section
variable {e : gv_T} {h_length h_ligatures h_patterns h_firstWide h_restWide h_firstLines h_spaceWide h_stretch h_shrink h_tolerance h_cost h_height h_ready h_glyphCount h_breaks h_natural h_spaces h_lineCount h_paragraphs : Int32} {b_text b_wide b_joined b_kerns b_patA b_patB b_patC b_patDigits b_glyphs b_glyphOf b_bEnd b_bNext b_bHyphen b_before b_way b_lFrom b_lTo b_lNumber b_lParagraph b_lPage b_lHyphen b_lLast : Nat → Int32} {b_least b_best : Nat → Int64}
theorem yw_lt {post : Int32 → Prop} (F : ey_F e h_length b_text b_wide b_joined b_kerns) {i : Nat} (hi : i < 2 ^ 31) (ht : gv_isL e i → post 1) (hf : ¬ gv_isL e i → post 0) : wpY_isLetter post (h_length, h_ligatures, h_patterns, h_firstWide, h_restWide, h_firstLines, h_spaceWide, h_stretch, h_shrink, h_tolerance, h_cost, h_height, h_ready, h_glyphCount, h_breaks, h_natural, h_spaces, h_lineCount, h_paragraphs, b_text, b_wide, b_joined, b_kerns, b_patA, b_patB, b_patC, b_patDigits, b_glyphs, b_glyphOf, b_bEnd, b_bNext, b_bHyphen, b_least, b_before, b_way, b_lFrom, b_lTo, b_lNumber, b_lParagraph, b_lPage, b_lHyphen, b_lLast, b_best) (nI i) := by
  obtain ⟨F1, F2, F3, F4, F5, E⟩ := F
  have h48 := E.1
  refine br_f (nI_pos hi) (pk_le (gv_ln e) i (fun h => hf (fun z => by have := z.1; omega)) (fun h => ⟨vp_in_nI (by omega) (by decide), ?_⟩) F1 rfl)
  rw [nI_clamp hi, F2]
  have h11 := E.2.1 i
  exact pk_le 10 (gv_tx e i) (fun g => hf (fun z => by have := z.2; omega)) (fun g => ht ⟨h, g⟩)
theorem yw_ltn {post : Int32 → Prop} {x : Int32} (hx : x < 0) (hf : post 0) : wpY_isLetter post (h_length, h_ligatures, h_patterns, h_firstWide, h_restWide, h_firstLines, h_spaceWide, h_stretch, h_shrink, h_tolerance, h_cost, h_height, h_ready, h_glyphCount, h_breaks, h_natural, h_spaces, h_lineCount, h_paragraphs, b_text, b_wide, b_joined, b_kerns, b_patA, b_patB, b_patC, b_patDigits, b_glyphs, b_glyphOf, b_bEnd, b_bNext, b_bHyphen, b_least, b_before, b_way, b_lFrom, b_lTo, b_lNumber, b_lParagraph, b_lPage, b_lHyphen, b_lLast, b_best) x := br_t hx hf
theorem yw_tg {post : Int32 → Prop} (M : ey_M e h_firstWide h_restWide h_firstLines h_spaceWide h_stretch h_shrink h_tolerance h_cost h_height) {n : Nat} (hn : n < 2 ^ 31) (h : post (nI (bq_tg e n))) : wpY_should post (h_length, h_ligatures, h_patterns, h_firstWide, h_restWide, h_firstLines, h_spaceWide, h_stretch, h_shrink, h_tolerance, h_cost, h_height, h_ready, h_glyphCount, h_breaks, h_natural, h_spaces, h_lineCount, h_paragraphs, b_text, b_wide, b_joined, b_kerns, b_patA, b_patB, b_patC, b_patDigits, b_glyphs, b_glyphOf, b_bEnd, b_bNext, b_bHyphen, b_least, b_before, b_way, b_lFrom, b_lTo, b_lNumber, b_lParagraph, b_lPage, b_lHyphen, b_lLast, b_best) (nI n) := by
  obtain ⟨M1, M2, M3, M4, M5, M6, M7, M8, M9, K⟩ := M
  have hnr := K.2.2.1
  refine pk_le (gv_nr e) n (fun g => ?_) (fun g => ?_) M3 rfl
  · rw [M2]
    unfold bq_tg at h
    rw [if_neg (by omega)] at h
    exact h
  · rw [M1]
    unfold bq_tg at h
    rw [if_pos (by omega)] at h
    exact h
theorem yw_we {post : Int32 → Prop} (F : ey_F e h_length b_text b_wide b_joined b_kerns) : ∀ d i n, d < n → gv_ln e ≤ i + d → i ≤ 48 → (∀ t, i ≤ t → (t ≤ i ∨ t ≤ gv_ln e) → (∀ j, i ≤ j → j < t → gv_isL e j) → ¬ gv_isL e t → post (nI t)) → wY_wordEnd_2 post h_length h_ligatures h_patterns h_firstWide h_restWide h_firstLines h_spaceWide h_stretch h_shrink h_tolerance h_cost h_height h_ready h_glyphCount h_breaks h_natural h_spaces h_lineCount h_paragraphs b_text b_wide b_joined b_kerns b_patA b_patB b_patC b_patDigits b_glyphs b_glyphOf b_bEnd b_bNext b_bHyphen b_least b_before b_way b_lFrom b_lTo b_lNumber b_lParagraph b_lPage b_lHyphen b_lLast b_best n (nI i) := by
  intro d
  induction d with
  | zero =>
    intro i n hn hd hi h
    obtain ⟨n, rfl⟩ : ∃ n', n = n' + 1 := ⟨n - 1, by omega⟩
    rw [wY_wordEnd_2]
    refine yw_lt F (by omega) (fun y => by have := y.1; omega) (fun y => br_t rfl (h i (Nat.le_refl _) (Or.inl (Nat.le_refl _)) (fun j a b => by omega) y))
  | succ d ih =>
    intro i n hn hd hi h
    obtain ⟨n, rfl⟩ : ∃ n', n = n' + 1 := ⟨n - 1, by omega⟩
    have h48 := F.2.2.2.2.2.1
    rw [wY_wordEnd_2]
    refine yw_lt F (by omega) (fun y => br_f (by decide) (nm_r (nI_1 i) ?_)) (fun y => br_t rfl (h i (Nat.le_refl _) (Or.inl (Nat.le_refl _)) (fun j a b => by omega) y))
    have y1 := y.1
    refine ih (i + 1) n (by omega) (by omega) (by omega) (fun t h1 h2 h3 h4 => h t (by omega) (Or.inr (by omega)) (fun j a b => ?_) h4)
    by_cases ej : j = i
    · rw [ej]; exact y
    · exact h3 j (by omega) b
theorem yw_wordEnd {post : Int32 → Prop} (F : ey_F e h_length b_text b_wide b_joined b_kerns) {i : Nat} (hi : i ≤ 48) (h : ∀ t, i ≤ t → (t ≤ i ∨ t ≤ gv_ln e) → (∀ j, i ≤ j → j < t → gv_isL e j) → ¬ gv_isL e t → post (nI t)) : wpY_wordEnd post (h_length, h_ligatures, h_patterns, h_firstWide, h_restWide, h_firstLines, h_spaceWide, h_stretch, h_shrink, h_tolerance, h_cost, h_height, h_ready, h_glyphCount, h_breaks, h_natural, h_spaces, h_lineCount, h_paragraphs, b_text, b_wide, b_joined, b_kerns, b_patA, b_patB, b_patC, b_patDigits, b_glyphs, b_glyphOf, b_bEnd, b_bNext, b_bHyphen, b_least, b_before, b_way, b_lFrom, b_lTo, b_lNumber, b_lParagraph, b_lPage, b_lHyphen, b_lLast, b_best) (nI i) :=
  ⟨gv_ln e + 1, yw_we F (gv_ln e) i _ (by omega) (by omega) hi h⟩
theorem yw_ws {post : Int32 → Prop} (F : ey_F e h_length b_text b_wide b_joined b_kerns) : ∀ i n, i < n → i ≤ 48 → (∀ s, s ≤ i → (∀ j, s ≤ j → j < i → gv_isL e j) → (∀ j, s = j + 1 → ¬ gv_isL e j) → post (nI s)) → wY_wordStart_2 post h_length h_ligatures h_patterns h_firstWide h_restWide h_firstLines h_spaceWide h_stretch h_shrink h_tolerance h_cost h_height h_ready h_glyphCount h_breaks h_natural h_spaces h_lineCount h_paragraphs b_text b_wide b_joined b_kerns b_patA b_patB b_patC b_patDigits b_glyphs b_glyphOf b_bEnd b_bNext b_bHyphen b_least b_before b_way b_lFrom b_lTo b_lNumber b_lParagraph b_lPage b_lHyphen b_lLast b_best n (nI i) := by
  intro i
  induction i with
  | zero =>
    intro n hn hi h
    obtain ⟨n, rfl⟩ : ∃ n', n = n' + 1 := ⟨n - 1, by omega⟩
    rw [wY_wordStart_2]
    exact yw_ltn (by decide) (br_t rfl (h 0 (Nat.le_refl _) (fun j a b => by omega) (fun j hj => by omega)))
  | succ i ih =>
    intro n hn hi h
    obtain ⟨n, rfl⟩ : ∃ n', n = n' + 1 := ⟨n - 1, by omega⟩
    rw [wY_wordStart_2]
    dsimp only
    rw [nI_pred]
    refine yw_lt F (by omega) (fun y => br_f (by decide) (nm_r (pk_m1 i) ?_)) (fun y => br_t rfl (h (i + 1) (Nat.le_refl _) (fun j a b => by omega) (fun j hj => by rw [show j = i from by omega]; exact y)))
    refine ih n (by omega) (by omega) (fun s h1 h2 h3 => h s (by omega) (fun j a b => ?_) h3)
    by_cases ej : j = i
    · rw [ej]; exact y
    · exact h2 j a (by omega)
theorem yw_wordStart {post : Int32 → Prop} (F : ey_F e h_length b_text b_wide b_joined b_kerns) {i : Nat} (hi : i ≤ 48) (h : ∀ s, s ≤ i → (∀ j, s ≤ j → j < i → gv_isL e j) → (∀ j, s = j + 1 → ¬ gv_isL e j) → post (nI s)) : wpY_wordStart post (h_length, h_ligatures, h_patterns, h_firstWide, h_restWide, h_firstLines, h_spaceWide, h_stretch, h_shrink, h_tolerance, h_cost, h_height, h_ready, h_glyphCount, h_breaks, h_natural, h_spaces, h_lineCount, h_paragraphs, b_text, b_wide, b_joined, b_kerns, b_patA, b_patB, b_patC, b_patDigits, b_glyphs, b_glyphOf, b_bEnd, b_bNext, b_bHyphen, b_least, b_before, b_way, b_lFrom, b_lTo, b_lNumber, b_lParagraph, b_lPage, b_lHyphen, b_lLast, b_best) (nI i) := ⟨i + 1, yw_ws F i _ (by omega) hi h⟩
theorem yw_sum {post : Int32 → SY → Prop} (F : ey_F e h_length b_text b_wide b_joined b_kerns) {L : List Nat} (hL : sh_ok L) (hlen : L.length ≤ 48) (hc : h_glyphCount = nI L.length) (ha : sh_ar L b_glyphs) (h : post (nI (sh_wd e L)) (h_length, h_ligatures, h_patterns, h_firstWide, h_restWide, h_firstLines, h_spaceWide, h_stretch, h_shrink, h_tolerance, h_cost, h_height, h_ready, h_glyphCount, h_breaks, h_natural, h_spaces, h_lineCount, h_paragraphs, b_text, b_wide, b_joined, b_kerns, b_patA, b_patB, b_patC, b_patDigits, b_glyphs, b_glyphOf, b_bEnd, b_bNext, b_bHyphen, b_least, b_before, b_way, b_lFrom, b_lTo, b_lNumber, b_lParagraph, b_lPage, b_lHyphen, b_lLast, b_best)) : ∀ (A B : List Nat) n, A.length < n → L = A.reverse ++ B → wY_shape_117 post h_length h_ligatures h_patterns h_firstWide h_restWide h_firstLines h_spaceWide h_stretch h_shrink h_tolerance h_cost h_height h_ready h_glyphCount h_breaks h_natural h_spaces h_lineCount h_paragraphs b_text b_wide b_joined b_kerns b_patA b_patB b_patC b_patDigits b_glyphs b_glyphOf b_bEnd b_bNext b_bHyphen b_least b_before b_way b_lFrom b_lTo b_lNumber b_lParagraph b_lPage b_lHyphen b_lLast b_best n (nI (sh_wd e B)) (nI B.length) := by
  obtain ⟨F1, F2, F3, F4, F5, E⟩ := F
  intro A
  induction A with
  | nil =>
    intro B n hn hB
    obtain ⟨n, rfl⟩ : ∃ n', n = n' + 1 := ⟨n - 1, by have : 0 < n := hn; omega⟩
    have hB' : L = B := hB
    subst hB'
    refine br_t ?_ h
    rw [hc]; exact nI_le (Nat.le_refl _) (by omega)
  | cons x A ih =>
    intro B n hn hB
    obtain ⟨n, rfl⟩ : ∃ n', n = n' + 1 := ⟨n - 1, by omega⟩
    have hn' : A.length < n := by have : A.length + 1 < n + 1 := hn; omega
    have hB' : L = A.reverse ++ (x :: B) := by rw [hB]; simp
    have hlB : B.length < L.length := by rw [hB']; simp; omega
    have hx : x < 10 := hL x (by rw [hB']; simp)
    have hat := sh_ar_at (by rw [hB'] at ha; exact ha)
    have hw := E.2.2.1 x hx
    have ih' := ih (x :: B) n hn' hB'
    have hokB : sh_ok B := fun g hg => hL g (by rw [hB']; simp [hg])
    have hwB := sh_wd_b E hokB
    refine br_f ?_ ⟨vp_in_nI (by omega) (by decide), ?_⟩
    · rw [hc]; exact nI_ge hlB (by omega)
    rw [nI_clamp (n := B.length) (by omega), hat.1, nI_clamp (n := x) (by omega), F3 x hx]
    refine ⟨vp_in_nI hx (by decide), nm_r (nI_add _ _) ?_⟩
    cases B with
    | nil =>
      refine br_t (by show nI 0 ≤ 0; decide) (nm_r (nI_1 _) ?_)
      have ew : sh_wd e [] + gv_wd e x = sh_wd e [x] := by
        show 0 + gv_wd e x = gv_wd e x + 0
        omega
      rw [ew]; exact ih'
    | cons p r =>
      have hp : p < 10 := hokB p (by simp)
      have hk := E.2.2.2.1 (10 * p + x) (by omega)
      have hl1 : (p :: r).length = r.length + 1 := rfl
      rw [hl1] at hlB hat ⊢
      have hprev : b_glyphs r.length = nI p := hat.2.1
      refine br_f (nI_nle (by omega) (by omega)) ?_
      rw [nI_pred, nI_clamp (n := r.length) (by omega), hprev, iw_ix, nI_clamp (n := 10 * p + x) (by omega), F5 (10 * p + x) (by omega)]
      refine ⟨vp_in_nI (by omega) (by decide), vp_in_nI (by omega) (by decide), vp_in_nI (by omega) (by decide), nm_r (e' := nI (sh_wd e (x :: p :: r))) ?_ (nm_r (nI_1 _) ih')⟩
      have ew : sh_wd e (x :: p :: r) = sh_wd e (p :: r) + (gv_wd e x + gv_kn e (10 * p + x) - 5) := by
        show (gv_wd e x + gv_kn e (10 * p + x) - 5) + sh_wd e (p :: r) = _
        omega
      rw [ew, ← nI_add (sh_wd e (p :: r)) (gv_wd e x + gv_kn e (10 * p + x) - 5), ← iw_kw (k := gv_kn e (10 * p + x)) (w := gv_wd e x) (by omega), ← nI_add]
      grind
theorem yw_shape_l {post : Int32 → SY → Prop} (F : ey_F e h_length b_text b_wide b_joined b_kerns) {f t : Nat} (ht : t ≤ gv_ln e) (hl : ∀ j, f ≤ j → j < t → gv_isL e j)
    (h : ∀ gs go, sh_ar (sh_gl e f (t - f)) gs → (∀ j, f ≤ j → j < t → go j = nI ((sh_gl e f (j + 1 - f)).length - 1)) → post (nI (sh_wd e (sh_gl e f (t - f)))) (h_length, h_ligatures, h_patterns, h_firstWide, h_restWide, h_firstLines, h_spaceWide, h_stretch, h_shrink, h_tolerance, h_cost, h_height, h_ready, nI (sh_gl e f (t - f)).length, h_breaks, h_natural, h_spaces, h_lineCount, h_paragraphs, b_text, b_wide, b_joined, b_kerns, b_patA, b_patB, b_patC, b_patDigits, gs, go, b_bEnd, b_bNext, b_bHyphen, b_least, b_before, b_way, b_lFrom, b_lTo, b_lNumber, b_lParagraph, b_lPage, b_lHyphen, b_lLast, b_best)) :
    ∀ d n q gs go, d < n → q + d = t → f ≤ q → sh_ar (sh_gl e f (q - f)) gs → (∀ j, f ≤ j → j < q → go j = nI ((sh_gl e f (j + 1 - f)).length - 1)) → wY_shape_7 post (nI t) h_length h_ligatures h_patterns h_firstWide h_restWide h_firstLines h_spaceWide h_stretch h_shrink h_tolerance h_cost h_height h_ready h_breaks h_natural h_spaces h_lineCount h_paragraphs n (nI q) (nI (sh_gl e f (q - f)).length) b_text b_wide b_joined b_kerns b_patA b_patB b_patC b_patDigits gs go b_bEnd b_bNext b_bHyphen b_least b_before b_way b_lFrom b_lTo b_lNumber b_lParagraph b_lPage b_lHyphen b_lLast b_best := by
  obtain ⟨F1, F2, F3, F4, F5, E⟩ := id F
  have h48 := E.1
  intro d
  induction d with
  | zero =>
    intro n q gs go hn hq hf hgs hgo
    obtain ⟨n, rfl⟩ : ∃ n', n = n' + 1 := ⟨n - 1, by omega⟩
    have hqt : q = t := by omega
    subst hqt
    have hlen := sh_gl_len e f (q - f)
    refine br_t (nI_le (Nat.le_refl _) (by omega)) ⟨(sh_gl e f (q - f)).length + 1, ?_⟩
    have := yw_sum (h_length := h_length) (h_glyphCount := nI (sh_gl e f (q - f)).length) (b_glyphs := gs) (b_glyphOf := go) F (sh_gl_ok E f (q - f) (fun j a b => (hl j a (by omega)).2)) (by omega) rfl hgs (h gs go hgs hgo) (sh_gl e f (q - f)).reverse [] ((sh_gl e f (q - f)).length + 1) (by simp) (by simp)
    exact this
  | succ d ih =>
    intro n q gs go hn hq hf hgs hgo
    obtain ⟨n, rfl⟩ : ∃ n', n = n' + 1 := ⟨n - 1, by omega⟩
    have hlq := hl q hf (by omega)
    have hlen := sh_gl_len e f (q - f)
    have hlen' := sh_gl_len e f (q + 1 - f)
    have hok := sh_gl_ok E f (q - f) (fun j a b => (hl j a (by omega)).2)
    have hvq : vp_in (nI q) 48 := vp_in_nI (by omega) (by decide)
    have hgl : sh_gl e f (q + 1 - f) = sh_push e (sh_gl e f (q - f)) (gv_tx e q) := by
      rw [show q + 1 - f = (q - f) + 1 from by omega]
      show sh_push e (sh_gl e f (q - f)) (gv_tx e (f + (q - f))) = _
      rw [show f + (q - f) = q from by omega]
    have hne := sh_push_ne e (sh_gl e f (q - f)) (gv_tx e q)
    have hpos : 0 < (sh_gl e f (q + 1 - f)).length := by rw [hgl]; exact List.length_pos_iff.mpr hne
    have k94 : ∀ gs', sh_ar (sh_gl e f (q + 1 - f)) gs' → ∀ gc : Int32, gc = nI (sh_gl e f (q + 1 - f)).length → wY_shape_94 post (wY_shape_7 post (nI t) h_length h_ligatures h_patterns h_firstWide h_restWide h_firstLines h_spaceWide h_stretch h_shrink h_tolerance h_cost h_height h_ready h_breaks h_natural h_spaces h_lineCount h_paragraphs n) (nI t) (nI q) h_length h_ligatures h_patterns h_firstWide h_restWide h_firstLines h_spaceWide h_stretch h_shrink h_tolerance h_cost h_height h_ready gc h_breaks h_natural h_spaces h_lineCount h_paragraphs b_text b_wide b_joined b_kerns b_patA b_patB b_patC b_patDigits gs' go b_bEnd b_bNext b_bHyphen b_least b_before b_way b_lFrom b_lTo b_lNumber b_lParagraph b_lPage b_lHyphen b_lLast b_best := by
      intro gs' hgs' gc hgc
      subst hgc
      refine ⟨hvq, nm_r (e' := upd go q (nI ((sh_gl e f (q + 1 - f)).length - 1))) (by rw [nI_clamp (by omega), nI_m1 hpos]) (nm_r (nI_1 q) ?_)⟩
      refine ih n (q + 1) gs' _ (by omega) (by omega) (by omega) hgs' (fun j a b => ?_)
      by_cases ej : j = q
      · rw [ej, pk_us]
      · rw [pk_un ej]; exact hgo j a (by omega)
    refine br_f (nI_ge (by omega) (by omega)) ?_
    revert k94 hgs hok hlen
    rw [hgl]
    generalize sh_gl e f (q - f) = L
    intro hgs hlen hok k94
    cases L with
    | nil =>
      refine br_t (by show nI 0 ≤ 0; decide) (br_t (by decide) (nm_r (nI_1 0) ⟨hvq, vp_in_nI (by decide) (by decide), nm_r (e' := upd gs 0 (nI (gv_tx e q))) (by rw [F2, nI_clamp (n := q) (by omega)]; rfl) (k94 _ ⟨pk_us, trivial⟩ _ rfl)⟩))
    | cons g r =>
      have hg := (sh_ok_c hok).1
      have hj := E.2.2.2.2 (10 * g + gv_tx e q) (by have := hlq.2; omega)
      have hl10 := hlq.2
      have hl1 : (g :: r).length = r.length + 1 := rfl
      rw [hl1] at hlen ⊢
      refine br_f (nI_nle (by omega) (by omega)) ?_
      rw [nI_pred, nI_clamp (n := r.length) (by omega), hgs.1, nI_clamp (n := q) (by omega), F2, iw_ix, nI_clamp (n := 10 * g + gv_tx e q) (by omega), F4 (10 * g + gv_tx e q) (by omega)]
      refine ⟨vp_in_nI (by omega) (by decide), hvq, vp_in_nI (by omega) (by decide), ?_⟩
      by_cases hj0 : gv_jn e (10 * g + gv_tx e q) = 0
      · have ep : sh_push e (g :: r) (gv_tx e q) = gv_tx e q :: g :: r := if_pos hj0
        rw [ep] at k94
        rw [hj0]
        refine br_t (by decide) (nm_r (nI_1 _) ⟨hvq, vp_in_nI (by omega) (by decide), nm_r (e' := upd gs (r.length + 1) (nI (gv_tx e q))) (by rw [F2, nI_clamp (n := q) (by omega), nI_clamp (n := r.length + 1) (by omega)]) (k94 _ ⟨pk_us, sh_ar_u hgs (Nat.le_refl _)⟩ _ rfl)⟩)
      · have ep : sh_push e (g :: r) (gv_tx e q) = (gv_jn e (10 * g + gv_tx e q) - 1) :: r := if_neg hj0
        rw [ep] at k94
        rw [nI_m1 (by omega)]
        refine br_f (nI_pos (by omega)) ⟨?_, nm_r (e' := upd gs r.length (nI (gv_jn e (10 * g + gv_tx e q) - 1))) ?_ (k94 _ ⟨pk_us, sh_ar_u hgs.2 (Nat.le_refl _)⟩ _ rfl)⟩
        · rw [nI_pred]; exact vp_in_nI (by omega) (by decide)
        · rw [nI_pred, nI_clamp (n := r.length) (by omega)]
theorem yw_shape {post : Int32 → SY → Prop} (F : ey_F e h_length b_text b_wide b_joined b_kerns) {f t : Nat} (hft : f ≤ t) (ht : t ≤ gv_ln e) (hl : ∀ j, f ≤ j → j < t → gv_isL e j)
    (h : ∀ gs go, sh_ar (sh_gl e f (t - f)) gs → (∀ j, f ≤ j → j < t → go j = nI ((sh_gl e f (j + 1 - f)).length - 1)) → post (nI (sh_wd e (sh_gl e f (t - f)))) (h_length, h_ligatures, h_patterns, h_firstWide, h_restWide, h_firstLines, h_spaceWide, h_stretch, h_shrink, h_tolerance, h_cost, h_height, h_ready, nI (sh_gl e f (t - f)).length, h_breaks, h_natural, h_spaces, h_lineCount, h_paragraphs, b_text, b_wide, b_joined, b_kerns, b_patA, b_patB, b_patC, b_patDigits, gs, go, b_bEnd, b_bNext, b_bHyphen, b_least, b_before, b_way, b_lFrom, b_lTo, b_lNumber, b_lParagraph, b_lPage, b_lHyphen, b_lLast, b_best)) : wpY_shape post (h_length, h_ligatures, h_patterns, h_firstWide, h_restWide, h_firstLines, h_spaceWide, h_stretch, h_shrink, h_tolerance, h_cost, h_height, h_ready, h_glyphCount, h_breaks, h_natural, h_spaces, h_lineCount, h_paragraphs, b_text, b_wide, b_joined, b_kerns, b_patA, b_patB, b_patC, b_patDigits, b_glyphs, b_glyphOf, b_bEnd, b_bNext, b_bHyphen, b_least, b_before, b_way, b_lFrom, b_lTo, b_lNumber, b_lParagraph, b_lPage, b_lHyphen, b_lLast, b_best) (nI f) (nI t) := by
  refine ⟨t + 1, ?_⟩
  have := yw_shape_l F ht hl h (t - f) (t + 1) f b_glyphs b_glyphOf (by omega) (by omega) (Nat.le_refl _) (by rw [Nat.sub_self]; trivial) (fun j a b => by omega)
  rw [Nat.sub_self] at this
  exact this
/-- skipping spaces up to the next letter -/
theorem yw_skip {post : SY → Prop} {J : _} (F : ey_F e h_length b_text b_wide b_joined b_kerns) {t q' : Nat} (ht : t ≤ gv_ln e) (hq' : q' < t) (hl : gv_isL e q') (h : wY_walk_89 post J (nI t) (nI q') h_length h_ligatures h_patterns h_firstWide h_restWide h_firstLines h_spaceWide h_stretch h_shrink h_tolerance h_cost h_height h_ready h_glyphCount h_breaks h_natural h_spaces h_lineCount h_paragraphs b_text b_wide b_joined b_kerns b_patA b_patB b_patC b_patDigits b_glyphs b_glyphOf b_bEnd b_bNext b_bHyphen b_least b_before b_way b_lFrom b_lTo b_lNumber b_lParagraph b_lPage b_lHyphen b_lLast b_best) : ∀ d n r, d < n → r + d = q' → (∀ j, r ≤ j → j < q' → gv_tx e j = 10) → wY_walk_65 post J (nI t) h_length h_ligatures h_patterns h_firstWide h_restWide h_firstLines h_spaceWide h_stretch h_shrink h_tolerance h_cost h_height h_ready h_glyphCount h_breaks h_natural h_spaces h_lineCount h_paragraphs b_text b_wide b_joined b_kerns b_patA b_patB b_patC b_patDigits b_glyphs b_glyphOf b_bEnd b_bNext b_bHyphen b_least b_before b_way b_lFrom b_lTo b_lNumber b_lParagraph b_lPage b_lHyphen b_lLast b_best n (nI r) := by
  obtain ⟨F1, F2, F3, F4, F5, E⟩ := id F
  have h48 := E.1
  intro d
  induction d with
  | zero =>
    intro n r hn hr _
    obtain ⟨n, rfl⟩ : ∃ n', n = n' + 1 := ⟨n - 1, by omega⟩
    have : r = q' := by omega
    subst this
    refine br_f (nI_ge (by omega) (by omega)) ⟨vp_in_nI (by omega) (by decide), ?_⟩
    rw [nI_clamp (n := r) (by omega), F2]
    exact pk_eq (gv_tx e r) 10 (fun g => by have := hl.2; omega) (fun g => h) rfl rfl (by have := hl.2; omega)
  | succ d ih =>
    intro n r hn hr hsp
    obtain ⟨n, rfl⟩ : ∃ n', n = n' + 1 := ⟨n - 1, by omega⟩
    refine br_f (nI_ge (by omega) (by omega)) ⟨vp_in_nI (by omega) (by decide), ?_⟩
    rw [nI_clamp (n := r) (by omega), F2, hsp r (Nat.le_refl _) (by omega)]
    exact br_t rfl (nm_r (nI_1 r) (ih n (r + 1) (by omega) (by omega) (fun j a b => hsp j (by omega) b)))
theorem yw_walk_l {post : SY → Prop} (F : ey_F e h_length b_text b_wide b_joined b_kerns) (hgap : h_spaceWide = nI (gv_gp e)) (hg20 : gv_gp e ≤ 20) {f t v : Nat} (hv : v ≤ 5) (hft : f < t) (ht : t ≤ gv_ln e) (h11 : ∀ j, f ≤ j → j < t → gv_tx e j ≠ 11) (hend : ∀ j, t = j + 1 → gv_isL e j)
    (h : ∀ gc gs go, post (h_length, h_ligatures, h_patterns, h_firstWide, h_restWide, h_firstLines, h_spaceWide, h_stretch, h_shrink, h_tolerance, h_cost, h_height, h_ready, gc, h_breaks, nI (sh_nw e f t + v), nI (sh_ns e f t), h_lineCount, h_paragraphs, b_text, b_wide, b_joined, b_kerns, b_patA, b_patB, b_patC, b_patDigits, gs, go, b_bEnd, b_bNext, b_bHyphen, b_least, b_before, b_way, b_lFrom, b_lTo, b_lNumber, b_lParagraph, b_lPage, b_lHyphen, b_lLast, b_best)) :
    ∀ d n q gc gs go, d + 1 < n → t ≤ q + d → q < t → f ≤ q → gv_isL e q → (sh_at e f q).2.2 = [] → wY_walk_21 post (nI t) n (nI q) h_length h_ligatures h_patterns h_firstWide h_restWide h_firstLines h_spaceWide h_stretch h_shrink h_tolerance h_cost h_height h_ready gc h_breaks (nI ((sh_at e f q).1 + v)) (nI (sh_at e f q).2.1) h_lineCount h_paragraphs b_text b_wide b_joined b_kerns b_patA b_patB b_patC b_patDigits gs go b_bEnd b_bNext b_bHyphen b_least b_before b_way b_lFrom b_lTo b_lNumber b_lParagraph b_lPage b_lHyphen b_lLast b_best := by
  obtain ⟨F1, F2, F3, F4, F5, E⟩ := id F
  have h48 := E.1
  intro d
  induction d with
  | zero => intro n q gc gs go hn h1 h2; omega
  | succ d ih =>
    intro n q gc gs go hn h1 h2 h3 hlq h0
    obtain ⟨n, rfl⟩ : ∃ n', n = n' + 1 := ⟨n - 1, by omega⟩
    refine br_f (nI_ge h2 (by omega)) (yw_wordEnd F (by omega) (fun r r1 r2 r3 r4 => ?_))
    have r5 : q < r := by
      rcases Nat.lt_or_ge q r with y | y
      · exact y
      · exact absurd hlq (by rw [show q = r from by omega]; exact r4)
    have r6 : r ≤ gv_ln e := by omega
    have k44 : ∀ x, q < x → x ≤ t → x ≤ r → (x = t ∨ x = r) → wY_walk_44 post (wY_walk_21 post (nI t) n) (nI t) (nI q) (nI x) h_length h_ligatures h_patterns h_firstWide h_restWide h_firstLines h_spaceWide h_stretch h_shrink h_tolerance h_cost h_height h_ready gc h_breaks (nI ((sh_at e f q).1 + v)) (nI (sh_at e f q).2.1) h_lineCount h_paragraphs b_text b_wide b_joined b_kerns b_patA b_patB b_patC b_patDigits gs go b_bEnd b_bNext b_bHyphen b_least b_before b_way b_lFrom b_lTo b_lNumber b_lParagraph b_lPage b_lHyphen b_lLast b_best := by
      intro x x1 x2 x3 x4
      refine yw_shape (h_length := h_length) F (f := q) (t := x) (by omega) (by omega) (fun j a b => r3 j a (by omega)) (fun gs2 go2 _ _ => nm_r (nI_add _ _) ?_)
      have hw := sh_word (e := e) h3 h0 (x - q) (fun j a b => (r3 j a (by omega)).2)
      rw [show q + (x - q) = x from by omega] at hw
      have hne : (sh_at e f x).2.2 ≠ [] := by
        obtain ⟨y, rfl⟩ : ∃ y, x = y + 1 := ⟨x - 1, by omega⟩
        exact sh_at_ne (by omega) (r3 y (by omega) (by omega)).2
      have e1 : (sh_at e f q).1 + v + sh_wd e (sh_gl e q (x - q)) = sh_nw e f x + v := by
        unfold sh_nw; rw [hw]; dsimp only; omega
      have e2 : (sh_at e f q).2.1 = sh_ns e f x := by
        unfold sh_ns; rw [hw]
      rw [e1, e2]
      by_cases xt : x = t
      · subst xt
        refine ⟨1, br_t (nI_le (Nat.le_refl _) (by omega)) (br_t (nI_le (Nat.le_refl _) (by omega)) ?_)⟩
        obtain ⟨n, rfl⟩ : ∃ n', n = n' + 1 := ⟨n - 1, by omega⟩
        exact br_t (nI_le (Nat.le_refl _) (by omega)) (h _ _ _)
      · have xr : x = r := by omega
        subst xr
        obtain ⟨y, hy⟩ : ∃ y, t = y + 1 := ⟨t - 1, by omega⟩
        have hly := hend y hy
        obtain ⟨p1, p2, p3, p4⟩ := wo_fl_ex (e := e) (n := 48) (q := x) (j := y) (by omega) (by omega) hly
        have hsp : ∀ j, x ≤ j → j < wo_fl e 48 x → gv_tx e j = 10 := by
          intro j a b
          have c1 := p4 j a b
          have c2 := h11 j (by omega) (by omega)
          have c3 := E.2.1 j
          rcases Nat.lt_or_ge (gv_tx e j) 10 with y | y
          · exact absurd ⟨by omega, y⟩ c1
          · omega
        have hxl : x < wo_fl e 48 x := by
          rcases Nat.lt_or_ge x (wo_fl e 48 x) with y | y
          · exact y
          · exact absurd p1 (by rw [show wo_fl e 48 x = x from by omega]; exact r4)
        have hgp := sh_gap (e := e) (f := f) (q := x) (q' := wo_fl e 48 x) (by omega) hxl hne (fun j a b => by rw [hsp j a b]; omega)
        refine ⟨wo_fl e 48 x - x + 1, yw_skip F ht (q' := wo_fl e 48 x) (by omega) p1 ?_ (wo_fl e 48 x - x) _ x (by omega) (by omega) hsp⟩
        refine br_f (nI_ge (by omega) (by omega)) (nm_r (e' := nI ((sh_at e f (wo_fl e 48 x)).1 + v)) ?_ (nm_r (e' := nI (sh_at e f (wo_fl e 48 x)).2.1) ?_ (ih n (wo_fl e 48 x) _ _ _ (by omega) (by omega) (by omega) (by omega) p1 (by rw [hgp]))))
        · rw [hgp, hgap, nI_add]
          exact congrArg nI (by unfold sh_nw; dsimp only; omega)
        · rw [hgp, nI_1]; rfl
    refine pk_le r t (fun y => k44 r r5 y (Nat.le_refl _) (Or.inr rfl)) (fun y => k44 t (by omega) (Nat.le_refl _) (by omega) (Or.inl rfl))
theorem yw_walk {post : SY → Prop} (F : ey_F e h_length b_text b_wide b_joined b_kerns) (hgap : h_spaceWide = nI (gv_gp e)) (hg20 : gv_gp e ≤ 20) {f t : Nat} {hy : Bool} {x : Int32} (hx : x = bl_i hy) (hft : f < t) (ht : t ≤ gv_ln e) (h11 : ∀ j, f ≤ j → j < t → gv_tx e j ≠ 11) (hf : gv_isL e f) (hend : ∀ j, t = j + 1 → gv_isL e j)
    (h : ∀ gc gs go, post (h_length, h_ligatures, h_patterns, h_firstWide, h_restWide, h_firstLines, h_spaceWide, h_stretch, h_shrink, h_tolerance, h_cost, h_height, h_ready, gc, h_breaks, nI (sh_nw e f t + (if hy = true then 5 else 0)), nI (sh_ns e f t), h_lineCount, h_paragraphs, b_text, b_wide, b_joined, b_kerns, b_patA, b_patB, b_patC, b_patDigits, gs, go, b_bEnd, b_bNext, b_bHyphen, b_least, b_before, b_way, b_lFrom, b_lTo, b_lNumber, b_lParagraph, b_lPage, b_lHyphen, b_lLast, b_best)) : wpY_walk post (h_length, h_ligatures, h_patterns, h_firstWide, h_restWide, h_firstLines, h_spaceWide, h_stretch, h_shrink, h_tolerance, h_cost, h_height, h_ready, h_glyphCount, h_breaks, h_natural, h_spaces, h_lineCount, h_paragraphs, b_text, b_wide, b_joined, b_kerns, b_patA, b_patB, b_patC, b_patDigits, b_glyphs, b_glyphOf, b_bEnd, b_bNext, b_bHyphen, b_least, b_before, b_way, b_lFrom, b_lTo, b_lNumber, b_lParagraph, b_lPage, b_lHyphen, b_lLast, b_best) (nI f) (nI t) x := by
  have k : ∀ v, v ≤ 5 → v = (if hy = true then 5 else 0) → wY_walk_21 post (nI t) (t + 2) (nI f) h_length h_ligatures h_patterns h_firstWide h_restWide h_firstLines h_spaceWide h_stretch h_shrink h_tolerance h_cost h_height h_ready h_glyphCount h_breaks (nI v) 0 h_lineCount h_paragraphs b_text b_wide b_joined b_kerns b_patA b_patB b_patC b_patDigits b_glyphs b_glyphOf b_bEnd b_bNext b_bHyphen b_least b_before b_way b_lFrom b_lTo b_lNumber b_lParagraph b_lPage b_lHyphen b_lLast b_best := by
    intro v hv ev
    have := yw_walk_l F hgap hg20 hv hft ht h11 hend (by rw [ev]; exact h) t (t + 2) f h_glyphCount b_glyphs b_glyphOf (by omega) (by omega) hft (Nat.le_refl _) hf (by rw [sh_at_0])
    rw [sh_at_0] at this
    dsimp only at this
    rw [Nat.zero_add] at this
    exact this
  refine bl_br hx (fun y => ⟨t + 2, k 0 (by omega) (by rw [y]; rfl)⟩) (fun y => ⟨t + 2, k 5 (by omega) (by rw [y]; rfl)⟩)
end
end
section
/-! the reference: badness, later, offers -/
def ey_B (e : gv_T) (a z : Nat) (h_breaks : Int32) (b_bEnd b_bNext b_bHyphen : Nat → Int32) : Prop :=
  h_breaks = nI (pr_nb e a z) ∧ (∀ k, 1 ≤ k → k ≤ pr_nb e a z → b_bEnd k = nI (pr_en e a z k)) ∧ (∀ k, k < pr_nb e a z → b_bNext k = nI (pr_bg e a z k)) ∧ (∀ k, k ≤ pr_nb e a z → b_bHyphen k = bl_i (pr_hy e a z k))
theorem bq_negT {Q : Nat} (h : Q < 2 ^ 62) : (-(lN Q)).toInt = -(Q : Int) := by
  rw [Int64.toInt_neg, pk_lT (by omega)]
  exact Int.bmod_eq_of_le (by omega) (by omega)
theorem bq_bm {Q : Nat} (h : Q < 2 ^ 62) : (-(Q : Int)).bmod (2 ^ 64) = -(Q : Int) := Int.bmod_eq_of_le (by omega) (by omega)
theorem bq_negdiv {A B : Nat} (hA : A < 2 ^ 62) (hB : B < 2 ^ 62) (h0 : 0 < B) : (-(lN A)) / lN B = -(lN (A / B)) := by
  have hq : A / B < 2 ^ 62 := Nat.lt_of_le_of_lt (Nat.div_le_self _ _) hA
  apply Int64.toInt_inj.mp
  rw [Int64.toInt_div, bq_negT hA, bq_negT hq, pk_lT (by omega), Int.neg_tdiv]
  exact bq_bm hq
section
variable {e : gv_T} {h_length h_ligatures h_patterns h_firstWide h_restWide h_firstLines h_spaceWide h_stretch h_shrink h_tolerance h_cost h_height h_ready h_glyphCount h_breaks h_natural h_spaces h_lineCount h_paragraphs : Int32} {b_text b_wide b_joined b_kerns b_patA b_patB b_patC b_patDigits b_glyphs b_glyphOf b_bEnd b_bNext b_bHyphen b_before b_way b_lFrom b_lTo b_lNumber b_lParagraph b_lPage b_lHyphen b_lLast : Nat → Int32} {b_least b_best : Nat → Int64}
theorem yw_bd51 {post : Int32 → Prop} {d g : Nat} {x1 : Int32} (h1 : x1 = nI d ∨ x1 = -(nI d)) (hd : d ≤ 3000) (hg : g ≤ 1000) (h : post (bq_i (if g = 0 then 10001 else min (100 * (d * d * d) / (g * g * g)) 10000 + 1))) : wY_badness_51 post x1 (lN g) h_length h_ligatures h_patterns h_firstWide h_restWide h_firstLines h_spaceWide h_stretch h_shrink h_tolerance h_cost h_height h_ready h_glyphCount h_breaks h_natural h_spaces h_lineCount h_paragraphs b_text b_wide b_joined b_kerns b_patA b_patB b_patC b_patDigits b_glyphs b_glyphOf b_bEnd b_bNext b_bHyphen b_least b_before b_way b_lFrom b_lTo b_lNumber b_lParagraph b_lPage b_lHyphen b_lLast b_best := by
  refine ek_if (show lN g = 0 ↔ g = 0 from by rw [show (0 : Int64) = lN 0 from rfl]; exact pk_lEQ (by omega) (by omega)) (fun g0 => ?_) (fun g0 => ?_)
  · rw [if_pos g0] at h; exact h
  · rw [if_neg g0] at h
    have g0' : 0 < g := by omega
    obtain ⟨q1, q2⟩ := bq_lq hd hg g0'
    obtain ⟨c1, c2, c3, c4⟩ := bq_cu hd hg g0'
    have hq := bq_qb hd hg g0'
    refine ⟨q2, ?_⟩
    have n1 : (nI d).toInt64 = lN d := nI_l (by omega)
    have epos : 100 * lN d * lN d * lN d / (lN g * lN g * lN g) = lN (100 * (d * d * d) / (g * g * g)) := by
      rw [← q1]
      congr 1
      rw [← lN_mul]; grind
    rcases h1 with rfl | rfl
    · rw [n1, epos]
      refine nm_e (br_t ?_ (bq_fin rfl hq h))
      generalize 100 * (d * d * d) / (g * g * g) = q at hq
      rw [show (0 : Int64) = lN 0 from rfl, pk_lLE (by omega) (by omega)]; omega
    · have n2 : (-(nI d)).toInt64 = -(lN d) := by
        apply Int64.toInt_inj.mp
        rw [Int32.toInt_toInt64, sb_negT (by omega), Int64.toInt_neg, pk_lT (by omega)]
        exact (Int.bmod_eq_of_le (by omega) (by omega)).symm
      have eneg : 100 * -(lN d) * -(lN d) * -(lN d) / (lN g * lN g * lN g) = -(lN (100 * (d * d * d) / (g * g * g))) := by
        rw [← bq_negdiv (A := 100 * (d * d * d)) (B := g * g * g) (by omega) (by omega) c3]
        rw [← lN_mul (g * g) g, ← lN_mul g g]
        congr 1
        rw [← lN_mul 100, ← lN_mul (d * d), ← lN_mul d d, show lN 100 = (100 : Int64) from rfl]
        grind
      rw [n2, eneg]
      refine nm_e (br_c (fun hx => ?_) (fun hx => nm_r (e' := lN (100 * (d * d * d) / (g * g * g))) (by grind) (bq_fin rfl hq h)))
      generalize 100 * (d * d * d) / (g * g * g) = q at hx hq h ⊢
      have eQ : (-(lN q)).toInt = -(q : Int) := bq_negT (by omega)
      have hq0 : q = 0 := by
        rw [Int64.le_iff_toInt_le, eQ] at hx
        have : (0 : Int64).toInt = 0 := rfl
        omega
      subst hq0
      exact bq_fin (q := 0) rfl (by omega) h
theorem yw_bd {post : Int32 → Prop} (M : ey_M e h_firstWide h_restWide h_firstLines h_spaceWide h_stretch h_shrink h_tolerance h_cost h_height) {t w s : Nat} {l : Bool} {d x : Int32} (hd : d = nI t - nI w) (hx : x = bl_i l) (h2 : h_spaces = nI s) (hw : w ≤ 2700) (hs : s ≤ 48) (ht : t ≤ 300) (h : post (bq_i (bq_c e t w s l))) : wpY_badness post (h_length, h_ligatures, h_patterns, h_firstWide, h_restWide, h_firstLines, h_spaceWide, h_stretch, h_shrink, h_tolerance, h_cost, h_height, h_ready, h_glyphCount, h_breaks, h_natural, h_spaces, h_lineCount, h_paragraphs, b_text, b_wide, b_joined, b_kerns, b_patA, b_patB, b_patC, b_patDigits, b_glyphs, b_glyphOf, b_bEnd, b_bNext, b_bHyphen, b_least, b_before, b_way, b_lFrom, b_lTo, b_lNumber, b_lParagraph, b_lPage, b_lHyphen, b_lLast, b_best) d x := by
  obtain ⟨M1, M2, M3, M4, M5, M6, M7, M8, M9, K⟩ := M
  have hst := K.2.2.2.2.1
  have hsk := K.2.2.2.2.2.1
  have hgp := K.2.2.2.1
  have b1 : s * gv_st e ≤ 48 * 20 := Nat.mul_le_mul hs hst
  have b2 : s * gv_sk e ≤ 48 * 20 := Nat.mul_le_mul hs (by omega)
  subst hd
  rcases Nat.lt_or_ge t w with hlt | hge
  · have hd : w - t ≤ 3000 := by omega
    rw [nI_neg (Nat.le_of_lt hlt)]
    have hneg : ¬ (0 : Int32) ≤ -(nI (w - t)) := by
      rw [Int32.le_iff_toInt_le, sb_negT (by omega)]
      show ¬ (0 : Int) ≤ _
      omega
    have hne : ¬ -(nI (w - t)) = 0 := fun z => hneg (by rw [z]; decide)
    have hle : -(nI (w - t)) ≤ 0 := by
      rw [Int32.le_iff_toInt_le, sb_negT (by omega)]
      show _ ≤ (0 : Int)
      omega
    have ec : bq_c e t w s l = if s * gv_sk e < w - t then 0 else if s * gv_sk e = 0 then 10001 else min (100 * ((w - t) * (w - t) * (w - t)) / (s * gv_sk e * (s * gv_sk e) * (s * gv_sk e))) 10000 + 1 := by
      unfold bq_c; rw [if_neg (by omega), if_neg (by omega)]
    rw [ec] at h
    refine br_f hne (br_t hle (br_t hle (nm_r (e' := lN (s * gv_sk e)) (by rw [h2, M6, nI_l (by omega), nI_l (by omega), lN_mul]) (br_f hneg ?_))))
    rw [show - -(nI (w - t)) = nI (w - t) from by grind, nI_l (by omega)]
    refine ek_if (lN_le (by omega) (by omega)) (fun g1 => ?_) (fun g1 => ?_)
    · rw [if_neg (by omega)] at h
      exact yw_bd51 (Or.inr rfl) hd (by omega) h
    · rw [if_pos (by omega)] at h; exact h
  · have hd : t - w ≤ 3000 := by omega
    rw [pk_sub hge]
    refine pk_eq (t - w) 0 (fun g1 => ?_) (fun g1 => br_f (nI_nle (by omega) (by omega)) (bl_br hx (fun g2 => ?_) (fun g2 => ?_)))
    · have ec : bq_c e t w s l = 1 := by
        unfold bq_c; rw [if_pos (by omega)]
      rw [ec] at h; exact h
    · have ec : bq_c e t w s l = if s * gv_st e = 0 then 10001 else min (100 * ((t - w) * (t - w) * (t - w)) / (s * gv_st e * (s * gv_st e) * (s * gv_st e))) 10000 + 1 := by
        unfold bq_c
        rw [if_neg (by rw [g2]; rintro (y | ⟨-, y⟩); omega; cases y), if_pos (by omega)]
      rw [ec] at h
      refine br_f (nI_nle (by omega) (by omega)) (nm_r (e' := lN (s * gv_st e)) (by rw [h2, M5, nI_l (by omega), nI_l (by omega), lN_mul]) (br_t (nI_pos' (by omega)) (yw_bd51 (Or.inl rfl) hd (by omega) h)))
    · have ec : bq_c e t w s l = 1 := by
        unfold bq_c; rw [if_pos (Or.inr ⟨by omega, g2⟩)]
      rw [ec] at h; exact h
theorem iw_d16 {s : Nat} (h : s < 2 ^ 31) : nI s / 16 = nI (s / 16) := pk_div h (by decide) (by decide)
theorem yw_later {S : Nat → Nat → Nat → Nat → Option (Nat × Nat)} {N nb : Nat} {cut : Nat → Nat} {D P : Nat → Nat} {V : Nat → List Nat} (I : dp_in S N nb cut D P V) (A : dp_ar nb b_least b_before D P) (hnb : nb ≤ 48) {post : Int32 → Prop} :
    ∀ m s t n, s / 16 < m → m ≤ n → s < 16 * nb + 16 → t < 16 * nb + 16 → D s ≠ 0 → D t ≠ 0 → s ≠ t → (dp_lt (V s) (V t) → post 1) → (¬ dp_lt (V s) (V t) → post 0) → wY_later_5 post h_length h_ligatures h_patterns h_firstWide h_restWide h_firstLines h_spaceWide h_stretch h_shrink h_tolerance h_cost h_height h_ready h_glyphCount h_breaks h_natural h_spaces h_lineCount h_paragraphs b_text b_wide b_joined b_kerns b_patA b_patB b_patC b_patDigits b_glyphs b_glyphOf b_bEnd b_bNext b_bHyphen b_least b_before b_way b_lFrom b_lTo b_lNumber b_lParagraph b_lPage b_lHyphen b_lLast b_best n (nI s) (nI t) := by
  intro m
  induction m with
  | zero => intro s t n h; omega
  | succ m ih =>
    intro s t n hm hn hs ht ds dt hst p1 p0
    obtain ⟨n, rfl⟩ : ∃ n', n = n' + 1 := ⟨n - 1, by omega⟩
    obtain ⟨rs, es⟩ := dp_hd I hs ds
    obtain ⟨rt, et⟩ := dp_hd I ht dt
    have h16 : ¬ (16 : Int32) = 0 := by decide
    refine ⟨h16, h16, pk_eq (s / 16) (t / 16) (fun h => ?_) (fun h => ?_) (iw_d16 (by omega)) (iw_d16 (by omega))⟩
    · obtain ⟨n1, w1, m1, c1⟩ := I.1 s hs ds
      obtain ⟨n2, w2, m2, c2⟩ := I.1 t ht dt
      have h16 : 16 ≤ s ∧ 16 ≤ t := by
        rcases c1 with ⟨c1, -⟩ | ⟨c1, -⟩ <;> rcases c2 with ⟨c2, -⟩ | ⟨c2, -⟩ <;> omega
      rcases c1 with ⟨c1, -⟩ | ⟨-, a2, a3, a4, a5⟩
      · omega
      rcases c2 with ⟨c2, -⟩ | ⟨-, b2, b3, b4, b5⟩
      · omega
      have hlt : dp_lt (V s) (V t) ↔ dp_lt (V (P s)) (V (P t)) := by
        rw [a5, b5]
        constructor
        · intro g
          rw [dp_lt] at g
          rcases g with g | g
          · omega
          · exact g.2
        · intro g
          rw [dp_lt]
          exact Or.inr ⟨h, g⟩
      refine pk_eq s t (fun g => absurd g hst) (fun g => pk_lt s 16 (fun g1 => by omega) (fun g1 => ?_))
      refine ⟨vp_in_nI (by omega) (by decide), nm_r (e' := nI (P s)) (by rw [nI_clamp (by omega)]; exact A.2 s h16.1 hs ds) ⟨vp_in_nI (by omega) (by decide), nm_r (e' := nI (P t)) (by rw [nI_clamp (by omega)]; exact A.2 t h16.2 ht dt) ?_⟩⟩
      refine ih (P s) (P t) n (by omega) (by omega) (by omega) (by omega) a4 b4 (fun z => ?_) (fun g => p1 (hlt.mpr g)) (fun g => p0 (fun y => g (hlt.mp y)))
      apply hst
      apply dp_inj I hs ht ds dt
      rw [a5, b5, h, z]
    · refine ⟨h16, h16, pk_le (s / 16) (t / 16) (fun g => p0 ?_) (fun g => p1 ?_) (iw_d16 (by omega)) (iw_d16 (by omega))⟩
      · rw [es, et, dp_lt]
        rintro (y | y) <;> omega
      · rw [es, et, dp_lt]
        exact Or.inl (by omega)
theorem yw_offer {S : Nat → Nat → Nat → Nat → Option (Nat × Nat)} {N nb : Nat} {cut : Nat → Nat} {D P : Nat → Nat} {V : Nat → List Nat} (O : dp_ok S N 110000000) (I : dp_in S N nb cut D P V) (A : dp_ar nb b_least b_before D P) (hnb : nb ≤ 48) {post : SY → Prop} {s k c m sum t : Nat} (hs : s < 16 * nb + 16) (ds : D s ≠ 0) (hc : c < 4) (hm : m < 4) (hk : k ≤ nb) (hsum : sum < 2 ^ 62) (et : t = 16 * k + 4 * m + c) (hps : D t ≠ 0 → P t ≠ s) (hk0 : 0 < k)
    (h1 : (D t = 0 ∨ sum < D t - 1 ∨ (D t - 1 = sum ∧ dp_lt (V s) (V (P t)))) → post (h_length, h_ligatures, h_patterns, h_firstWide, h_restWide, h_firstLines, h_spaceWide, h_stretch, h_shrink, h_tolerance, h_cost, h_height, h_ready, h_glyphCount, h_breaks, h_natural, h_spaces, h_lineCount, h_paragraphs, b_text, b_wide, b_joined, b_kerns, b_patA, b_patB, b_patC, b_patDigits, b_glyphs, b_glyphOf, b_bEnd, b_bNext, b_bHyphen, vp_updL b_least t (lN sum), upd b_before t (nI s), b_way, b_lFrom, b_lTo, b_lNumber, b_lParagraph, b_lPage, b_lHyphen, b_lLast, b_best))
    (h2 : D t ≠ 0 → (D t - 1 < sum ∨ (D t - 1 = sum ∧ ¬ dp_lt (V s) (V (P t)))) → post (h_length, h_ligatures, h_patterns, h_firstWide, h_restWide, h_firstLines, h_spaceWide, h_stretch, h_shrink, h_tolerance, h_cost, h_height, h_ready, h_glyphCount, h_breaks, h_natural, h_spaces, h_lineCount, h_paragraphs, b_text, b_wide, b_joined, b_kerns, b_patA, b_patB, b_patC, b_patDigits, b_glyphs, b_glyphOf, b_bEnd, b_bNext, b_bHyphen, b_least, b_before, b_way, b_lFrom, b_lTo, b_lNumber, b_lParagraph, b_lPage, b_lHyphen, b_lLast, b_best)) : wpY_offer post (h_length, h_ligatures, h_patterns, h_firstWide, h_restWide, h_firstLines, h_spaceWide, h_stretch, h_shrink, h_tolerance, h_cost, h_height, h_ready, h_glyphCount, h_breaks, h_natural, h_spaces, h_lineCount, h_paragraphs, b_text, b_wide, b_joined, b_kerns, b_patA, b_patB, b_patC, b_patDigits, b_glyphs, b_glyphOf, b_bEnd, b_bNext, b_bHyphen, b_least, b_before, b_way, b_lFrom, b_lTo, b_lNumber, b_lParagraph, b_lPage, b_lHyphen, b_lLast, b_best) (nI t) (lN sum) (nI s) := by
  have ht : t < 16 * nb + 16 := by omega
  have hv : vp_in (nI t) 800 := vp_in_nI (by omega) (by decide)
  have hDb := dp_Db O I hnb ht
  have k250 : (D t = 0 ∨ sum < D t - 1 ∨ (D t - 1 = sum ∧ dp_lt (V s) (V (P t)))) → wY_offer_49 post (nI t) (lN sum) (nI s) h_length h_ligatures h_patterns h_firstWide h_restWide h_firstLines h_spaceWide h_stretch h_shrink h_tolerance h_cost h_height h_ready h_glyphCount h_breaks h_natural h_spaces h_lineCount h_paragraphs b_text b_wide b_joined b_kerns b_patA b_patB b_patC b_patDigits b_glyphs b_glyphOf b_bEnd b_bNext b_bHyphen b_least b_before b_way b_lFrom b_lTo b_lNumber b_lParagraph b_lPage b_lHyphen b_lLast b_best := by
    intro g
    refine ⟨hv, nm_r (e' := vp_updL b_least t (lN sum)) (by rw [nI_clamp (by omega)]) ⟨hv, nm_r (e' := upd b_before t (nI s)) (by rw [nI_clamp (by omega)]) (h1 g)⟩⟩
  refine ⟨hv, ?_⟩
  rw [nI_clamp (n := t) (by omega), A.1 t ht]
  refine ek_if (dp_lc_lt (by omega)) (fun g => k250 (Or.inl g)) (fun g => ⟨hv, ?_⟩)
  rw [dp_lc_n g]
  refine ek_if (pk_lLT (by omega) (by omega)) (fun g1 => h2 g (Or.inl g1)) (fun g1 => ⟨hv, ek_if (pk_lEQ (by omega) (by omega)) (fun g2 => ⟨hv, ?_⟩) (fun g2 => k250 (Or.inr (Or.inl (by omega))))⟩)
  obtain ⟨n1, w1, m1, c1⟩ := I.1 t ht g
  rcases c1 with ⟨c1, -⟩ | ⟨a1, a2, a3, a4, a5⟩
  · omega
  rw [A.2 t a1 ht g]
  exact ⟨49, yw_later I A hnb 49 s (P t) 49 (by omega) (by omega) hs (by omega) ds a4 (fun y => hps g y.symm) (fun g3 => br_f (by decide) (k250 (Or.inr (Or.inr ⟨g2.symm, g3⟩)))) (fun g3 => br_t rfl (h2 g (Or.inr ⟨g2.symm, g3⟩)))⟩
theorem yw_cls {post : Int32 → Prop} {b t w : Nat} {x : Int32} (hb : b ≤ 10000) (ht : t ≤ 300) (hw : w ≤ 2700) (hx : x = nI t - nI w) (h : post (nI (bq_cl t w b))) : wpY_classOf post (h_length, h_ligatures, h_patterns, h_firstWide, h_restWide, h_firstLines, h_spaceWide, h_stretch, h_shrink, h_tolerance, h_cost, h_height, h_ready, h_glyphCount, h_breaks, h_natural, h_spaces, h_lineCount, h_paragraphs, b_text, b_wide, b_joined, b_kerns, b_patA, b_patB, b_patC, b_patDigits, b_glyphs, b_glyphOf, b_bEnd, b_bNext, b_bHyphen, b_least, b_before, b_way, b_lFrom, b_lTo, b_lNumber, b_lParagraph, b_lPage, b_lHyphen, b_lLast, b_best) (nI b) x := by
  unfold bq_cl at h
  have hx0 : 0 ≤ x ↔ w ≤ t := by
    rw [hx, Int32.le_iff_toInt_le, pk_sub_toInt (by omega) (by omega)]
    show (0 : Int) ≤ _ ↔ _
    omega
  refine pk_lt 12 b (fun g => ek_if hx0 (fun g1 => ?_) (fun g1 => ?_)) (fun g => ?_)
  · rw [if_neg (by omega), if_neg (by omega)] at h
    refine pk_le 100 b (fun g2 => ?_) (fun g2 => ?_)
    · rw [if_neg (by omega)] at h; exact h
    · rw [if_pos (by omega)] at h; exact h
  · rw [if_neg (by omega), if_pos (by omega)] at h; exact h
  · rw [if_pos (by omega)] at h; exact h
theorem yw_ml {post : SY → Prop} {a z p k : Nat} (F : ey_F e h_length b_text b_wide b_joined b_kerns) (M : ey_M e h_firstWide h_restWide h_firstLines h_spaceWide h_stretch h_shrink h_tolerance h_cost h_height) (Z : pd_ok e a z) (B : ey_B e a z h_breaks b_bEnd b_bNext b_bHyphen) (hp : p < k) (hk : k ≤ pr_nb e a z)
    (h : ∀ gc gs go, post (h_length, h_ligatures, h_patterns, h_firstWide, h_restWide, h_firstLines, h_spaceWide, h_stretch, h_shrink, h_tolerance, h_cost, h_height, h_ready, gc, h_breaks, nI (pr_w e a z p k), nI (pr_s e a z p k), h_lineCount, h_paragraphs, b_text, b_wide, b_joined, b_kerns, b_patA, b_patB, b_patC, b_patDigits, gs, go, b_bEnd, b_bNext, b_bHyphen, b_least, b_before, b_way, b_lFrom, b_lTo, b_lNumber, b_lParagraph, b_lPage, b_lHyphen, b_lLast, b_best)) : wpY_measureLine post (h_length, h_ligatures, h_patterns, h_firstWide, h_restWide, h_firstLines, h_spaceWide, h_stretch, h_shrink, h_tolerance, h_cost, h_height, h_ready, h_glyphCount, h_breaks, h_natural, h_spaces, h_lineCount, h_paragraphs, b_text, b_wide, b_joined, b_kerns, b_patA, b_patB, b_patC, b_patDigits, b_glyphs, b_glyphOf, b_bEnd, b_bNext, b_bHyphen, b_least, b_before, b_way, b_lFrom, b_lTo, b_lNumber, b_lParagraph, b_lPage, b_lHyphen, b_lLast, b_best) (nI p) (nI k) := by
  have E := F.2.2.2.2.2
  have h48 := E.1
  have hzl := Z.2.1
  have hnb := pr_nb_b (e := e) (a := a) (z := z)
  have hvp : vp_in (nI p) 50 := vp_in_nI (by omega) (by decide)
  have hvk : vp_in (nI k) 50 := vp_in_nI (by omega) (by decide)
  obtain ⟨o1, o2, o3, o4, o5, -⟩ := li_mk_ok E (par := 0) (j := 0) Z hp hk
  refine ⟨hvp, hvk, hvk, ?_⟩
  rw [nI_clamp (n := p) (by omega), nI_clamp (n := k) (by omega), B.2.2.1 p (by omega), B.2.1 k (by omega) hk, B.2.2.2 k hk]
  exact yw_walk F M.2.2.2.1 M.2.2.2.2.2.2.2.2.2.2.2.2.1 rfl o1 o2 o3 o4 o5 h
end
end
section
/-! the reference: setting one paragraph -/
def dp_cy (k s : Nat) : Nat → Nat := fun j => if j < k then 16 * j else if j = k then s else 0
theorem dp_cy_k (k s : Nat) : dp_cy k s k = s := by unfold dp_cy; rw [if_neg (by omega), if_pos rfl]
theorem dp_cy_l {k s j : Nat} (h : j < k) : dp_cy k s j = 16 * j := by unfold dp_cy; rw [if_pos h]
theorem dp_cy_u (k s : Nat) : dp_u (dp_cy k s) k (s + 1) = dp_cy k (s + 1) := by
  funext j
  by_cases e : j = k
  · subst e; rw [dp_us, dp_cy_k]
  · rw [dp_un _ _ e]
    unfold dp_cy
    rw [if_neg e, if_neg e]
theorem dp_cy_n (k : Nat) : dp_cy k (16 * k) = dp_cy (k + 1) 0 := by
  funext j
  unfold dp_cy
  by_cases h : j < k
  · rw [if_pos h, if_pos (by omega)]
  · rw [if_neg h]
    by_cases h2 : j = k
    · rw [if_pos h2, if_pos (by omega), h2]
    · rw [if_neg h2, if_neg (by omega)]
      split <;> rfl
theorem dp_cy_all {k s : Nat} (hs : s ≤ 16 * k) (j : Nat) : dp_cy k s j ≤ 16 * k := by
  unfold dp_cy
  split
  · omega
  · split <;> omega
theorem iw_x10 {c m : Nat} (hc : c < 4) (hm : m < 4) : (1 < nI c - nI m ↔ m + 1 < c) ∧ ((-1) ≤ nI c - nI m ↔ m ≤ c + 1) := by
  have h := pk_sub_toInt (a := c) (b := m) (by omega) (by omega)
  rw [Int32.lt_iff_toInt_lt, Int32.le_iff_toInt_le, h]
  have h1 : (1 : Int32).toInt = 1 := by decide
  have h2 : (-1 : Int32).toInt = -1 := by decide
  rw [h1, h2]
  omega
/-- the lines set so far -/
def ey_L (s : Nat × (Nat → li_T)) (h_lineCount : Int32) (b_lFrom b_lTo b_lNumber b_lParagraph b_lHyphen b_lLast : Nat → Int32) : Prop :=
  h_lineCount = nI s.1 ∧ ∀ i, i < s.1 → b_lFrom i = nI (li_f (s.2 i)) ∧ b_lTo i = nI (li_t (s.2 i)) ∧ b_lNumber i = nI (li_n (s.2 i)) ∧ b_lParagraph i = nI (li_p (s.2 i)) ∧ b_lHyphen i = bl_i (li_h (s.2 i)) ∧ b_lLast i = bl_i (li_l (s.2 i))
section
variable {e : gv_T} {h_length h_ligatures h_patterns h_firstWide h_restWide h_firstLines h_spaceWide h_stretch h_shrink h_tolerance h_cost h_height h_ready h_glyphCount h_breaks h_natural h_spaces h_lineCount h_paragraphs : Int32} {b_text b_wide b_joined b_kerns b_patA b_patB b_patC b_patDigits b_glyphs b_glyphOf b_bEnd b_bNext b_bHyphen b_before b_way b_lFrom b_lTo b_lNumber b_lParagraph b_lPage b_lHyphen b_lLast : Nat → Int32} {b_least b_best : Nat → Int64}
theorem yw_e73 {post : SY → Prop} {J : _} {a z : Nat} {cut : Nat → Nat} {D P : Nat → Nat} {V : Nat → List Nat} (F : ey_F e h_length b_text b_wide b_joined b_kerns) (M : ey_M e h_firstWide h_restWide h_firstLines h_spaceWide h_stretch h_shrink h_tolerance h_cost h_height) (Z : pd_ok e a z) (B : ey_B e a z h_breaks b_bEnd b_bNext b_bHyphen) (I : dp_in (pr_S e a z) 3 (pr_nb e a z) cut D P V) (A : dp_ar (pr_nb e a z) b_least b_before D P) {s k : Nat} (ds : D s ≠ 0) (hp : s / 16 < k) (hk : k ≤ pr_nb e a z) (hcp : 16 * (s / 16) ≤ cut (s / 16)) (hck : cut k = s) (hall : ∀ j, j ≤ pr_nb e a z → cut j ≤ 16 * k) (hn2 : h_spaces = nI (pr_s e a z (s / 16) k)) {x5 z0 : Int32} (hx5 : x5 = nI (bq_tg e (s / 4 % 4)) - nI (pr_w e a z (s / 16) k)) (hz0 : z0 = bl_i (decide (k = pr_nb e a z)))
    (h : ∀ D' P' V' L' F', dp_in (pr_S e a z) 3 (pr_nb e a z) (dp_u cut k (s + 1)) D' P' V' → dp_ar (pr_nb e a z) L' F' D' P' → J (nI (s + 1)) h_length h_ligatures h_patterns h_firstWide h_restWide h_firstLines h_spaceWide h_stretch h_shrink h_tolerance h_cost h_height h_ready h_glyphCount h_breaks h_natural h_spaces h_lineCount h_paragraphs b_text b_wide b_joined b_kerns b_patA b_patB b_patC b_patDigits b_glyphs b_glyphOf b_bEnd b_bNext b_bHyphen L' F' b_way b_lFrom b_lTo b_lNumber b_lParagraph b_lPage b_lHyphen b_lLast b_best) : wY_extend_73 post J (nI (s / 16)) (nI k) (nI s) (nI (s / 4 % 4)) x5 z0 x5 h_length h_ligatures h_patterns h_firstWide h_restWide h_firstLines h_spaceWide h_stretch h_shrink h_tolerance h_cost h_height h_ready h_glyphCount h_breaks h_natural h_spaces h_lineCount h_paragraphs b_text b_wide b_joined b_kerns b_patA b_patB b_patC b_patDigits b_glyphs b_glyphOf b_bEnd b_bNext b_bHyphen b_least b_before b_way b_lFrom b_lTo b_lNumber b_lParagraph b_lPage b_lHyphen b_lLast b_best := by
  obtain ⟨M1, M2, M3, M4, M5, M6, M7, M8, M9, K⟩ := id M
  obtain ⟨B1, B2, B3, B4⟩ := id B
  have E := F.2.2.2.2.2
  have h48 := E.1
  have hzl := Z.2.1
  have hnb := pr_nb_b (e := e) (a := a) (z := z)
  have hnb48 : pr_nb e a z ≤ 48 := by omega
  have O := pr_ok K a z (N := 3) K.2.2.1 (Nat.le_refl _)
  have hs : s < 16 * pr_nb e a z + 16 := by omega
  have hwb := pr_w_b E K.2.2.2.1 (p := s / 16) Z hk
  have htg := bq_tgb K (s / 4 % 4)
  have hvk : vp_in (nI k) 50 := vp_in_nI (by omega) (by decide)
  have hvp : vp_in (nI (s / 16)) 50 := vp_in_nI (by omega) (by decide)
  have hvs : vp_in (nI s) 800 := vp_in_nI (by omega) (by decide)
  have hDs := dp_Db O I hnb48 hs
  have hbb : pr_bd e a z (s / 16) k (s / 4 % 4) ≤ 10001 := bq_b _ _ _ _ _
  refine yw_bd M hx5 hz0 hn2 hwb.1 hwb.2 htg ?_
  show (bq_i (pr_bd e a z (s / 16) k (s / 4 % 4)) < 0 → _) ∧ _
  refine ek_if (bq_i_lt hbb) (fun g => nm_r (nI_1 s) ?_) (fun g => ?_)
  · refine h D P V b_least b_before (dp_raise O I (fun j hj => ?_) (fun j s' hj h1 h2 h3 => ?_)) A
    · by_cases ej : j = k
      · rw [ej, dp_us]; omega
      · rw [dp_un _ _ ej]; exact Nat.le_refl _
    · by_cases ej : j = k
      · rw [ej] at h1 h2
        rw [dp_us] at h2
        have : s' = s := by omega
        rw [this, ej]
        exact Or.inr (pr_S_n (Or.inl g))
      · rw [dp_un _ _ ej] at h2; omega
  · obtain ⟨b, hb⟩ : ∃ b, pr_bd e a z (s / 16) k (s / 4 % 4) = b + 1 := ⟨pr_bd e a z (s / 16) k (s / 4 % 4) - 1, by omega⟩
    have hb' : bq_c e (bq_tg e (s / 4 % 4)) (pr_w e a z (s / 16) k) (pr_s e a z (s / 16) k) (decide (k = pr_nb e a z)) = b + 1 := hb
    rw [hb', bq_i_s]
    have hb4 : b ≤ 10000 := by omega
    have htl := K.2.2.2.2.2.2.1
    refine pk_le b (gv_tl e) (fun g1 => ?_) (fun g1 => nm_r (nI_1 s) ?_) rfl M7
    · have hS : pr_S e a z (s / 16) k (s / 4 % 4) (s % 4) = some (pr_cl e a z (s / 16) k (s / 4 % 4), pr_ct e a z (s / 16) k (s / 4 % 4) (s % 4)) := pr_S_s (by rw [hb]; omega)
      have hcl4 := (O.2.1 _ _ _ _ _ _ hS)
      have hcl := hcl4.1
      refine yw_cls hb4 htg hwb.1 hx5 ?_
      have ecl : bq_cl (bq_tg e (s / 4 % 4)) (pr_w e a z (s / 16) k) b = pr_cl e a z (s / 16) k (s / 4 % 4) := by
        unfold pr_cl; rw [hb]; rfl
      rw [ecl]
      refine ⟨hvs, hvk, ?_⟩
      rw [nI_clamp (n := k) (by omega), nI_clamp (n := s) (by omega), A.1 s hs, dp_lc_n ds]
      have e10 : ((10 : Int64) + (nI b).toInt64) * ((10 : Int32) + nI b).toInt64 = lN ((10 + b) * (10 + b)) := by
        rw [show (10 : Int32) = nI 10 from rfl, nI_add, nI_l (by omega), nI_l (by omega), show (10 : Int64) = lN 10 from rfl, lN_add, lN_mul]
      rw [e10, lN_add]
      have k208 : ∀ sum, sum = D s - 1 + pr_ct e a z (s / 16) k (s / 4 % 4) (s % 4) → wY_extend_208 post J (nI (s / 16)) (nI k) (nI s) (nI (s / 4 % 4)) (nI (pr_cl e a z (s / 16) k (s / 4 % 4))) (lN sum) h_length h_ligatures h_patterns h_firstWide h_restWide h_firstLines h_spaceWide h_stretch h_shrink h_tolerance h_cost h_height h_ready h_glyphCount h_breaks h_natural h_spaces h_lineCount h_paragraphs b_text b_wide b_joined b_kerns b_patA b_patB b_patC b_patDigits b_glyphs b_glyphOf b_bEnd b_bNext b_bHyphen b_least b_before b_way b_lFrom b_lTo b_lNumber b_lParagraph b_lPage b_lHyphen b_lLast b_best := by
        intro sum hsum
        have k228 : ∀ m : Nat, m = min (s / 4 % 4 + 1) 3 → wY_extend_228 post J (nI (s / 16)) (nI k) (nI s) (nI (pr_cl e a z (s / 16) k (s / 4 % 4))) (lN sum) (nI m) 4 (16 * nI k) h_length h_ligatures h_patterns h_firstWide h_restWide h_firstLines h_spaceWide h_stretch h_shrink h_tolerance h_cost h_height h_ready h_glyphCount h_breaks h_natural h_spaces h_lineCount h_paragraphs b_text b_wide b_joined b_kerns b_patA b_patB b_patC b_patDigits b_glyphs b_glyphOf b_bEnd b_bNext b_bHyphen b_least b_before b_way b_lFrom b_lTo b_lNumber b_lParagraph b_lPage b_lHyphen b_lLast b_best := by
          intro m hm
          have et : (16 : Int32) * nI k + 4 * nI m + nI (pr_cl e a z (s / 16) k (s / 4 % 4)) = nI (16 * k + 4 * m + pr_cl e a z (s / 16) k (s / 4 % 4)) := by
            rw [iw_16, show (4 : Int32) = nI 4 from rfl, pk_mul, nI_add, nI_add]
          unfold wY_extend_228
          rw [et]
          refine yw_offer O I A hnb48 hs ds hcl4.1 (by omega) hk (by omega) rfl ?_ (by omega) (fun g2 => nm_r (nI_1 s) ?_) (fun g2 g3 => nm_r (nI_1 s) ?_)
          · intro dt ept
            have ht : 16 * k + 4 * m + pr_cl e a z (s / 16) k (s / 4 % 4) < 16 * pr_nb e a z + 16 := by omega
            obtain ⟨-, -, -, c1⟩ := I.1 _ ht dt
            rcases c1 with ⟨c1, -⟩ | ⟨-, -, a3, -, -⟩
            · omega
            · rw [ept, show (16 * k + 4 * m + pr_cl e a z (s / 16) k (s / 4 % 4)) / 16 = k from by omega, hck] at a3
              omega
          · rw [hm] at g2 ⊢
            refine h _ _ _ _ _ (dp_take O I hs ds hp hk hcp hck hall hS rfl (by rw [← hsum]; exact g2)) ?_
            rw [← hsum]; exact dp_ar_u A _ _ _
          · rw [hm] at g2 g3
            exact h _ _ _ _ _ (dp_keep O I hs ds hp hk hcp hck hS rfl g2 (by rw [← hsum]; exact g3)) A
        refine pk_le 3 (s / 4 % 4) (fun g2 => k228 3 (by omega)) (fun g2 => ?_)
        rw [nI_1]
        exact k228 (s / 4 % 4 + 1) (by omega)
      have k176 : ∀ (z0 : Int32) (v v0 : Nat), z0.toInt64 = lN v → v0 + v + (if s % 4 + 1 < pr_cl e a z (s / 16) k (s / 4 % 4) ∨ pr_cl e a z (s / 16) k (s / 4 % 4) + 1 < s % 4 then 2000 else 0) = D s - 1 + pr_ct e a z (s / 16) k (s / 4 % 4) (s % 4) → wY_extend_176 post J (nI (s / 16)) (nI k) (nI s) (nI (s / 4 % 4)) (nI (pr_cl e a z (s / 16) k (s / 4 % 4))) z0 (lN v0) h_length h_ligatures h_patterns h_firstWide h_restWide h_firstLines h_spaceWide h_stretch h_shrink h_tolerance h_cost h_height h_ready h_glyphCount h_breaks h_natural h_spaces h_lineCount h_paragraphs b_text b_wide b_joined b_kerns b_patA b_patB b_patC b_patDigits b_glyphs b_glyphOf b_bEnd b_bNext b_bHyphen b_least b_before b_way b_lFrom b_lTo b_lNumber b_lParagraph b_lPage b_lHyphen b_lLast b_best := by
        intro z0 v v0 hz hsum
        refine nm_r (e' := lN (v0 + v)) (by rw [hz, lN_add]) ⟨by decide, nm_r (e' := nI (pr_cl e a z (s / 16) k (s / 4 % 4)) - nI (s % 4)) (by rw [show (4 : Int32) = nI 4 from rfl, pk_rem (by omega) (by omega) (by omega)]) ?_⟩
        refine ek_if (iw_x10 hcl (by omega)).1 (fun g2 => ?_) (fun g2 => ek_if (iw_x10 hcl (by omega)).2 (fun g3 => ?_) (fun g3 => ?_))
        · rw [if_pos (Or.inl g2)] at hsum
          exact nm_r (e' := lN (v0 + v + 2000)) (lN_add _ _) (k208 _ hsum)
        · rw [if_neg (by omega)] at hsum
          exact k208 _ hsum
        · rw [if_pos (Or.inr (by omega))] at hsum
          exact nm_r (e' := lN (v0 + v + 2000)) (lN_add _ _) (k208 _ hsum)
      have k150 : ∀ (y : Int64) (v : Nat), y = lN v → v = (if pr_hy e a z k = true then gv_cs e * gv_cs e else 0) → wY_extend_150 post J (nI (s / 16)) (nI k) (nI s) (nI (s / 4 % 4)) (nI (pr_cl e a z (s / 16) k (s / 4 % 4))) y (lN (D s - 1 + (10 + b) * (10 + b))) h_length h_ligatures h_patterns h_firstWide h_restWide h_firstLines h_spaceWide h_stretch h_shrink h_tolerance h_cost h_height h_ready h_glyphCount h_breaks h_natural h_spaces h_lineCount h_paragraphs b_text b_wide b_joined b_kerns b_patA b_patB b_patC b_patDigits b_glyphs b_glyphOf b_bEnd b_bNext b_bHyphen b_least b_before b_way b_lFrom b_lTo b_lNumber b_lParagraph b_lPage b_lHyphen b_lLast b_best := by
        intro y v hy hv
        have ect : pr_ct e a z (s / 16) k (s / 4 % 4) (s % 4) = (10 + b) * (10 + b) + v + (if pr_hy e a z k = true ∧ pr_hy e a z (s / 16) = true then 3000 else 0) + (if s % 4 + 1 < pr_cl e a z (s / 16) k (s / 4 % 4) ∨ pr_cl e a z (s / 16) k (s / 4 % 4) + 1 < s % 4 then 2000 else 0) := by
          unfold pr_ct
          rw [hb, ← hv, Nat.add_sub_cancel]
        refine ⟨hvk, ?_⟩
        rw [hy, lN_add, nI_clamp (n := k) (by omega), nI_clamp (n := s / 16) (by omega)]
        refine bl_br (B4 k hk) (fun g2 => k176 0 0 _ rfl ?_) (fun g2 => ⟨hvp, bl_br (B4 (s / 16) (by omega)) (fun g3 => k176 0 0 _ rfl ?_) (fun g3 => k176 3000 3000 _ rfl ?_)⟩)
        · rw [ect, if_neg (c := pr_hy e a z k = true ∧ pr_hy e a z (s / 16) = true) (fun y => by rw [g2] at y; cases y.1)]
          omega
        · rw [ect, if_neg (c := pr_hy e a z k = true ∧ pr_hy e a z (s / 16) = true) (fun y => by rw [g3] at y; cases y.2)]
          omega
        · rw [ect, if_pos (c := pr_hy e a z k = true ∧ pr_hy e a z (s / 16) = true) ⟨g2, g3⟩]
          omega
      have hcs := K.2.2.2.2.2.2.2.1
      exact bl_br (B4 k hk) (fun g2 => k150 0 0 rfl (by rw [g2]; rfl)) (fun g2 => k150 _ (gv_cs e * gv_cs e) (by rw [M8, nI_l (by omega), lN_mul]) (by rw [if_pos g2]))
    · refine h D P V b_least b_before (dp_raise O I (fun j hj => ?_) (fun j s' hj h1 h2 h3 => ?_)) A
      · by_cases ej : j = k
        · rw [ej, dp_us]; omega
        · rw [dp_un _ _ ej]; exact Nat.le_refl _
      · by_cases ej : j = k
        · rw [ej] at h1 h2
          rw [dp_us] at h2
          have : s' = s := by omega
          rw [this, ej]
          exact Or.inr (pr_S_n (Or.inr (by rw [hb]; omega)))
        · rw [dp_un _ _ ej] at h2; omega
theorem yw_e11 {post : SY → Prop} {a z p k : Nat} (F : ey_F e h_length b_text b_wide b_joined b_kerns) (M : ey_M e h_firstWide h_restWide h_firstLines h_spaceWide h_stretch h_shrink h_tolerance h_cost h_height) (Z : pd_ok e a z) (B : ey_B e a z h_breaks b_bEnd b_bNext b_bHyphen) (hp : p < k) (hk : k ≤ pr_nb e a z) (hn1 : h_natural = nI (pr_w e a z p k)) (hn2 : h_spaces = nI (pr_s e a z p k))
    (h : ∀ D P V L' F', dp_in (pr_S e a z) 3 (pr_nb e a z) (dp_cy k (16 * p + 16)) D P V → dp_ar (pr_nb e a z) L' F' D P → post (h_length, h_ligatures, h_patterns, h_firstWide, h_restWide, h_firstLines, h_spaceWide, h_stretch, h_shrink, h_tolerance, h_cost, h_height, h_ready, h_glyphCount, h_breaks, h_natural, h_spaces, h_lineCount, h_paragraphs, b_text, b_wide, b_joined, b_kerns, b_patA, b_patB, b_patC, b_patDigits, b_glyphs, b_glyphOf, b_bEnd, b_bNext, b_bHyphen, L', F', b_way, b_lFrom, b_lTo, b_lNumber, b_lParagraph, b_lPage, b_lHyphen, b_lLast, b_best)) :
    ∀ d n s L' F' D P V, d < n → s + d = 16 * p + 16 → 16 * p ≤ s → dp_in (pr_S e a z) 3 (pr_nb e a z) (dp_cy k s) D P V → dp_ar (pr_nb e a z) L' F' D P → wY_extend_11 post (nI p) (nI k) n (nI s) h_length h_ligatures h_patterns h_firstWide h_restWide h_firstLines h_spaceWide h_stretch h_shrink h_tolerance h_cost h_height h_ready h_glyphCount h_breaks h_natural h_spaces h_lineCount h_paragraphs b_text b_wide b_joined b_kerns b_patA b_patB b_patC b_patDigits b_glyphs b_glyphOf b_bEnd b_bNext b_bHyphen L' F' b_way b_lFrom b_lTo b_lNumber b_lParagraph b_lPage b_lHyphen b_lLast b_best := by
  have E := F.2.2.2.2.2
  have K := M.2.2.2.2.2.2.2.2.2
  have h48 := E.1
  have hzl := Z.2.1
  have hnb := pr_nb_b (e := e) (a := a) (z := z)
  have O := pr_ok K a z (N := 3) K.2.2.1 (Nat.le_refl _)
  intro d
  induction d with
  | zero =>
    intro n s L' F' D P V hn hs h1 I A
    obtain ⟨n, rfl⟩ : ∃ n', n = n' + 1 := ⟨n - 1, by omega⟩
    have : s = 16 * p + 16 := by omega
    subst this
    refine br_t ?_ (h D P V L' F' I A)
    rw [iw_1616]; exact nI_le (Nat.le_refl _) (by omega)
  | succ d ih =>
    intro n s L' F' D P V hn hs h1 I A
    obtain ⟨n, rfl⟩ : ∃ n', n = n' + 1 := ⟨n - 1, by omega⟩
    have hs2 : s < 16 * pr_nb e a z + 16 := by omega
    have hDb := dp_Db O I (by omega) hs2
    have e16 : s / 16 = p := by omega
    refine br_f ?_ ⟨vp_in_nI (by omega) (by decide), ?_⟩
    · rw [iw_1616]; exact nI_ge (by omega) (by omega)
    rw [nI_clamp (n := s) (by omega), A.1 s hs2]
    refine ek_if (dp_lc_ge (by omega)) (fun g => ⟨by decide, by decide, nm_r (e' := nI (s / 4 % 4)) ?_ ?_⟩) (fun g => nm_r (nI_1 s) (ih n (s + 1) L' F' D P V (by omega) (by omega) (by omega) ?_ A))
    · rw [show (16 : Int32) = nI 16 from rfl, pk_rem (by omega) (by omega) (by omega), show (4 : Int32) = nI 4 from rfl, pk_div (by omega) (by omega) (by omega)]
      exact congrArg nI (by omega)
    · refine yw_tg M (by omega) (nm_r (e' := nI (bq_tg e (s / 4 % 4)) - nI (pr_w e a z (s / 16) k)) (by rw [hn1, e16]) ?_)
      have k73 : ∀ z0 : Int32, z0 = bl_i (decide (k = pr_nb e a z)) → wY_extend_73 post (wY_extend_11 post (nI p) (nI k) n) (nI p) (nI k) (nI s) (nI (s / 4 % 4)) (nI (bq_tg e (s / 4 % 4)) - nI (pr_w e a z (s / 16) k)) z0 (nI (bq_tg e (s / 4 % 4)) - nI (pr_w e a z (s / 16) k)) h_length h_ligatures h_patterns h_firstWide h_restWide h_firstLines h_spaceWide h_stretch h_shrink h_tolerance h_cost h_height h_ready h_glyphCount h_breaks h_natural h_spaces h_lineCount h_paragraphs b_text b_wide b_joined b_kerns b_patA b_patB b_patC b_patDigits b_glyphs b_glyphOf b_bEnd b_bNext b_bHyphen L' F' b_way b_lFrom b_lTo b_lNumber b_lParagraph b_lPage b_lHyphen b_lLast b_best := by
        intro z0 hz0
        have := yw_e73 (post := post) (J := wY_extend_11 post (nI p) (nI k) n) (b_least := L') (b_before := F') F M Z B I A g (by omega) hk (by rw [e16, dp_cy_l hp]; exact Nat.le_refl _) (dp_cy_k k s) (fun j _ => dp_cy_all (by omega) j) (by rw [e16]; exact hn2) rfl hz0 (fun D2 P2 V2 L2 F2 I2 A2 => ih n (s + 1) L2 F2 D2 P2 V2 (by omega) (by omega) (by omega) (by rw [← dp_cy_u]; exact I2) A2)
        rw [e16] at this ⊢
        exact this
      exact pk_eq k (pr_nb e a z) (fun g1 => k73 1 (by rw [decide_eq_true g1]; rfl)) (fun g1 => k73 0 (by rw [decide_eq_false g1]; rfl)) rfl B.1
    · have g' : D s = 0 := Classical.not_not.mp g
      refine dp_raise O I (fun j hj => ?_) (fun j s' hj g1 g2 g3 => ?_)
      · rw [← dp_cy_u]
        by_cases ej : j = k
        · rw [ej, dp_us, dp_cy_k]; omega
        · rw [dp_un _ _ ej]; exact Nat.le_refl _
      · rw [← dp_cy_u] at g2
        by_cases ej : j = k
        · rw [ej, dp_us] at g2
          rw [ej, dp_cy_k] at g1
          have : s' = s := by omega
          rw [this, e16]
          exact Or.inl ⟨by rw [dp_cy_l hp]; exact Nat.le_refl _, g'⟩
        · rw [dp_un _ _ ej] at g2; omega
theorem yw_extend {post : SY → Prop} {a z p k : Nat} {D P : Nat → Nat} {V : Nat → List Nat} (F : ey_F e h_length b_text b_wide b_joined b_kerns) (M : ey_M e h_firstWide h_restWide h_firstLines h_spaceWide h_stretch h_shrink h_tolerance h_cost h_height) (Z : pd_ok e a z) (B : ey_B e a z h_breaks b_bEnd b_bNext b_bHyphen) (hp : p < k) (hk : k ≤ pr_nb e a z) (I : dp_in (pr_S e a z) 3 (pr_nb e a z) (dp_cy k (16 * p)) D P V) (A : dp_ar (pr_nb e a z) b_least b_before D P)
    (h : ∀ D P V L' F' nat' spc' gc gs go, dp_in (pr_S e a z) 3 (pr_nb e a z) (dp_cy k (16 * p + 16)) D P V → dp_ar (pr_nb e a z) L' F' D P → post (h_length, h_ligatures, h_patterns, h_firstWide, h_restWide, h_firstLines, h_spaceWide, h_stretch, h_shrink, h_tolerance, h_cost, h_height, h_ready, gc, h_breaks, nat', spc', h_lineCount, h_paragraphs, b_text, b_wide, b_joined, b_kerns, b_patA, b_patB, b_patC, b_patDigits, gs, go, b_bEnd, b_bNext, b_bHyphen, L', F', b_way, b_lFrom, b_lTo, b_lNumber, b_lParagraph, b_lPage, b_lHyphen, b_lLast, b_best)) : wpY_extend post (h_length, h_ligatures, h_patterns, h_firstWide, h_restWide, h_firstLines, h_spaceWide, h_stretch, h_shrink, h_tolerance, h_cost, h_height, h_ready, h_glyphCount, h_breaks, h_natural, h_spaces, h_lineCount, h_paragraphs, b_text, b_wide, b_joined, b_kerns, b_patA, b_patB, b_patC, b_patDigits, b_glyphs, b_glyphOf, b_bEnd, b_bNext, b_bHyphen, b_least, b_before, b_way, b_lFrom, b_lTo, b_lNumber, b_lParagraph, b_lPage, b_lHyphen, b_lLast, b_best) (nI p) (nI k) := by
  unfold wpY_extend
  refine yw_ml F M Z B hp hk (fun gc gs go => nm_r (iw_16 p) ⟨17, ?_⟩)
  exact yw_e11 (h_natural := nI (pr_w e a z p k)) (h_spaces := nI (pr_s e a z p k)) (h_glyphCount := gc) (b_glyphs := gs) (b_glyphOf := go) F M Z B hp hk rfl rfl (fun D2 P2 V2 L2 F2 I2 A2 => h D2 P2 V2 L2 F2 _ _ gc gs go I2 A2) 16 17 (16 * p) b_least b_before D P V (by omega) (by omega) (Nat.le_refl _) I A
theorem yw_b50 {post : Int32 → SY → Prop} {J : _} {a z k : Nat} (F : ey_F e h_length b_text b_wide b_joined b_kerns) (M : ey_M e h_firstWide h_restWide h_firstLines h_spaceWide h_stretch h_shrink h_tolerance h_cost h_height) (Z : pd_ok e a z) (B : ey_B e a z h_breaks b_bEnd b_bNext b_bHyphen) (hk : k ≤ pr_nb e a z)
    (h : ∀ D P V L' F' nat' spc' gc gs go, dp_in (pr_S e a z) 3 (pr_nb e a z) (dp_cy (k + 1) 0) D P V → dp_ar (pr_nb e a z) L' F' D P → J (nI (k + 1)) h_length h_ligatures h_patterns h_firstWide h_restWide h_firstLines h_spaceWide h_stretch h_shrink h_tolerance h_cost h_height h_ready gc h_breaks nat' spc' h_lineCount h_paragraphs b_text b_wide b_joined b_kerns b_patA b_patB b_patC b_patDigits gs go b_bEnd b_bNext b_bHyphen L' F' b_way b_lFrom b_lTo b_lNumber b_lParagraph b_lPage b_lHyphen b_lLast b_best) :
    ∀ d n p D P V L' F' nat' spc' gc gs go, d < n → p + d = k → dp_in (pr_S e a z) 3 (pr_nb e a z) (dp_cy k (16 * p)) D P V → dp_ar (pr_nb e a z) L' F' D P → wY_bestWay_50 post J (nI k) n (nI p) h_length h_ligatures h_patterns h_firstWide h_restWide h_firstLines h_spaceWide h_stretch h_shrink h_tolerance h_cost h_height h_ready gc h_breaks nat' spc' h_lineCount h_paragraphs b_text b_wide b_joined b_kerns b_patA b_patB b_patC b_patDigits gs go b_bEnd b_bNext b_bHyphen L' F' b_way b_lFrom b_lTo b_lNumber b_lParagraph b_lPage b_lHyphen b_lLast b_best := by
  have h48 := F.2.2.2.2.2.1
  have hzl := Z.2.1
  have hnb := pr_nb_b (e := e) (a := a) (z := z)
  intro d
  induction d with
  | zero =>
    intro n p D P V L' F' nat' spc' gc gs go hn hp I A
    obtain ⟨n, rfl⟩ : ∃ n', n = n' + 1 := ⟨n - 1, by omega⟩
    have : p = k := by omega
    subst this
    exact br_t (nI_le (Nat.le_refl _) (by omega)) (nm_r (nI_1 p) (h D P V L' F' nat' spc' gc gs go (by rw [← dp_cy_n]; exact I) A))
  | succ d ih =>
    intro n p D P V L' F' nat' spc' gc gs go hn hp I A
    obtain ⟨n, rfl⟩ : ∃ n', n = n' + 1 := ⟨n - 1, by omega⟩
    exact br_f (nI_ge (by omega) (by omega)) (yw_extend (b_least := L') (b_before := F') F M Z B (by omega) hk I A (fun D2 P2 V2 L2 F2 nat2 spc2 gc2 gs2 go2 I2 A2 => nm_r (nI_1 p) (ih n (p + 1) D2 P2 V2 L2 F2 nat2 spc2 gc2 gs2 go2 (by omega) (by omega) I2 A2)))
theorem yw_b40 {post : Int32 → SY → Prop} {a z : Nat} (F : ey_F e h_length b_text b_wide b_joined b_kerns) (M : ey_M e h_firstWide h_restWide h_firstLines h_spaceWide h_stretch h_shrink h_tolerance h_cost h_height) (Z : pd_ok e a z) (B : ey_B e a z h_breaks b_bEnd b_bNext b_bHyphen)
    (h : ∀ D P V L' F' nat' spc' gc gs go, dp_in (pr_S e a z) 3 (pr_nb e a z) (dp_cy (pr_nb e a z + 1) 0) D P V → dp_ar (pr_nb e a z) L' F' D P → ∃ n83 : Nat, wY_bestWay_83 post h_length h_ligatures h_patterns h_firstWide h_restWide h_firstLines h_spaceWide h_stretch h_shrink h_tolerance h_cost h_height h_ready gc h_breaks nat' spc' h_lineCount h_paragraphs b_text b_wide b_joined b_kerns b_patA b_patB b_patC b_patDigits gs go b_bEnd b_bNext b_bHyphen L' F' b_way b_lFrom b_lTo b_lNumber b_lParagraph b_lPage b_lHyphen b_lLast b_best n83 (-1) (nI (16 * pr_nb e a z))) :
    ∀ d n k D P V L' F' nat' spc' gc gs go, d < n → k + d = pr_nb e a z + 1 → dp_in (pr_S e a z) 3 (pr_nb e a z) (dp_cy k 0) D P V → dp_ar (pr_nb e a z) L' F' D P → wY_bestWay_40 post n (nI k) h_length h_ligatures h_patterns h_firstWide h_restWide h_firstLines h_spaceWide h_stretch h_shrink h_tolerance h_cost h_height h_ready gc h_breaks nat' spc' h_lineCount h_paragraphs b_text b_wide b_joined b_kerns b_patA b_patB b_patC b_patDigits gs go b_bEnd b_bNext b_bHyphen L' F' b_way b_lFrom b_lTo b_lNumber b_lParagraph b_lPage b_lHyphen b_lLast b_best := by
  have h48 := F.2.2.2.2.2.1
  have hzl := Z.2.1
  have hnb := pr_nb_b (e := e) (a := a) (z := z)
  intro d
  induction d with
  | zero =>
    intro n k D P V L' F' nat' spc' gc gs go hn hk I A
    obtain ⟨n, rfl⟩ : ∃ n', n = n' + 1 := ⟨n - 1, by omega⟩
    have : k = pr_nb e a z + 1 := by omega
    subst this
    exact br_t (by rw [B.1]; exact nI_lt (by omega) (by omega)) (nm_r (e' := nI (16 * pr_nb e a z)) (by rw [B.1, iw_16]) (h D P V L' F' nat' spc' gc gs go I A))
  | succ d ih =>
    intro n k D P V L' F' nat' spc' gc gs go hn hk I A
    obtain ⟨n, rfl⟩ : ∃ n', n = n' + 1 := ⟨n - 1, by omega⟩
    refine br_f (by rw [B.1]; exact nI_nlt (by omega) (by omega)) ⟨k + 1, ?_⟩
    exact yw_b50 F M Z B (by omega) (fun D2 P2 V2 L2 F2 nat2 spc2 gc2 gs2 go2 I2 A2 => ih n (k + 1) D2 P2 V2 L2 F2 nat2 spc2 gc2 gs2 go2 (by omega) (by omega) I2 A2) k (k + 1) 0 D P V L' F' nat' spc' gc gs go (by omega) (by omega) I A
theorem yw_b2 {post : Int32 → SY → Prop} {a z : Nat} (F : ey_F e h_length b_text b_wide b_joined b_kerns) (M : ey_M e h_firstWide h_restWide h_firstLines h_spaceWide h_stretch h_shrink h_tolerance h_cost h_height) (Z : pd_ok e a z) (B : ey_B e a z h_breaks b_bEnd b_bNext b_bHyphen)
    (h : ∀ D P V L' F' nat' spc' gc gs go, dp_in (pr_S e a z) 3 (pr_nb e a z) (dp_cy (pr_nb e a z + 1) 0) D P V → dp_ar (pr_nb e a z) L' F' D P → ∃ n83 : Nat, wY_bestWay_83 post h_length h_ligatures h_patterns h_firstWide h_restWide h_firstLines h_spaceWide h_stretch h_shrink h_tolerance h_cost h_height h_ready gc h_breaks nat' spc' h_lineCount h_paragraphs b_text b_wide b_joined b_kerns b_patA b_patB b_patC b_patDigits gs go b_bEnd b_bNext b_bHyphen L' F' b_way b_lFrom b_lTo b_lNumber b_lParagraph b_lPage b_lHyphen b_lLast b_best n83 (-1) (nI (16 * pr_nb e a z))) :
    ∀ d n s L', d < n → s + d = 16 * pr_nb e a z + 16 → (∀ i, i < s → L' i = -1) → wY_bestWay_2 post h_length h_ligatures h_patterns h_firstWide h_restWide h_firstLines h_spaceWide h_stretch h_shrink h_tolerance h_cost h_height h_ready h_glyphCount h_breaks h_natural h_spaces h_lineCount h_paragraphs n (nI s) b_text b_wide b_joined b_kerns b_patA b_patB b_patC b_patDigits b_glyphs b_glyphOf b_bEnd b_bNext b_bHyphen L' b_before b_way b_lFrom b_lTo b_lNumber b_lParagraph b_lPage b_lHyphen b_lLast b_best := by
  have h48 := F.2.2.2.2.2.1
  have hzl := Z.2.1
  have hnb := pr_nb_b (e := e) (a := a) (z := z)
  have hle : (16 : Int32) * h_breaks + 16 = nI (16 * pr_nb e a z + 16) := by rw [B.1, iw_1616]
  intro d
  induction d with
  | zero =>
    intro n s L' hn hs hL
    obtain ⟨n, rfl⟩ : ∃ n', n = n' + 1 := ⟨n - 1, by omega⟩
    have : s = 16 * pr_nb e a z + 16 := by omega
    subst this
    refine br_t (by rw [hle]; exact nI_le (Nat.le_refl _) (by omega)) (nm_e ⟨pr_nb e a z + 1, ?_⟩)
    refine yw_b40 F M Z B h (pr_nb e a z) (pr_nb e a z + 1) 1 (fun s => if s = 1 then 1 else 0) (fun _ => 0) (fun _ => [0]) _ b_before h_natural h_spaces h_glyphCount b_glyphs b_glyphOf (by omega) (by omega) (dp_in0 _ (fun k => ?_)) ⟨fun s hs => ?_, fun s h1 h2 h3 => ?_⟩
    · unfold dp_cy
      split
      · omega
      · split <;> rfl
    · by_cases e1 : s = 1
      · subst e1
        rw [pk_uLs]; rfl
      · show _ = dp_lc (if s = 1 then 1 else 0)
        rw [pk_uLn e1, hL s hs, if_neg e1]; rfl
    · exact absurd (if_neg (by omega)) h3
  | succ d ih =>
    intro n s L' hn hs hL
    obtain ⟨n, rfl⟩ : ∃ n', n = n' + 1 := ⟨n - 1, by omega⟩
    refine br_f (by rw [hle]; exact nI_ge (by omega) (by omega)) ⟨vp_in_nI (by omega) (by decide), nm_r (e' := vp_updL L' s (-1)) (by rw [nI_clamp (by omega)]) (nm_r (nI_1 s) (ih n (s + 1) _ (by omega) (by omega) (fun i hi => ?_)))⟩
    by_cases ei : i = s
    · rw [ei, pk_uLs]
    · rw [pk_uLn ei]; exact hL i (by omega)
end
end
section
/-! the reference: the best way, the lines of a paragraph -/
section
variable {e : gv_T} {h_length h_ligatures h_patterns h_firstWide h_restWide h_firstLines h_spaceWide h_stretch h_shrink h_tolerance h_cost h_height h_ready h_glyphCount h_breaks h_natural h_spaces h_lineCount h_paragraphs : Int32} {b_text b_wide b_joined b_kerns b_patA b_patB b_patC b_patDigits b_glyphs b_glyphOf b_bEnd b_bNext b_bHyphen b_before b_way b_lFrom b_lTo b_lNumber b_lParagraph b_lPage b_lHyphen b_lLast : Nat → Int32} {b_least b_best : Nat → Int64}
theorem yw_83 {post : Int32 → SY → Prop} {a z : Nat} {cut : Nat → Nat} {D P : Nat → Nat} {V : Nat → List Nat} (M : ey_M e h_firstWide h_restWide h_firstLines h_spaceWide h_stretch h_shrink h_tolerance h_cost h_height) (hnb : pr_nb e a z ≤ 48) (hb : h_breaks = nI (pr_nb e a z)) (I : dp_in (pr_S e a z) 3 (pr_nb e a z) cut D P V) (A : dp_ar (pr_nb e a z) b_least b_before D P)
    (h0 : (∀ s, 16 * pr_nb e a z ≤ s → s < 16 * pr_nb e a z + 16 → D s = 0) → post 0 (h_length, h_ligatures, h_patterns, h_firstWide, h_restWide, h_firstLines, h_spaceWide, h_stretch, h_shrink, h_tolerance, h_cost, h_height, h_ready, h_glyphCount, h_breaks, h_natural, h_spaces, h_lineCount, h_paragraphs, b_text, b_wide, b_joined, b_kerns, b_patA, b_patB, b_patC, b_patDigits, b_glyphs, b_glyphOf, b_bEnd, b_bNext, b_bHyphen, b_least, b_before, b_way, b_lFrom, b_lTo, b_lNumber, b_lParagraph, b_lPage, b_lHyphen, b_lLast, b_best))
    (h1 : ∀ b, 16 * pr_nb e a z ≤ b → b < 16 * pr_nb e a z + 16 → D b ≠ 0 → (∀ s, 16 * pr_nb e a z ≤ s → s < 16 * pr_nb e a z + 16 → D s ≠ 0 → dp_le (D b - 1) (V b) (D s - 1) (V s)) → vp_in h_paragraphs 24 ∧ ∀ x : Nat → Int64, x = vp_updL b_best h_paragraphs.toNatClampNeg (lN (D b - 1)) → ∃ n189 : Nat, wY_bestWay_189 post h_length h_ligatures h_patterns h_firstWide h_restWide h_firstLines h_spaceWide h_stretch h_shrink h_tolerance h_cost h_height h_ready h_glyphCount h_breaks h_natural h_spaces h_lineCount h_paragraphs n189 0 (nI b) b_text b_wide b_joined b_kerns b_patA b_patB b_patC b_patDigits b_glyphs b_glyphOf b_bEnd b_bNext b_bHyphen b_least b_before b_way b_lFrom b_lTo b_lNumber b_lParagraph b_lPage b_lHyphen b_lLast x) :
    ∀ d n s c, d < n → s + d = 16 * pr_nb e a z + 16 → 16 * pr_nb e a z ≤ s → (c = 0 → ∀ s', 16 * pr_nb e a z ≤ s' → s' < s → D s' = 0) → (∀ b, c = b + 1 → 16 * pr_nb e a z ≤ b ∧ b < s ∧ D b ≠ 0 ∧ ∀ s', 16 * pr_nb e a z ≤ s' → s' < s → D s' ≠ 0 → dp_le (D b - 1) (V b) (D s' - 1) (V s')) → wY_bestWay_83 post h_length h_ligatures h_patterns h_firstWide h_restWide h_firstLines h_spaceWide h_stretch h_shrink h_tolerance h_cost h_height h_ready h_glyphCount h_breaks h_natural h_spaces h_lineCount h_paragraphs b_text b_wide b_joined b_kerns b_patA b_patB b_patC b_patDigits b_glyphs b_glyphOf b_bEnd b_bNext b_bHyphen b_least b_before b_way b_lFrom b_lTo b_lNumber b_lParagraph b_lPage b_lHyphen b_lLast b_best n (bq_i c) (nI s) := by
  have K := M.2.2.2.2.2.2.2.2.2
  have O := pr_ok K a z (N := 3) K.2.2.1 (Nat.le_refl _)
  have hle : (16 : Int32) * h_breaks + 16 = nI (16 * pr_nb e a z + 16) := by rw [hb, iw_1616]
  have hm1 : bq_i 0 < 0 := by decide
  have hm2 : ¬ 0 ≤ bq_i 0 := by decide
  intro d
  induction d with
  | zero =>
    intro n s c hn hs hbs hc0 hc1
    obtain ⟨n, rfl⟩ : ∃ n', n = n' + 1 := ⟨n - 1, by omega⟩
    have : s = 16 * pr_nb e a z + 16 := by omega
    subst this
    refine br_t (by rw [hle]; exact nI_le (Nat.le_refl _) (by omega)) ?_
    cases c with
    | zero => exact br_f hm2 (h0 (hc0 rfl))
    | succ b =>
      obtain ⟨b1, b2, b3, b4⟩ := hc1 b rfl
      rw [bq_i_s]
      have := h1 b b1 b2 b3 b4
      refine br_t (nI_pos' (by omega)) ⟨vp_in_nI (by omega) (by decide), ?_⟩
      rw [nI_clamp (n := b) (by omega), A.1 b (by omega), dp_lc_n b3]
      exact this
  | succ d ih =>
    intro n s c hn hs hbs hc0 hc1
    obtain ⟨n, rfl⟩ : ∃ n', n = n' + 1 := ⟨n - 1, by omega⟩
    have hs2 : s < 16 * pr_nb e a z + 16 := by omega
    have hv : vp_in (nI s) 800 := vp_in_nI (by omega) (by decide)
    have hDb := dp_Db O I hnb hs2
    refine br_f (by rw [hle]; exact nI_ge (by omega) (by omega)) ⟨hv, ?_⟩
    rw [nI_clamp (n := s) (by omega), A.1 s hs2]
    refine ek_if (dp_lc_ge (by omega)) (fun g => ?_) (fun g => nm_r (nI_1 s) (ih n (s + 1) c (by omega) (by omega) (by omega) (fun g1 s' h2 h3 => ?_) (fun b g1 => ?_)))
    · have take : (∀ b, c = b + 1 → dp_le (D s - 1) (V s) (D b - 1) (V b)) → ∀ x2 : Int32, x2 = nI s + 1 → wY_bestWay_83 post h_length h_ligatures h_patterns h_firstWide h_restWide h_firstLines h_spaceWide h_stretch h_shrink h_tolerance h_cost h_height h_ready h_glyphCount h_breaks h_natural h_spaces h_lineCount h_paragraphs b_text b_wide b_joined b_kerns b_patA b_patB b_patC b_patDigits b_glyphs b_glyphOf b_bEnd b_bNext b_bHyphen b_least b_before b_way b_lFrom b_lTo b_lNumber b_lParagraph b_lPage b_lHyphen b_lLast b_best n (nI s) x2 := by
        intro g2
        refine nm_r (nI_1 s) ?_
        have := ih n (s + 1) (s + 1) (by omega) (by omega) (by omega) (fun g3 => by omega) (fun b g3 => ?_)
        · rw [bq_i_s] at this; exact this
        · have : b = s := by omega
          subst this
          refine ⟨hbs, by omega, g, fun s' h2 h3 h4 => ?_⟩
          by_cases es : s' = b
          · rw [es]; exact dp_le_rf _ _
          · cases c with
            | zero => exact absurd (hc0 rfl s' h2 (by omega)) h4
            | succ b0 => exact dp_le_tr (g2 b0 rfl) ((hc1 b0 rfl).2.2.2 s' h2 (by omega) h4)
      cases c with
      | zero => exact br_t hm1 (take (fun b g1 => by omega))
      | succ b =>
        obtain ⟨b1, b2, b3, b4⟩ := hc1 b rfl
        have hb2 : b < 16 * pr_nb e a z + 16 := by omega
        have hvb : vp_in (nI b) 800 := vp_in_nI (by omega) (by decide)
        have hDb2 := dp_Db O I hnb hb2
        have stay : dp_le (D b - 1) (V b) (D s - 1) (V s) → ∀ x2 : Int32, x2 = nI s + 1 → wY_bestWay_83 post h_length h_ligatures h_patterns h_firstWide h_restWide h_firstLines h_spaceWide h_stretch h_shrink h_tolerance h_cost h_height h_ready h_glyphCount h_breaks h_natural h_spaces h_lineCount h_paragraphs b_text b_wide b_joined b_kerns b_patA b_patB b_patC b_patDigits b_glyphs b_glyphOf b_bEnd b_bNext b_bHyphen b_least b_before b_way b_lFrom b_lTo b_lNumber b_lParagraph b_lPage b_lHyphen b_lLast b_best n (nI b) x2 := by
          intro g2
          refine nm_r (nI_1 s) ?_
          have := ih n (s + 1) (b + 1) (by omega) (by omega) (by omega) (fun g3 => by omega) (fun b' g3 => ?_)
          · rw [bq_i_s] at this; exact this
          · have : b' = b := by omega
            subst this
            refine ⟨b1, by omega, b3, fun s' h2 h3 h4 => ?_⟩
            by_cases es : s' = s
            · rw [es]; exact g2
            · exact b4 s' h2 (by omega) h4
        rw [bq_i_s]
        refine br_f (nI_pos (by omega)) ⟨hv, hvb, ?_⟩
        rw [nI_clamp (n := b) (by omega), A.1 b hb2, dp_lc_n b3, dp_lc_n g]
        refine ek_if (pk_lLT (by omega) (by omega)) (fun g1 => take (fun b' g2 => ?_)) (fun g1 => ⟨hv, hvb, ek_if (pk_lEQ (by omega) (by omega)) (fun g2 => ⟨49, yw_later I A hnb 49 s b 49 (by omega) (by omega) hs2 hb2 g b3 (by omega) (fun g3 => br_f (by decide) (take (fun b' g4 => ?_))) (fun g3 => br_t rfl (stay ?_))⟩) (fun g2 => stay (Or.inl (by omega)))⟩)
        · have : b' = b := by omega
          subst this; exact Or.inl g1
        · have : b' = b := by omega
          subst this; exact Or.inr ⟨g2, Or.inr g3⟩
        · obtain ⟨n1, w1, -, -⟩ := I.1 s hs2 g
          obtain ⟨n2, w2, -, -⟩ := I.1 b hb2 b3
          refine Or.inr ⟨g2.symm, ?_⟩
          rcases dp_tot w2 w1 with y | y | y
          · exact Or.inl y
          · exact Or.inr y
          · exact absurd y g3
    · have g' : D s = 0 := Classical.not_not.mp g
      by_cases es : s' = s
      · rw [es]; exact g'
      · exact hc0 g1 s' h2 (by omega)
    · have g' : D s = 0 := Classical.not_not.mp g
      obtain ⟨b1, b2, b3, b4⟩ := hc1 b g1
      refine ⟨b1, by omega, b3, fun s' h2 h3 h4 => ?_⟩
      by_cases es : s' = s
      · rw [es] at h4; exact absurd g' h4
      · exact b4 s' h2 (by omega) h4
/-- the way is written down from its end back; R is what is written, newest last -/
theorem yw_189 {post : Int32 → SY → Prop} {S : Nat → Nat → Nat → Nat → Option (Nat × Nat)} {N nb : Nat} {cut : Nat → Nat} {D P : Nat → Nat} {V : Nat → List Nat} {b : Nat} (I : dp_in S N nb cut D P V) (A : dp_ar nb b_least b_before D P) (hnb : nb ≤ 48)
    (h : ∀ w', sh_ar (V b).reverse.tail w' → ∃ n223 : Nat, wY_bestWay_223 post n223 (nI (V b).reverse.tail.length) 0 0 h_length h_ligatures h_patterns h_firstWide h_restWide h_firstLines h_spaceWide h_stretch h_shrink h_tolerance h_cost h_height h_ready h_glyphCount h_breaks h_natural h_spaces h_lineCount h_paragraphs b_text b_wide b_joined b_kerns b_patA b_patB b_patC b_patDigits b_glyphs b_glyphOf b_bEnd b_bNext b_bHyphen b_least b_before w' b_lFrom b_lTo b_lNumber b_lParagraph b_lPage b_lHyphen b_lLast b_best) :
    ∀ m s n w (R : List Nat), (V s).length = m + 1 → m < n → s < 16 * nb + 16 → D s ≠ 0 → R.length + m ≤ 48 → sh_ar R w → (V b).reverse = (V s).reverse ++ R → wY_bestWay_189 post h_length h_ligatures h_patterns h_firstWide h_restWide h_firstLines h_spaceWide h_stretch h_shrink h_tolerance h_cost h_height h_ready h_glyphCount h_breaks h_natural h_spaces h_lineCount h_paragraphs n (nI R.length) (nI s) b_text b_wide b_joined b_kerns b_patA b_patB b_patC b_patDigits b_glyphs b_glyphOf b_bEnd b_bNext b_bHyphen b_least b_before w b_lFrom b_lTo b_lNumber b_lParagraph b_lPage b_lHyphen b_lLast b_best := by
  intro m
  induction m with
  | zero =>
    intro s n w R hm hn hs ds hR hw he
    obtain ⟨n, rfl⟩ : ∃ n', n = n' + 1 := ⟨n - 1, by omega⟩
    obtain ⟨n1, w1, m1, c1⟩ := I.1 s hs ds
    rcases c1 with ⟨rfl, c2⟩ | ⟨c1, c2, c3, c4, c5⟩
    · rw [c2] at he
      have et : (V b).reverse.tail = R := by rw [he]; rfl
      rw [et] at h
      exact br_t (by decide) (h w hw)
    · rw [c5] at hm
      obtain ⟨r, er⟩ := dp_hd I (s := P s) (by omega) c4
      rw [er] at hm
      simp at hm
  | succ m ih =>
    intro s n w R hm hn hs ds hR hw he
    obtain ⟨n, rfl⟩ : ∃ n', n = n' + 1 := ⟨n - 1, by omega⟩
    obtain ⟨n1, w1, m1, c1⟩ := I.1 s hs ds
    rcases c1 with ⟨rfl, c2⟩ | ⟨c1, c2, c3, c4, c5⟩
    · rw [c2] at hm
      simp at hm
    · have hl : (V (P s)).length = m + 1 := by rw [c5] at hm; simpa using hm
      refine br_f (nI_nlt c1 (by omega)) (nm_r (nI_1 _) ⟨by decide, vp_in_nI (by omega) (by decide), nm_r (e' := upd w R.length (nI (s / 16))) (by rw [iw_d16 (by omega), nI_clamp (by omega)]) ⟨vp_in_nI (by omega) (by decide), nm_r (e' := nI (P s)) (by rw [nI_clamp (by omega)]; exact A.2 s c1 hs ds) ?_⟩⟩)
      have hc : (V b).reverse = (V (P s)).reverse ++ (s / 16 :: R) := by rw [he, c5]; simp
      exact ih (P s) n _ (s / 16 :: R) hl (by omega) (by omega) c4 (by simp; omega) ⟨pk_us, sh_ar_u hw (Nat.le_refl _)⟩ hc
theorem yw_keep {post : SY → Prop} {a z p k j np : Nat} {s : Nat × (Nat → li_T)} {x : Int32} (Z : pd_ok e a z) (B : ey_B e a z h_breaks b_bEnd b_bNext b_bHyphen) (hnb : pr_nb e a z ≤ 48) (hp : p < k) (hk : k ≤ pr_nb e a z) (L : ey_L s h_lineCount b_lFrom b_lTo b_lNumber b_lParagraph b_lHyphen b_lLast) (hs : s.1 < 48) (hnp : h_paragraphs = nI np) (hx : x = bl_i (decide (k = pr_nb e a z)))
    (h : ∀ x1 x2 x3 x4 x5 x6 x7, ey_L (li_ap s (li_mk e a z np p k j)) x1 x2 x3 x4 x5 x6 x7 → post (h_length, h_ligatures, h_patterns, h_firstWide, h_restWide, h_firstLines, h_spaceWide, h_stretch, h_shrink, h_tolerance, h_cost, h_height, h_ready, h_glyphCount, h_breaks, h_natural, h_spaces, x1, h_paragraphs, b_text, b_wide, b_joined, b_kerns, b_patA, b_patB, b_patC, b_patDigits, b_glyphs, b_glyphOf, b_bEnd, b_bNext, b_bHyphen, b_least, b_before, b_way, x2, x3, x4, x5, b_lPage, x6, x7, b_best)) : wpY_keep post (h_length, h_ligatures, h_patterns, h_firstWide, h_restWide, h_firstLines, h_spaceWide, h_stretch, h_shrink, h_tolerance, h_cost, h_height, h_ready, h_glyphCount, h_breaks, h_natural, h_spaces, h_lineCount, h_paragraphs, b_text, b_wide, b_joined, b_kerns, b_patA, b_patB, b_patC, b_patDigits, b_glyphs, b_glyphOf, b_bEnd, b_bNext, b_bHyphen, b_least, b_before, b_way, b_lFrom, b_lTo, b_lNumber, b_lParagraph, b_lPage, b_lHyphen, b_lLast, b_best) (nI p) (nI k) (nI j) x := by
  obtain ⟨L1, L2⟩ := L
  have hvp : vp_in (nI p) 50 := vp_in_nI (by omega) (by decide)
  have hvk : vp_in (nI k) 50 := vp_in_nI (by omega) (by decide)
  have hvl : vp_in h_lineCount 48 := by rw [L1]; exact vp_in_nI hs (by decide)
  have hcl : h_lineCount.toNatClampNeg = s.1 := by rw [L1]; exact nI_clamp (by omega)
  refine ⟨hvp, hvl, nm_r (e' := upd b_lFrom s.1 (nI (pr_bg e a z p))) (by rw [hcl, nI_clamp (by omega), B.2.2.1 p (by omega)]) ⟨hvk, hvl, nm_r (e' := upd b_lTo s.1 (nI (pr_en e a z k))) (by rw [hcl, nI_clamp (by omega), B.2.1 k (by omega) hk]) ⟨hvk, hvl, nm_r (e' := upd b_lHyphen s.1 (bl_i (pr_hy e a z k))) (by rw [hcl, nI_clamp (by omega), B.2.2.2 k hk, bl_nar]) ⟨hvl, nm_r (e' := upd b_lNumber s.1 (nI j)) (by rw [hcl]) ⟨hvl, nm_r (e' := upd b_lLast s.1 (bl_i (decide (k = pr_nb e a z)))) (by rw [hcl, hx, bl_nar]) (nm_r (e' := nI (s.1 + 1)) (by rw [L1, nI_1]) ⟨hvl, nm_r (e' := upd b_lParagraph s.1 (nI np)) (by rw [hcl, hnp]) ?_⟩)⟩⟩⟩⟩⟩
  refine h _ _ _ _ _ _ _ ⟨rfl, fun i hi => ?_⟩
  have hi' : i < s.1 + 1 := hi
  by_cases ei : i = s.1
  · rw [ei, li_ap_s]
    exact ⟨pk_us, pk_us, pk_us, pk_us, pk_us, pk_us⟩
  · rw [li_ap_n ei, pk_un ei, pk_un ei, pk_un ei, pk_un ei, pk_un ei, pk_un ei]
    exact L2 i (by omega)
/-- the lines of the best way: L is what is left, its next break last in the array -/
theorem yw_223 {post : Int32 → SY → Prop} {a z np : Nat} (Z : pd_ok e a z) (B : ey_B e a z h_breaks b_bEnd b_bNext b_bHyphen) (hnb : pr_nb e a z ≤ 48) (hnp : h_paragraphs = nI np) :
    ∀ (L : List Nat) n p j (s : Nat × (Nat → li_T)) x1 x2 x3 x4 x5 x6 x7, L.length < n → wl_ok (pr_nb e a z) p L → j + L.length ≤ 48 → s.1 + L.length ≤ 48 → sh_ar L b_way → ey_L s x1 x2 x3 x4 x5 x6 x7 →
      (∀ x1 x2 x3 x4 x5 x6 x7, ey_L (li_pl e a z np L p j s) x1 x2 x3 x4 x5 x6 x7 → post 1 (h_length, h_ligatures, h_patterns, h_firstWide, h_restWide, h_firstLines, h_spaceWide, h_stretch, h_shrink, h_tolerance, h_cost, h_height, h_ready, h_glyphCount, h_breaks, h_natural, h_spaces, x1, h_paragraphs, b_text, b_wide, b_joined, b_kerns, b_patA, b_patB, b_patC, b_patDigits, b_glyphs, b_glyphOf, b_bEnd, b_bNext, b_bHyphen, b_least, b_before, b_way, x2, x3, x4, x5, b_lPage, x6, x7, b_best)) →
      wY_bestWay_223 post n (nI L.length) (nI p) (nI j) h_length h_ligatures h_patterns h_firstWide h_restWide h_firstLines h_spaceWide h_stretch h_shrink h_tolerance h_cost h_height h_ready h_glyphCount h_breaks h_natural h_spaces x1 h_paragraphs b_text b_wide b_joined b_kerns b_patA b_patB b_patC b_patDigits b_glyphs b_glyphOf b_bEnd b_bNext b_bHyphen b_least b_before b_way x2 x3 x4 x5 b_lPage x6 x7 b_best := by
  intro L
  induction L with
  | nil =>
    intro n p j s x1 x2 x3 x4 x5 x6 x7 hn hw hj hs h1 hL h
    obtain ⟨n, rfl⟩ : ∃ n', n = n' + 1 := ⟨n - 1, by have : 0 < n := hn; omega⟩
    exact br_t (by show nI 0 ≤ 0; decide) (h x1 x2 x3 x4 x5 x6 x7 hL)
  | cons k r ih =>
    intro n p j s x1 x2 x3 x4 x5 x6 x7 hn hw hj hs h1 hL h
    have hlen : (k :: r).length = r.length + 1 := rfl
    rw [hlen] at hn hj hs ⊢
    obtain ⟨n, rfl⟩ : ∃ n', n = n' + 1 := ⟨n - 1, by omega⟩
    refine br_f (nI_nle (by omega) (by omega)) (nm_r (pk_m1 _) ⟨vp_in_nI (by omega) (by decide), nm_r (e' := nI k) (by rw [nI_clamp (by omega)]; exact h1.1) ?_⟩)
    have k258 : ∀ x : Int32, x = bl_i (decide (k = pr_nb e a z)) → wY_bestWay_258 post (wY_bestWay_223 post n) (nI r.length) (nI j) (nI k) x (nI j) (nI k) (nI p) h_length h_ligatures h_patterns h_firstWide h_restWide h_firstLines h_spaceWide h_stretch h_shrink h_tolerance h_cost h_height h_ready h_glyphCount h_breaks h_natural h_spaces x1 h_paragraphs b_text b_wide b_joined b_kerns b_patA b_patB b_patC b_patDigits b_glyphs b_glyphOf b_bEnd b_bNext b_bHyphen b_least b_before b_way x2 x3 x4 x5 b_lPage x6 x7 b_best := by
      intro x hx
      unfold wY_bestWay_258
      refine yw_keep (s := s) (np := np) Z B hnb hw.1 hw.2.1 hL (by omega) hnp hx (fun y1 y2 y3 y4 y5 y6 y7 g => nm_r (nI_1 j) ?_)
      exact ih n k (j + 1) _ y1 y2 y3 y4 y5 y6 y7 (by omega) hw.2.2 (by omega) (by show s.1 + 1 + r.length ≤ 48; omega) h1.2 g h
    exact pk_eq k (pr_nb e a z) (fun g => k258 1 (by rw [decide_eq_true g]; rfl)) (fun g => k258 0 (by rw [decide_eq_false g]; rfl)) rfl B.1 (by have := hw.2.1; omega)
theorem yw_em33 {post : SY → Prop} {J : _} {a z p j : Nat} (F : ey_F e h_length b_text b_wide b_joined b_kerns) (M : ey_M e h_firstWide h_restWide h_firstLines h_spaceWide h_stretch h_shrink h_tolerance h_cost h_height) (Z : pd_ok e a z) (B : ey_B e a z h_breaks b_bEnd b_bNext b_bHyphen) (hp : p < pr_nb e a z) (hj : j ≤ 48)
    (h : ∀ (x z0 : Int32) nat' spc' gc gs go, x = nI (pr_eg e a z p j (pr_nb e a z)) → z0 = bl_i (decide (pr_eg e a z p j (pr_nb e a z) = pr_nb e a z)) → wY_emergency_114 post J (nI j) x z0 (nI j) x (nI p) h_length h_ligatures h_patterns h_firstWide h_restWide h_firstLines h_spaceWide h_stretch h_shrink h_tolerance h_cost h_height h_ready gc h_breaks nat' spc' h_lineCount h_paragraphs b_text b_wide b_joined b_kerns b_patA b_patB b_patC b_patDigits gs go b_bEnd b_bNext b_bHyphen b_least b_before b_way b_lFrom b_lTo b_lNumber b_lParagraph b_lPage b_lHyphen b_lLast b_best) :
    ∀ d n k nat' spc' gc gs go, d < n → k + d = pr_nb e a z → p ≤ k → wY_emergency_33 post J (nI p) (nI j) n (nI (pr_eg e a z p j k)) (nI (k + 1)) h_length h_ligatures h_patterns h_firstWide h_restWide h_firstLines h_spaceWide h_stretch h_shrink h_tolerance h_cost h_height h_ready gc h_breaks nat' spc' h_lineCount h_paragraphs b_text b_wide b_joined b_kerns b_patA b_patB b_patC b_patDigits gs go b_bEnd b_bNext b_bHyphen b_least b_before b_way b_lFrom b_lTo b_lNumber b_lParagraph b_lPage b_lHyphen b_lLast b_best := by
  obtain ⟨M1, M2, M3, M4, M5, M6, M7, M8, M9, K⟩ := id M
  have E := F.2.2.2.2.2
  have h48 := E.1
  have hzl := Z.2.1
  have hnb := pr_nb_b (e := e) (a := a) (z := z)
  intro d
  induction d with
  | zero =>
    intro n k nat' spc' gc gs go hn hk hpk
    obtain ⟨n, rfl⟩ : ∃ n', n = n' + 1 := ⟨n - 1, by omega⟩
    have : k = pr_nb e a z := by omega
    subst this
    have heg := pr_eg_b e a z p j (pr_nb e a z)
    have heg2 : pr_eg e a z p j (pr_nb e a z) ≤ pr_nb e a z := by rcases heg.2 with q | q <;> omega
    refine br_t (by rw [B.1]; exact nI_lt (by omega) (by omega)) (pk_eq (pr_eg e a z p j (pr_nb e a z)) (pr_nb e a z) (fun g => h _ 1 nat' spc' gc gs go rfl (by rw [decide_eq_true g]; rfl)) (fun g => h _ 0 nat' spc' gc gs go rfl (by rw [decide_eq_false g]; rfl)) rfl B.1)
  | succ d ih =>
    intro n k nat' spc' gc gs go hn hk hpk
    obtain ⟨n, rfl⟩ : ∃ n', n = n' + 1 := ⟨n - 1, by omega⟩
    have hwb := pr_w_b E K.2.2.2.1 (p := p) (k := k + 1) Z (by omega)
    refine br_f (by rw [B.1]; exact nI_nlt (by omega) (by omega)) (yw_ml F M Z B (by omega) (by omega) (fun gc2 gs2 go2 => yw_tg M (by omega) (nm_e ?_)))
    have k78 : ∀ z0 : Int32, z0 = bl_i (decide (k + 1 = pr_nb e a z)) → wY_emergency_78 post J (wY_emergency_33 post J (nI p) (nI j) n) (nI p) (nI j) (nI (pr_eg e a z p j k)) (nI (k + 1)) z0 (nI (bq_tg e j) - nI (pr_w e a z p (k + 1))) h_length h_ligatures h_patterns h_firstWide h_restWide h_firstLines h_spaceWide h_stretch h_shrink h_tolerance h_cost h_height h_ready gc2 h_breaks (nI (pr_w e a z p (k + 1))) (nI (pr_s e a z p (k + 1))) h_lineCount h_paragraphs b_text b_wide b_joined b_kerns b_patA b_patB b_patC b_patDigits gs2 go2 b_bEnd b_bNext b_bHyphen b_least b_before b_way b_lFrom b_lTo b_lNumber b_lParagraph b_lPage b_lHyphen b_lLast b_best := by
      intro z0 hz0
      unfold wY_emergency_78
      refine yw_bd (h_spaces := nI (pr_s e a z p (k + 1))) M rfl hz0 rfl hwb.1 hwb.2 (bq_tgb K j) ?_
      have hx := ih n (k + 1) (nI (pr_w e a z p (k + 1))) (nI (pr_s e a z p (k + 1))) gc2 gs2 go2 (by omega) (by omega) (by omega)
      have he : pr_eg e a z p j (k + 1) = if k ≤ p then p + 1 else if pr_bd e a z p (k + 1) j = 0 then pr_eg e a z p j k else k + 1 := rfl
      have hle := pr_eg_b e a z p j k
      refine ek_if (bq_i_lt (bq_b _ _ _ _ _)) (fun g => nm_r (nI_1 _) ?_) (fun g => nm_r (nI_1 _) ?_)
      · have g' : pr_bd e a z p (k + 1) j = 0 := g
        by_cases hkp : k ≤ p
        · rw [if_pos hkp] at he
          have : pr_eg e a z p j k = p + 1 := by rcases hle.2 with q | q <;> omega
          rw [this, ← he]; exact hx
        · rw [if_neg hkp, if_pos g'] at he
          rw [← he]; exact hx
      · have g' : ¬ pr_bd e a z p (k + 1) j = 0 := g
        by_cases hkp : k ≤ p
        · rw [if_pos hkp] at he
          rw [he, show p + 1 = k + 1 from by omega] at hx; exact hx
        · rw [if_neg hkp, if_neg g'] at he
          rw [he] at hx; exact hx
    exact pk_eq (k + 1) (pr_nb e a z) (fun g => k78 1 (by rw [decide_eq_true g]; rfl)) (fun g => k78 0 (by rw [decide_eq_false g]; rfl)) rfl B.1
theorem yw_em16 {post : SY → Prop} {a z np : Nat} (F : ey_F e h_length b_text b_wide b_joined b_kerns) (M : ey_M e h_firstWide h_restWide h_firstLines h_spaceWide h_stretch h_shrink h_tolerance h_cost h_height) (Z : pd_ok e a z) (B : ey_B e a z h_breaks b_bEnd b_bNext b_bHyphen) (hnp : h_paragraphs = nI np) :
    ∀ f n p j (s : Nat × (Nat → li_T)) x1 x2 x3 x4 x5 x6 x7 nat' spc' gc gs go, f < n → pr_nb e a z ≤ p + f → p ≤ pr_nb e a z → j + (pr_nb e a z - p) ≤ pr_nb e a z → s.1 + (pr_nb e a z - p) ≤ 48 → ey_L s x1 x2 x3 x4 x5 x6 x7 →
      (∀ x1 x2 x3 x4 x5 x6 x7 nat' spc' gc gs go, ey_L (li_pl e a z np (pr_em e a z f p j) p j s) x1 x2 x3 x4 x5 x6 x7 → post (h_length, h_ligatures, h_patterns, h_firstWide, h_restWide, h_firstLines, h_spaceWide, h_stretch, h_shrink, h_tolerance, h_cost, h_height, h_ready, gc, h_breaks, nat', spc', x1, h_paragraphs, b_text, b_wide, b_joined, b_kerns, b_patA, b_patB, b_patC, b_patDigits, gs, go, b_bEnd, b_bNext, b_bHyphen, b_least, b_before, b_way, x2, x3, x4, x5, b_lPage, x6, x7, b_best)) →
      wY_emergency_16 post n (nI p) (nI j) h_length h_ligatures h_patterns h_firstWide h_restWide h_firstLines h_spaceWide h_stretch h_shrink h_tolerance h_cost h_height h_ready gc h_breaks nat' spc' x1 h_paragraphs b_text b_wide b_joined b_kerns b_patA b_patB b_patC b_patDigits gs go b_bEnd b_bNext b_bHyphen b_least b_before b_way x2 x3 x4 x5 b_lPage x6 x7 b_best := by
  have E := F.2.2.2.2.2
  have h48 := E.1
  have hzl := Z.2.1
  have hnb := pr_nb_b (e := e) (a := a) (z := z)
  intro f
  induction f with
  | zero =>
    intro n p j s x1 x2 x3 x4 x5 x6 x7 nat' spc' gc gs go hn h1 h2 h3 h4 hL h
    obtain ⟨n, rfl⟩ : ∃ n', n = n' + 1 := ⟨n - 1, by omega⟩
    exact br_t (by rw [B.1]; exact nI_le (by omega) (by omega)) (h _ _ _ _ _ _ _ _ _ _ _ _ hL)
  | succ f ih =>
    intro n p j s x1 x2 x3 x4 x5 x6 x7 nat' spc' gc gs go hn h1 h2 h3 h4 hL h
    obtain ⟨n, rfl⟩ : ∃ n', n = n' + 1 := ⟨n - 1, by omega⟩
    by_cases hp : pr_nb e a z ≤ p
    · have e0 : pr_em e a z (f + 1) p j = [] := by
        show (if pr_nb e a z ≤ p then [] else _) = _
        rw [if_pos hp]
      rw [e0] at h
      exact br_t (by rw [B.1]; exact nI_le (by omega) (by omega)) (h _ _ _ _ _ _ _ _ _ _ _ _ hL)
    · have e0 : pr_em e a z (f + 1) p j = pr_eg e a z p j (pr_nb e a z) :: pr_em e a z f (pr_eg e a z p j (pr_nb e a z)) (j + 1) := by
        show (if pr_nb e a z ≤ p then [] else _) = _
        rw [if_neg hp]
      rw [e0] at h
      have heg := pr_eg_b e a z p j (pr_nb e a z)
      have heg2 : pr_eg e a z p j (pr_nb e a z) ≤ pr_nb e a z := by rcases heg.2 with q | q <;> omega
      have hep : pr_eg e a z p j p = p + 1 := by
        have := pr_eg_b e a z p j p
        rcases this.2 with q | q <;> omega
      refine br_f (by rw [B.1]; exact nI_ge (by omega) (by omega)) (nm_r (e' := nI (pr_eg e a z p j p)) (by rw [hep, nI_1]) (nm_r (nI_1 p) ⟨pr_nb e a z + 1, ?_⟩))
      refine yw_em33 (h_lineCount := x1) (b_lFrom := x2) (b_lTo := x3) (b_lNumber := x4) (b_lParagraph := x5) (b_lHyphen := x6) (b_lLast := x7) F M Z B (by omega) (by omega) (fun x z0 nat2 spc2 gc2 gs2 go2 hx hz => ?_) (pr_nb e a z - p) _ p nat' spc' gc gs go (by omega) (by omega) (Nat.le_refl _)
      subst hx
      unfold wY_emergency_114
      refine yw_keep (s := s) (np := np) Z B (by omega) (by omega) heg2 hL (by omega) hnp hz (fun y1 y2 y3 y4 y5 y6 y7 g => nm_r (nI_1 j) ?_)
      exact ih n _ (j + 1) _ y1 y2 y3 y4 y5 y6 y7 nat2 spc2 gc2 gs2 go2 (by omega) (by omega) heg2 (by omega) (by show s.1 + 1 + _ ≤ 48; omega) g h
/-- one paragraph -/
theorem yw_bestWay {post : Int32 → SY → Prop} {a z np : Nat} {s : Nat × (Nat → li_T)} (F : ey_F e h_length b_text b_wide b_joined b_kerns) (M : ey_M e h_firstWide h_restWide h_firstLines h_spaceWide h_stretch h_shrink h_tolerance h_cost h_height) (Z : pd_ok e a z) (B : ey_B e a z h_breaks b_bEnd b_bNext b_bHyphen) (h0 : 0 < pr_nb e a z) (L : ey_L s h_lineCount b_lFrom b_lTo b_lNumber b_lParagraph b_lHyphen b_lLast) (hs : s.1 + pr_nb e a z ≤ 48) (hnp : h_paragraphs = nI np) (hnp2 : np < 24)
    (hN : ∀ y1 y2 y3 y4 y5 y6 y7 y8, dp_o (pr_S e a z) (pr_nb e a z) = none → post 0 (h_length, h_ligatures, h_patterns, h_firstWide, h_restWide, h_firstLines, h_spaceWide, h_stretch, h_shrink, h_tolerance, h_cost, h_height, h_ready, y5, h_breaks, y3, y4, h_lineCount, h_paragraphs, b_text, b_wide, b_joined, b_kerns, b_patA, b_patB, b_patC, b_patDigits, y6, y7, b_bEnd, b_bNext, b_bHyphen, y1, y2, y8, b_lFrom, b_lTo, b_lNumber, b_lParagraph, b_lPage, b_lHyphen, b_lLast, b_best))
    (h : ∀ x1 x2 x3 x4 x5 x6 x7 y1 y2 y3 y4 y5 y6 y7 y8, ey_L (li_pl e a z np (pr_wl e a z) 0 0 s) x1 x2 x3 x4 x5 x6 x7 → post 1 (h_length, h_ligatures, h_patterns, h_firstWide, h_restWide, h_firstLines, h_spaceWide, h_stretch, h_shrink, h_tolerance, h_cost, h_height, h_ready, y5, h_breaks, y3, y4, x1, h_paragraphs, b_text, b_wide, b_joined, b_kerns, b_patA, b_patB, b_patC, b_patDigits, y6, y7, b_bEnd, b_bNext, b_bHyphen, y1, y2, y8, x2, x3, x4, x5, b_lPage, x6, x7, vp_updL b_best np (pr_sm e a z))) : wpY_bestWay post (h_length, h_ligatures, h_patterns, h_firstWide, h_restWide, h_firstLines, h_spaceWide, h_stretch, h_shrink, h_tolerance, h_cost, h_height, h_ready, h_glyphCount, h_breaks, h_natural, h_spaces, h_lineCount, h_paragraphs, b_text, b_wide, b_joined, b_kerns, b_patA, b_patB, b_patC, b_patDigits, b_glyphs, b_glyphOf, b_bEnd, b_bNext, b_bHyphen, b_least, b_before, b_way, b_lFrom, b_lTo, b_lNumber, b_lParagraph, b_lPage, b_lHyphen, b_lLast, b_best) := by
  have K := M.2.2.2.2.2.2.2.2.2
  have h48 := F.2.2.2.2.2.1
  have hzl := Z.2.1
  have hnb := pr_nb_b (e := e) (a := a) (z := z)
  have O := pr_ok K a z (N := 3) K.2.2.1 (Nat.le_refl _)
  have hvp : vp_in h_paragraphs 24 := by rw [hnp]; exact vp_in_nI hnp2 (by decide)
  have hcp : h_paragraphs.toNatClampNeg = np := by rw [hnp]; exact nI_clamp (by omega)
  have hwl := wl_all e a z
  have hwlen := wl_len hwl
  refine ⟨16 * pr_nb e a z + 17, yw_b2 F M Z B (fun D P V L' F' nat' spc' gc gs go I A => ⟨17, ?_⟩) (16 * pr_nb e a z + 16) _ 0 b_least (by omega) (by omega) (fun i hi => by omega)⟩
  have hcut : 16 * pr_nb e a z ≤ dp_cy (pr_nb e a z + 1) 0 (pr_nb e a z) := by
    rw [dp_cy_l (by omega)]; exact Nat.le_refl _
  refine yw_83 (b_least := L') (b_before := F') M (by omega) B.1 I A (fun g => hN _ _ _ _ _ _ _ _ (dp_end_n O I hcut g)) (fun b b1 b2 b3 b4 => ⟨hvp, nm_r (e' := vp_updL b_best np (pr_sm e a z)) ?_ ⟨(V b).length + 1, ?_⟩⟩) 16 17 (16 * pr_nb e a z) 0 (by omega) (by omega) (Nat.le_refl _) (fun _ s' h1 h2 => by omega) (fun b hb => by omega)
  · rw [hcp, (pr_wl_s (dp_end_s O I hcut b1 b2 b3 b4)).2]
  · have e1 : pr_wl e a z = (V b).reverse.tail := (pr_wl_s (dp_end_s O I hcut b1 b2 b3 b4)).1
    rw [e1] at hwl hwlen h
    obtain ⟨n1, w1, -, -⟩ := I.1 b b2 b3
    obtain ⟨tl, t1, t2⟩ := dp_rev0 w1
    rw [t1] at hwlen
    have hwlen' : 0 + tl.length ≤ pr_nb e a z := hwlen
    refine yw_189 (b := b) (b_least := L') (b_before := F') I A (by omega) (fun w' g => ⟨(V b).reverse.tail.length + 1, ?_⟩) tl.length b _ b_way [] t2 (by omega) b2 b3 (by simp; omega) trivial (by simp)
    exact yw_223 (b_way := w') Z B (by omega) hnp (V b).reverse.tail _ 0 0 s h_lineCount b_lFrom b_lTo b_lNumber b_lParagraph b_lHyphen b_lLast (by omega) hwl (by rw [t1]; show 0 + tl.length ≤ 48; omega) (by rw [t1]; show s.1 + tl.length ≤ 48; omega) g L (fun x1 x2 x3 x4 x5 x6 x7 g3 => h x1 x2 x3 x4 x5 x6 x7 _ _ _ _ _ _ _ _ g3)
theorem yw_emergency {post : SY → Prop} {a z np : Nat} {s : Nat × (Nat → li_T)} (F : ey_F e h_length b_text b_wide b_joined b_kerns) (M : ey_M e h_firstWide h_restWide h_firstLines h_spaceWide h_stretch h_shrink h_tolerance h_cost h_height) (Z : pd_ok e a z) (B : ey_B e a z h_breaks b_bEnd b_bNext b_bHyphen) (L : ey_L s h_lineCount b_lFrom b_lTo b_lNumber b_lParagraph b_lHyphen b_lLast) (hs : s.1 + pr_nb e a z ≤ 48) (hnp : h_paragraphs = nI np) (hnp2 : np < 24) (hN : dp_o (pr_S e a z) (pr_nb e a z) = none)
    (h : ∀ x1 x2 x3 x4 x5 x6 x7 y3 y4 y5 y6 y7, ey_L (li_pl e a z np (pr_wl e a z) 0 0 s) x1 x2 x3 x4 x5 x6 x7 → post (h_length, h_ligatures, h_patterns, h_firstWide, h_restWide, h_firstLines, h_spaceWide, h_stretch, h_shrink, h_tolerance, h_cost, h_height, h_ready, y5, h_breaks, y3, y4, x1, h_paragraphs, b_text, b_wide, b_joined, b_kerns, b_patA, b_patB, b_patC, b_patDigits, y6, y7, b_bEnd, b_bNext, b_bHyphen, b_least, b_before, b_way, x2, x3, x4, x5, b_lPage, x6, x7, vp_updL b_best np (pr_sm e a z))) : wpY_emergency post (h_length, h_ligatures, h_patterns, h_firstWide, h_restWide, h_firstLines, h_spaceWide, h_stretch, h_shrink, h_tolerance, h_cost, h_height, h_ready, h_glyphCount, h_breaks, h_natural, h_spaces, h_lineCount, h_paragraphs, b_text, b_wide, b_joined, b_kerns, b_patA, b_patB, b_patC, b_patDigits, b_glyphs, b_glyphOf, b_bEnd, b_bNext, b_bHyphen, b_least, b_before, b_way, b_lFrom, b_lTo, b_lNumber, b_lParagraph, b_lPage, b_lHyphen, b_lLast, b_best) := by
  have hvp : vp_in h_paragraphs 24 := by rw [hnp]; exact vp_in_nI hnp2 (by decide)
  have hcp : h_paragraphs.toNatClampNeg = np := by rw [hnp]; exact nI_clamp (by omega)
  rw [(pr_wl_n hN).1] at h
  refine ⟨hvp, nm_r (e' := vp_updL b_best np (pr_sm e a z)) (by rw [hcp, (pr_wl_n hN).2]) ⟨pr_nb e a z + 1, ?_⟩⟩
  exact yw_em16 F M Z B hnp (pr_nb e a z) _ 0 0 s h_lineCount b_lFrom b_lTo b_lNumber b_lParagraph b_lHyphen b_lLast h_natural h_spaces h_glyphCount b_glyphs b_glyphOf (by omega) (by omega) (Nat.zero_le _) (by omega) (by omega) L (fun x1 x2 x3 x4 x5 x6 x7 y3 y4 y5 y6 y7 g => h x1 x2 x3 x4 x5 x6 x7 y3 y4 y5 y6 y7 g)
end
end
section
/-! the reference: hyphens by trying all patterns -/
/-- the patterns are within their bounds, each one once -/
def gv_okP (e : gv_T) : Prop := gv_np e ≤ 10 ∧ (∀ p, p < gv_np e → gv_pa e p ≤ 10 ∧ gv_pb e p ≤ 11 ∧ gv_pc e p ≤ 11 ∧ (gv_pb e p = 0 → gv_pc e p = 0) ∧ 1 ≤ gv_pd e p ∧ gv_pd e p < 10000) ∧ (∀ p q, p < gv_np e → q < gv_np e → gv_pa e p = gv_pa e q → gv_pb e p = gv_pb e q → gv_pc e p = gv_pc e q → p = q)
def ey_P (e : gv_T) (h_patterns : Int32) (b_patA b_patB b_patC b_patDigits : Nat → Int32) : Prop :=
  h_patterns = nI (gv_np e) ∧ (∀ p, p < gv_np e → b_patA p = nI (gv_pa e p) ∧ b_patB p = nI (gv_pb e p) - 1 ∧ b_patC p = nI (gv_pc e p) - 1 ∧ b_patDigits p = nI (gv_pd e p)) ∧ gv_okP e
theorem s1_0 {b : Nat} (hb : b ≤ 100) : 0 ≤ nI b - 1 ↔ b ≠ 0 := by
  rw [Int32.le_iff_toInt_le, s1_T (by omega)]
  show (0 : Int) ≤ _ ↔ _
  omega
theorem nl_br {b c : Nat} {x y : Int32} {V A1 A2 A3 : Prop} (hx : x = nI b - 1) (hy : y = nI c - 1) (hb : b ≤ 11) (hc : c ≤ 11) (hv : V) (h1 : b = 0 → A1) (h2 : b ≠ 0 → c = 0 → A2) (h3 : b ≠ 0 → c ≠ 0 → A3) : (0 ≤ x → (V ∧ ((0 ≤ y → A3) ∧ (¬ 0 ≤ y → A2)))) ∧ (¬ 0 ≤ x → A1) := by
  subst hx hy
  rw [s1_0 (by omega), s1_0 (by omega)]
  exact ⟨fun g => ⟨hv, fun g1 => h3 g g1, fun g1 => h2 g (Classical.not_not.mp g1)⟩, fun g => h1 (Classical.not_not.mp g)⟩
theorem nl_1 {e : gv_T} {p : Nat} (h : gv_pb e p = 0) : hy_nl e p = 1 := if_pos h
theorem nl_2 {e : gv_T} {p : Nat} (h : gv_pb e p ≠ 0) (g : gv_pc e p = 0) : hy_nl e p = 2 := by unfold hy_nl; rw [if_neg h, if_pos g]
theorem nl_3 {e : gv_T} {p : Nat} (h : gv_pb e p ≠ 0) (g : gv_pc e p ≠ 0) : hy_nl e p = 3 := by unfold hy_nl; rw [if_neg h, if_neg g]
theorem nl_c0 {e : gv_T} {p : Nat} (h : 2 < hy_nl e p) : gv_pc e p ≠ 0 ∧ gv_pb e p ≠ 0 := by
  by_cases h1 : gv_pb e p = 0
  · rw [nl_1 h1] at h; omega
  · by_cases h2 : gv_pc e p = 0
    · rw [nl_2 h1 h2] at h; omega
    · exact ⟨h2, h1⟩
theorem nl_b0 {e : gv_T} {p : Nat} (h : 1 < hy_nl e p) : gv_pb e p ≠ 0 := by
  intro h1
  rw [nl_1 h1] at h; omega
section
variable {e : gv_T} {h_length h_ligatures h_patterns h_firstWide h_restWide h_firstLines h_spaceWide h_stretch h_shrink h_tolerance h_cost h_height h_ready h_glyphCount h_breaks h_natural h_spaces h_lineCount h_paragraphs : Int32} {b_text b_wide b_joined b_kerns b_patA b_patB b_patC b_patDigits b_glyphs b_glyphOf b_bEnd b_bNext b_bHyphen b_before b_way b_lFrom b_lTo b_lNumber b_lParagraph b_lPage b_lHyphen b_lLast : Nat → Int32} {b_least b_best : Nat → Int64}
theorem yw_digit39 {post : Int32 → Prop} {q k m : Nat} (hq : q < 10000) (hm : m ≤ 3) (hk : k ≤ m) (h : post (nI (q / 10 ^ (m - k) % 10))) :
    ∀ d n j, d < n → j = k + d → j ≤ m → wY_digit_39 post (nI k) h_length h_ligatures h_patterns h_firstWide h_restWide h_firstLines h_spaceWide h_stretch h_shrink h_tolerance h_cost h_height h_ready h_glyphCount h_breaks h_natural h_spaces h_lineCount h_paragraphs b_text b_wide b_joined b_kerns b_patA b_patB b_patC b_patDigits b_glyphs b_glyphOf b_bEnd b_bNext b_bHyphen b_least b_before b_way b_lFrom b_lTo b_lNumber b_lParagraph b_lPage b_lHyphen b_lLast b_best n (nI (q / 10 ^ (m - j))) (nI j) := by
  intro d
  induction d with
  | zero =>
    intro n j hn hj hjm
    obtain ⟨n, rfl⟩ : ∃ n', n = n' + 1 := ⟨n - 1, by omega⟩
    have : j = k := by omega
    subst this
    have hR : q / 10 ^ (m - j) < 2 ^ 31 := Nat.lt_of_le_of_lt (Nat.div_le_self _ _) (by omega)
    refine br_t (nI_le (Nat.le_refl _) (by omega)) ⟨by decide, ?_⟩
    rw [show (10 : Int32) = nI 10 from rfl, pk_rem hR (by omega) (by omega)]
    exact h
  | succ d ih =>
    intro n j hn hj hjm
    obtain ⟨n, rfl⟩ : ∃ n', n = n' + 1 := ⟨n - 1, by omega⟩
    obtain ⟨j, rfl⟩ : ∃ j', j = j' + 1 := ⟨j - 1, by omega⟩
    have hR : q / 10 ^ (m - (j + 1)) < 2 ^ 31 := Nat.lt_of_le_of_lt (Nat.div_le_self _ _) (by omega)
    have erest : q / 10 ^ (m - (j + 1)) / 10 = q / 10 ^ (m - j) := by
      rw [Nat.div_div_eq_div_mul, ← Nat.pow_succ]
      exact congrArg (fun z => q / 10 ^ z) (by omega)
    refine br_f (nI_ge (by omega) (by omega)) ⟨by decide, nm_r (e' := nI (q / 10 ^ (m - j))) (by rw [show (10 : Int32) = nI 10 from rfl, pk_div hR (by omega) (by omega), erest]) (nm_r (pk_m1 j) (ih n j (by omega) (by omega) (by omega)))⟩
theorem yw_digit {post : Int32 → Prop} (P : ey_P e h_patterns b_patA b_patB b_patC b_patDigits) {p k : Nat} (hp : p < gv_np e) (hk : k ≤ hy_nl e p) (h : post (nI (hy_dg e p k))) : wpY_digit post (h_length, h_ligatures, h_patterns, h_firstWide, h_restWide, h_firstLines, h_spaceWide, h_stretch, h_shrink, h_tolerance, h_cost, h_height, h_ready, h_glyphCount, h_breaks, h_natural, h_spaces, h_lineCount, h_paragraphs, b_text, b_wide, b_joined, b_kerns, b_patA, b_patB, b_patC, b_patDigits, b_glyphs, b_glyphOf, b_bEnd, b_bNext, b_bHyphen, b_least, b_before, b_way, b_lFrom, b_lTo, b_lNumber, b_lParagraph, b_lPage, b_lHyphen, b_lLast, b_best) (nI p) (nI k) := by
  obtain ⟨P1, P2, O1, O2, O3⟩ := P
  obtain ⟨p1, p2, p3, p4⟩ := P2 p hp
  obtain ⟨o1, o2, o3, o4, o5, o6⟩ := O2 p hp
  have hv : vp_in (nI p) 10 := vp_in_nI (by omega) (by decide)
  have k27 : ∀ m : Nat, m = hy_nl e p → wY_digit_27 post (nI p) (nI k) (nI m) h_length h_ligatures h_patterns h_firstWide h_restWide h_firstLines h_spaceWide h_stretch h_shrink h_tolerance h_cost h_height h_ready h_glyphCount h_breaks h_natural h_spaces h_lineCount h_paragraphs b_text b_wide b_joined b_kerns b_patA b_patB b_patC b_patDigits b_glyphs b_glyphOf b_bEnd b_bNext b_bHyphen b_least b_before b_way b_lFrom b_lTo b_lNumber b_lParagraph b_lPage b_lHyphen b_lLast b_best := by
    intro m hm
    have hb := hy_nl_b e p
    refine ⟨hv, nm_r (e' := nI (gv_pd e p / 10 ^ (m - m))) (by rw [nI_clamp (by omega), p4, Nat.sub_self, Nat.pow_zero, Nat.div_one]) ⟨4, ?_⟩⟩
    refine yw_digit39 o6 (by omega) (by omega) ?_ (m - k) 4 m (by omega) (by omega) (Nat.le_refl _)
    rw [hm]; exact h
  refine ⟨hv, ?_⟩
  rw [nI_clamp (n := p) (by omega)]
  exact nl_br p2 p3 o2 o3 hv (fun y => k27 1 (nl_1 y).symm) (fun y1 y2 => k27 2 (nl_2 y1 y2).symm) (fun y1 y2 => k27 3 (nl_3 y1 y2).symm)
theorem yw_patLetter {post : Int32 → Prop} (P : ey_P e h_patterns b_patA b_patB b_patC b_patDigits) {p k : Nat} (hp : p < gv_np e) (hk : k < hy_nl e p) (h : post (nI (hy_lt e p k))) : wpY_patLetter post (h_length, h_ligatures, h_patterns, h_firstWide, h_restWide, h_firstLines, h_spaceWide, h_stretch, h_shrink, h_tolerance, h_cost, h_height, h_ready, h_glyphCount, h_breaks, h_natural, h_spaces, h_lineCount, h_paragraphs, b_text, b_wide, b_joined, b_kerns, b_patA, b_patB, b_patC, b_patDigits, b_glyphs, b_glyphOf, b_bEnd, b_bNext, b_bHyphen, b_least, b_before, b_way, b_lFrom, b_lTo, b_lNumber, b_lParagraph, b_lPage, b_lHyphen, b_lLast, b_best) (nI p) (nI k) := by
  obtain ⟨P1, P2, O1, O2, O3⟩ := P
  obtain ⟨p1, p2, p3, p4⟩ := P2 p hp
  have hv : vp_in (nI p) 10 := vp_in_nI (by omega) (by decide)
  have hb := hy_nl_b e p
  unfold hy_lt at h
  refine pk_eq k 0 (fun y => ⟨hv, ?_⟩) (fun y => pk_eq k 1 (fun y1 => ⟨hv, ?_⟩) (fun y1 => ⟨hv, ?_⟩))
  · rw [nI_clamp (by omega), p1]
    rw [if_pos y] at h; exact h
  · have := nl_b0 (e := e) (p := p) (by omega)
    rw [nI_clamp (by omega), p2, nI_m1 (by omega)]
    rw [if_neg y, if_pos y1] at h; exact h
  · have := (nl_c0 (e := e) (p := p) (by omega)).1
    rw [nI_clamp (by omega), p3, nI_m1 (by omega)]
    rw [if_neg y, if_neg y1] at h; exact h
theorem hy_lt_b (O : gv_okP e) {p k : Nat} (hp : p < gv_np e) (hk : k < hy_nl e p) : hy_lt e p k ≤ 10 := by
  obtain ⟨o1, o2, o3, o4, o5, o6⟩ := O.2.1 p hp
  unfold hy_lt
  split
  · exact o1
  · split <;> omega
theorem yw_inWord {post : Int32 → Prop} (F : ey_F e h_length b_text b_wide b_joined b_kerns) {s t j : Nat} (W : wo_w e s t) (ht : t ≤ gv_ln e) (h1 : s ≤ j) (h2 : j ≤ t + 1) (h : post (nI (hy_wc e s t j))) : wpY_inWord post (h_length, h_ligatures, h_patterns, h_firstWide, h_restWide, h_firstLines, h_spaceWide, h_stretch, h_shrink, h_tolerance, h_cost, h_height, h_ready, h_glyphCount, h_breaks, h_natural, h_spaces, h_lineCount, h_paragraphs, b_text, b_wide, b_joined, b_kerns, b_patA, b_patB, b_patC, b_patDigits, b_glyphs, b_glyphOf, b_bEnd, b_bNext, b_bHyphen, b_least, b_before, b_way, b_lFrom, b_lTo, b_lNumber, b_lParagraph, b_lPage, b_lHyphen, b_lLast, b_best) (nI s) (nI t) (nI j - 1) := by
  obtain ⟨F1, F2, F3, F4, F5, E⟩ := F
  have h48 := E.1
  have hst := W.1
  unfold hy_wc at h
  refine br_c (fun y => ?_) (fun y => ?_)
  · have : j = s := by
      have y' := congrArg Int32.toInt y
      rw [s1_T (by omega), s1_T (by omega)] at y'
      omega
    rw [if_pos this] at h; exact h
  · have hjs : j ≠ s := fun z => y (by rw [z])
    rw [if_neg hjs] at h
    have ej : nI j - 1 = nI (j - 1) := nI_m1 (by omega)
    rw [ej]
    refine pk_eq (j - 1) t (fun y1 => ?_) (fun y1 => br_f (nI_nlt (by omega) (by omega)) (br_t (nI_le (by omega) (by omega)) ⟨vp_in_nI (by omega) (by decide), ?_⟩))
    · rw [if_pos (by omega)] at h; exact h
    · rw [if_neg (by omega)] at h
      rw [nI_clamp (by omega), F2]; exact h
theorem yw_m32 {post : Int32 → Prop} (F : ey_F e h_length b_text b_wide b_joined b_kerns) (P : ey_P e h_patterns b_patA b_patB b_patC b_patDigits) {s t o p : Nat} (W : wo_w e s t) (ht : t ≤ gv_ln e) (hp : p < gv_np e) (ho : s ≤ o) (hot : o ≤ t) (hon : o + hy_nl e p ≤ t + 2) (h1 : hy_mt e p o s t → post 1) (h0 : ¬ hy_mt e p o s t → post 0) :
    ∀ d n k, d < n → k + d = hy_nl e p → (∀ j, j < k → hy_wc e s t (o + j) = hy_lt e p j) → wY_meets_32 post (nI p) (nI o - 1) (nI s) (nI t) (nI (hy_nl e p)) h_length h_ligatures h_patterns h_firstWide h_restWide h_firstLines h_spaceWide h_stretch h_shrink h_tolerance h_cost h_height h_ready h_glyphCount h_breaks h_natural h_spaces h_lineCount h_paragraphs b_text b_wide b_joined b_kerns b_patA b_patB b_patC b_patDigits b_glyphs b_glyphOf b_bEnd b_bNext b_bHyphen b_least b_before b_way b_lFrom b_lTo b_lNumber b_lParagraph b_lPage b_lHyphen b_lLast b_best n (nI k) := by
  have h48 := F.2.2.2.2.2.1
  have hst := W.1
  have hb := hy_nl_b e p
  intro d
  induction d with
  | zero =>
    intro n k hn hk hm
    obtain ⟨n, rfl⟩ : ∃ n', n = n' + 1 := ⟨n - 1, by omega⟩
    exact br_t (nI_le (by omega) (by omega)) (h1 (fun j hj => hm j (by omega)))
  | succ d ih =>
    intro n k hn hk hm
    obtain ⟨n, rfl⟩ : ∃ n', n = n' + 1 := ⟨n - 1, by omega⟩
    have hlt := hy_lt_b P.2.2 hp (k := k) (by omega)
    have hwc := hy_wc_b W (j := o + k) (by omega) (by omega)
    have go : hy_wc e s t (o + k) = hy_lt e p k → ∀ x6 : Int32, x6 = nI k + 1 → wY_meets_32 post (nI p) (nI o - 1) (nI s) (nI t) (nI (hy_nl e p)) h_length h_ligatures h_patterns h_firstWide h_restWide h_firstLines h_spaceWide h_stretch h_shrink h_tolerance h_cost h_height h_ready h_glyphCount h_breaks h_natural h_spaces h_lineCount h_paragraphs b_text b_wide b_joined b_kerns b_patA b_patB b_patC b_patDigits b_glyphs b_glyphOf b_bEnd b_bNext b_bHyphen b_least b_before b_way b_lFrom b_lTo b_lNumber b_lParagraph b_lPage b_lHyphen b_lLast b_best n x6 := by
      intro hx
      refine nm_r (nI_1 k) (ih n (k + 1) (by omega) (by omega) (fun j hj => ?_))
      by_cases ej : j = k
      · rw [ej]; exact hx
      · exact hm j (by omega)
    refine br_f (nI_ge (by omega) (by omega)) (yw_patLetter P hp (by omega) ?_)
    have eo : nI o - 1 + nI k = nI (o + k) - 1 := by rw [← nI_add]; grind
    rw [eo]
    refine yw_inWord F W ht (by omega) (by omega) (pk_eq (hy_wc e s t (o + k)) (hy_lt e p k) (fun y => pk_eq (hy_lt e p k) 10 (fun y1 => ?_) (fun y1 => go y)) (fun y => h0 (fun z => y (z k (by omega)))))
    have h10 : hy_wc e s t (o + k) = 10 := by omega
    have hse : o + k = s ∨ o + k = t + 1 := by
      unfold hy_wc at h10
      by_cases c1 : o + k = s
      · exact Or.inl c1
      · by_cases c2 : o + k = t + 1
        · exact Or.inr c2
        · rw [if_neg c1, if_neg c2] at h10
          have := (W.2.1 (o + k - 1) (by omega) (by omega)).2
          omega
    refine pk_eq k 0 (fun y2 => br_t ?_ (go y)) (fun y2 => br_t ?_ (go y))
    · rw [show o = s from by omega]
    · have : o + k = t + 1 := by omega
      rw [this]; exact nI_pred t
theorem yw_meets {post : Int32 → Prop} (F : ey_F e h_length b_text b_wide b_joined b_kerns) (P : ey_P e h_patterns b_patA b_patB b_patC b_patDigits) {s t o p : Nat} (W : wo_w e s t) (ht : t ≤ gv_ln e) (hp : p < gv_np e) (ho : s ≤ o) (hot : o ≤ t) (hon : o + hy_nl e p ≤ t + 2) (h1 : hy_mt e p o s t → post 1) (h0 : ¬ hy_mt e p o s t → post 0) : wpY_meets post (h_length, h_ligatures, h_patterns, h_firstWide, h_restWide, h_firstLines, h_spaceWide, h_stretch, h_shrink, h_tolerance, h_cost, h_height, h_ready, h_glyphCount, h_breaks, h_natural, h_spaces, h_lineCount, h_paragraphs, b_text, b_wide, b_joined, b_kerns, b_patA, b_patB, b_patC, b_patDigits, b_glyphs, b_glyphOf, b_bEnd, b_bNext, b_bHyphen, b_least, b_before, b_way, b_lFrom, b_lTo, b_lNumber, b_lParagraph, b_lPage, b_lHyphen, b_lLast, b_best) (nI p) (nI o - 1) (nI s) (nI t) := by
  obtain ⟨P1, P2, O1, O2, O3⟩ := id P
  obtain ⟨p1, p2, p3, p4⟩ := P2 p hp
  obtain ⟨o1, o2, o3, o4, o5, o6⟩ := O2 p hp
  have hv : vp_in (nI p) 10 := vp_in_nI (by omega) (by decide)
  have k : ∀ m : Nat, m = hy_nl e p → ∃ n32 : Nat, wY_meets_32 post (nI p) (nI o - 1) (nI s) (nI t) (nI m) h_length h_ligatures h_patterns h_firstWide h_restWide h_firstLines h_spaceWide h_stretch h_shrink h_tolerance h_cost h_height h_ready h_glyphCount h_breaks h_natural h_spaces h_lineCount h_paragraphs b_text b_wide b_joined b_kerns b_patA b_patB b_patC b_patDigits b_glyphs b_glyphOf b_bEnd b_bNext b_bHyphen b_least b_before b_way b_lFrom b_lTo b_lNumber b_lParagraph b_lPage b_lHyphen b_lLast b_best n32 0 := by
    intro m hm
    subst hm
    exact ⟨hy_nl e p + 1, yw_m32 F P W ht hp ho hot hon h1 h0 (hy_nl e p) _ 0 (by omega) (by omega) (fun j hj => by omega)⟩
  refine ⟨hv, ?_⟩
  rw [nI_clamp (n := p) (by omega)]
  exact nl_br p2 p3 o2 o3 hv (fun y => k 1 (nl_1 y).symm) (fun y1 y2 => k 2 (nl_2 y1 y2).symm) (fun y1 y2 => k 3 (nl_3 y1 y2).symm)
/-- digits found by the patterns below p, and by pattern p below place k -/
def hy_R (e : gv_T) (s t i p k d : Nat) : Prop := ∃ p' k', (p' < p ∨ (p' = p ∧ k' < k)) ∧ p' < gv_np e ∧ k' ≤ hy_nl e p' ∧ hy_mt e p' (i + 1 - k') s t ∧ d = hy_dg e p' k'
theorem hy_R_k {s t i p k m : Nat} (hp : p < gv_np e) (hk : k ≤ hy_nl e p) (h : hy_mx (hy_R e s t i p k) m) : (hy_mt e p (i + 1 - k) s t → m < hy_dg e p k → hy_mx (hy_R e s t i p (k + 1)) (hy_dg e p k)) ∧ ((¬ hy_mt e p (i + 1 - k) s t ∨ hy_dg e p k ≤ m) → hy_mx (hy_R e s t i p (k + 1)) m) := by
  have up : ∀ d, hy_R e s t i p k d → hy_R e s t i p (k + 1) d := by
    rintro d ⟨p', k', g1, g2⟩
    exact ⟨p', k', by omega, g2⟩
  have dn : ∀ d, hy_R e s t i p (k + 1) d → hy_R e s t i p k d ∨ (hy_mt e p (i + 1 - k) s t ∧ d = hy_dg e p k) := by
    rintro d ⟨p', k', g1, g2, g3, g4, g5⟩
    by_cases c : p' = p ∧ k' = k
    · obtain ⟨rfl, rfl⟩ := c
      exact Or.inr ⟨g4, g5⟩
    · exact Or.inl ⟨p', k', by omega, g2, g3, g4, g5⟩
  constructor
  · intro hm hlt
    refine ⟨Or.inr ⟨p, k, Or.inr ⟨rfl, by omega⟩, hp, hk, hm, rfl⟩, fun d hd => ?_⟩
    rcases dn d hd with y | ⟨-, y⟩
    · have := h.2 d y; omega
    · omega
  · intro hx
    refine ⟨h.1.elim Or.inl (fun z => Or.inr (up _ z)), fun d hd => ?_⟩
    rcases dn d hd with y | ⟨y1, y⟩
    · exact h.2 d y
    · rcases hx with hx | hx
      · exact absurd y1 hx
      · omega
theorem yw_h87 {post : Int32 → Prop} {J : _} (F : ey_F e h_length b_text b_wide b_joined b_kerns) (P : ey_P e h_patterns b_patA b_patB b_patC b_patDigits) {s t i p : Nat} (W : wo_w e s t) (ht : t ≤ gv_ln e) (hp : p < gv_np e) (hi1 : s + 2 ≤ i) (hi2 : i + 2 ≤ t) (h : ∀ m, m ≤ 9 → hy_mx (hy_R e s t i (p + 1) 0) m → J (nI m) (nI (p + 1))) :
    ∀ d n k m, d < n → k + d = hy_nl e p + 1 → m ≤ 9 → hy_mx (hy_R e s t i p k) m → wY_hyphen_87 post J (nI i) (nI s) (nI t) (nI p) (nI (hy_nl e p)) h_length h_ligatures h_patterns h_firstWide h_restWide h_firstLines h_spaceWide h_stretch h_shrink h_tolerance h_cost h_height h_ready h_glyphCount h_breaks h_natural h_spaces h_lineCount h_paragraphs b_text b_wide b_joined b_kerns b_patA b_patB b_patC b_patDigits b_glyphs b_glyphOf b_bEnd b_bNext b_bHyphen b_least b_before b_way b_lFrom b_lTo b_lNumber b_lParagraph b_lPage b_lHyphen b_lLast b_best n (nI m) (nI k) := by
  have h48 := F.2.2.2.2.2.1
  have hb := hy_nl_b e p
  have hp10 := P.2.2.1
  intro d
  induction d with
  | zero =>
    intro n k m hn hk hm hx
    obtain ⟨n, rfl⟩ : ∃ n', n = n' + 1 := ⟨n - 1, by omega⟩
    refine br_t (nI_lt (by omega) (by omega)) (nm_r (nI_1 p) (h m hm ?_))
    have key : ∀ d, hy_R e s t i p k d ↔ hy_R e s t i (p + 1) 0 d := by
      intro d
      constructor
      · rintro ⟨p', k', g1, g2⟩
        exact ⟨p', k', by omega, g2⟩
      · rintro ⟨p', k', g1, g2, g3, g4⟩
        refine ⟨p', k', ?_, g2, g3, g4⟩
        by_cases c : p' = p
        · subst c; exact Or.inr ⟨rfl, by omega⟩
        · exact Or.inl (by omega)
    exact ⟨hx.1.elim Or.inl (fun z => Or.inr ((key _).mp z)), fun d hd => hx.2 d ((key d).mpr hd)⟩
  | succ d ih =>
    intro n k m hn hk hm hx
    obtain ⟨n, rfl⟩ : ∃ n', n = n' + 1 := ⟨n - 1, by omega⟩
    obtain ⟨r1, r2⟩ := hy_R_k hp (by omega) hx
    have hd9 : hy_dg e p k < 10 := Nat.mod_lt _ (by omega)
    refine br_f (nI_nlt (by omega) (by omega)) (yw_digit P hp (by omega) (pk_le (hy_dg e p k) m (fun y => nm_r (nI_1 k) (ih n (k + 1) m (by omega) (by omega) hm (r2 (Or.inr y)))) (fun y => ?_)))
    have eo : nI i - nI k = nI (i + 1 - k) - 1 := by
      rw [show i + 1 - k = i + 1 - k from rfl, ← pk_sub (show k ≤ i + 1 by omega), ← nI_1]; grind
    rw [eo]
    exact yw_meets F P W ht hp (by omega) (by omega) (by omega) (fun y1 => br_f (by decide) (nm_r (nI_1 k) (ih n (k + 1) _ (by omega) (by omega) (by omega) (r1 y1 y)))) (fun y1 => br_t rfl (nm_r (nI_1 k) (ih n (k + 1) m (by omega) (by omega) hm (r2 (Or.inl y1)))))
theorem yw_h44 {post : Int32 → Prop} (F : ey_F e h_length b_text b_wide b_joined b_kerns) (P : ey_P e h_patterns b_patA b_patB b_patC b_patDigits) {s t i : Nat} (W : wo_w e s t) (ht : t ≤ gv_ln e) (hi1 : s + 2 ≤ i) (hi2 : i + 2 ≤ t) (h : ∀ m, m ≤ 9 → hy_mx (hy_R e s t i (gv_np e) 0) m → post (bl_i (decide (m % 2 = 1)))) :
    ∀ d n p m, d < n → p + d = gv_np e → m ≤ 9 → hy_mx (hy_R e s t i p 0) m → wY_hyphen_44 post (nI i) (nI s) (nI t) h_length h_ligatures h_patterns h_firstWide h_restWide h_firstLines h_spaceWide h_stretch h_shrink h_tolerance h_cost h_height h_ready h_glyphCount h_breaks h_natural h_spaces h_lineCount h_paragraphs b_text b_wide b_joined b_kerns b_patA b_patB b_patC b_patDigits b_glyphs b_glyphOf b_bEnd b_bNext b_bHyphen b_least b_before b_way b_lFrom b_lTo b_lNumber b_lParagraph b_lPage b_lHyphen b_lLast b_best n (nI m) (nI p) := by
  obtain ⟨P1, P2, O1, O2, O3⟩ := id P
  intro d
  induction d with
  | zero =>
    intro n p m hn hp hm hx
    obtain ⟨n, rfl⟩ : ∃ n', n = n' + 1 := ⟨n - 1, by omega⟩
    have : p = gv_np e := by omega
    subst this
    have := h m hm hx
    refine br_t (by rw [P1]; exact nI_le (Nat.le_refl _) (by omega)) ⟨by decide, ?_⟩
    rw [show (2 : Int32) = nI 2 from rfl, pk_rem (by omega) (by omega) (by omega)]
    refine pk_eq (m % 2) 1 (fun y => ?_) (fun y => ?_)
    · rw [decide_eq_true y] at this; exact this
    · rw [decide_eq_false y] at this; exact this
  | succ d ih =>
    intro n p m hn hp hm hx
    obtain ⟨n, rfl⟩ : ∃ n', n = n' + 1 := ⟨n - 1, by omega⟩
    obtain ⟨p1, p2, p3, p4⟩ := P2 p (by omega)
    obtain ⟨o1, o2, o3, o4, o5, o6⟩ := O2 p (by omega)
    have hv : vp_in (nI p) 10 := vp_in_nI (by omega) (by decide)
    have k : ∀ l : Nat, l = hy_nl e p → ∃ n87 : Nat, wY_hyphen_87 post (wY_hyphen_44 post (nI i) (nI s) (nI t) h_length h_ligatures h_patterns h_firstWide h_restWide h_firstLines h_spaceWide h_stretch h_shrink h_tolerance h_cost h_height h_ready h_glyphCount h_breaks h_natural h_spaces h_lineCount h_paragraphs b_text b_wide b_joined b_kerns b_patA b_patB b_patC b_patDigits b_glyphs b_glyphOf b_bEnd b_bNext b_bHyphen b_least b_before b_way b_lFrom b_lTo b_lNumber b_lParagraph b_lPage b_lHyphen b_lLast b_best n) (nI i) (nI s) (nI t) (nI p) (nI l) h_length h_ligatures h_patterns h_firstWide h_restWide h_firstLines h_spaceWide h_stretch h_shrink h_tolerance h_cost h_height h_ready h_glyphCount h_breaks h_natural h_spaces h_lineCount h_paragraphs b_text b_wide b_joined b_kerns b_patA b_patB b_patC b_patDigits b_glyphs b_glyphOf b_bEnd b_bNext b_bHyphen b_least b_before b_way b_lFrom b_lTo b_lNumber b_lParagraph b_lPage b_lHyphen b_lLast b_best n87 (nI m) 0 := by
      intro l hl
      subst hl
      exact ⟨hy_nl e p + 2, yw_h87 F P W ht (by omega) hi1 hi2 (fun m' h1 h2 => ih n (p + 1) m' (by omega) (by omega) h1 h2) (hy_nl e p + 1) _ 0 m (by omega) (by omega) hm hx⟩
    refine br_f (by rw [P1]; exact nI_ge (by omega) (by omega)) ⟨hv, ?_⟩
    rw [nI_clamp (n := p) (by omega)]
    exact nl_br p2 p3 o2 o3 hv (fun y => k 1 (nl_1 y).symm) (fun y1 y2 => k 2 (nl_2 y1 y2).symm) (fun y1 y2 => k 3 (nl_3 y1 y2).symm)
theorem yw_hyphen {post : Int32 → Prop} (F : ey_F e h_length b_text b_wide b_joined b_kerns) (P : ey_P e h_patterns b_patA b_patB b_patC b_patDigits) {i : Nat} (hi : i < 2 ^ 31) (h : post (bl_i (hy_b e i))) : wpY_hyphen post (h_length, h_ligatures, h_patterns, h_firstWide, h_restWide, h_firstLines, h_spaceWide, h_stretch, h_shrink, h_tolerance, h_cost, h_height, h_ready, h_glyphCount, h_breaks, h_natural, h_spaces, h_lineCount, h_paragraphs, b_text, b_wide, b_joined, b_kerns, b_patA, b_patB, b_patC, b_patDigits, b_glyphs, b_glyphOf, b_bEnd, b_bNext, b_bHyphen, b_least, b_before, b_way, b_lFrom, b_lTo, b_lNumber, b_lParagraph, b_lPage, b_lHyphen, b_lLast, b_best) (nI i) := by
  have h48 := F.2.2.2.2.2.1
  have nf : ¬ hy_at e i → post 0 := by
    intro g
    rw [hy_b_f.mpr g] at h; exact h
  unfold wpY_hyphen
  refine yw_lt F hi (fun y => br_f (by decide) ?_) (fun y => br_t rfl (nf (fun z => y (hy_at_l z).1)))
  have y1 := y.1
  refine yw_wordStart F (by omega) (fun s s1 s2 s3 => yw_wordEnd F (by omega) (fun t t1 t2 t3 t4 => ?_))
  have hit : i < t := by
    rcases Nat.lt_or_ge i t with z | z
    · exact z
    · exact absurd y (by rw [show i = t from by omega]; exact t4)
  have W : wo_w e s t := by
    refine ⟨by omega, fun j j1 j2 => ?_, s3, t4⟩
    rcases Nat.lt_or_ge j i with z | z
    · exact s2 j j1 z
    · exact t3 j z j2
  have hw := hy_at_w W s1 hit
  refine pk_lt (i - s) 2 (fun g => nf (fun z => by have := (hw.mp z).1; omega)) (fun g => pk_le 2 (t - i) (fun g1 => ⟨gv_np e + 1, ?_⟩) (fun g1 => nf (fun z => by have := (hw.mp z).2.1; omega)) rfl (pk_sub (by omega))) (pk_sub s1) rfl
  refine yw_h44 F P W (by omega) (by omega) (by omega) (fun m m1 m2 => ?_) (gv_np e) _ 0 0 (by omega) (by omega) (by omega) ⟨Or.inl rfl, fun d hd => ?_⟩
  · have hm : hy_mx (hy_D e s t i) m := by
      have key : ∀ d, hy_R e s t i (gv_np e) 0 d ↔ hy_D e s t i d := by
        intro d
        constructor
        · rintro ⟨p', k', g1, g2, g3, g4, g5⟩
          exact ⟨p', k', g2, g3, g4, g5⟩
        · rintro ⟨p', k', g2, g3, g4, g5⟩
          exact ⟨p', k', Or.inl g2, g2, g3, g4, g5⟩
      exact ⟨m2.1.elim Or.inl (fun z => Or.inr ((key _).mp z)), fun d hd => m2.2 d ((key d).mpr hd)⟩
    have : hy_b e i = decide (m % 2 = 1) := by
      cases hx : hy_b e i with
      | true =>
        obtain ⟨-, -, m', g1, g2⟩ := hw.mp (hy_b_t.mp hx)
        rw [hy_mx_u hm g1]
        exact (decide_eq_true g2).symm
      | false =>
        refine (decide_eq_false (fun z => hy_b_f.mp hx (hw.mpr ⟨by omega, by omega, m, hm, z⟩))).symm
    rw [← this]; exact h
  · obtain ⟨p', k', g1, -⟩ := hd
    omega
end
end
section
/-! the reference: breaks, paragraphs, pages, everything anew -/
/-- breaks up to place i are listed; the next place is right or no letter follows -/
def yb_I (e : gv_T) (a z i : Nat) (fb : Int32) (en bg hy : Nat → Int32) : Prop :=
  fb = nI (bk_n e a (i - a)) ∧ (∀ k, 1 ≤ k → k ≤ bk_n e a (i - a) → en k = nI (bk_e e a (i - a) k)) ∧ (∀ k, k ≤ bk_n e a (i - a) → bg k = nI (wo_fl e 48 (bk_e e a (i - a) k)) ∨ ∀ j, bk_e e a (i - a) k ≤ j → j < z → ¬ gv_isL e j) ∧ hy 0 = bl_i false ∧ (∀ k, 1 ≤ k → k ≤ bk_n e a (i - a) → hy k = bl_i (hy_b e (bk_e e a (i - a) k)))
theorem yb_none {e : gv_T} {a z i : Nat} {fb : Int32} {en bg hy : Nat → Int32} (ha : a ≤ i) (h : ¬ bk_is e (i + 1)) (H : yb_I e a z i fb en bg hy) : yb_I e a z (i + 1) fb en bg hy := by
  obtain ⟨e1, e2⟩ := bk_none ha h
  unfold yb_I
  rw [e1, e2]
  exact H
theorem yb_some {e : gv_T} {a z i q : Nat} {fb x : Int32} {en bg hy : Nat → Int32} (ha : a ≤ i) (h : bk_is e (i + 1)) (H : yb_I e a z i fb en bg hy) (hq : q = wo_fl e 48 (i + 1) ∨ ∀ j, i + 1 ≤ j → j < z → ¬ gv_isL e j) (hx : x = bl_i (hy_b e (i + 1))) : yb_I e a z (i + 1) (nI (bk_n e a (i - a) + 1)) (upd en (bk_n e a (i - a) + 1) (nI (i + 1))) (upd bg (bk_n e a (i - a) + 1) (nI q)) (upd hy (bk_n e a (i - a) + 1) x) := by
  obtain ⟨e1, e2⟩ := bk_some ha h
  obtain ⟨h1, h2, h3, h4, h5⟩ := H
  unfold yb_I
  rw [e1, e2]
  refine ⟨rfl, fun k k1 k2 => ?_, fun k k1 => ?_, by rw [pk_un (by omega)]; exact h4, fun k k1 k2 => ?_⟩
  · by_cases ek : k = bk_n e a (i - a) + 1
    · rw [ek, pk_us, dp_us]
    · rw [pk_un ek, dp_un _ _ ek]; exact h2 k k1 (by omega)
  · by_cases ek : k = bk_n e a (i - a) + 1
    · rw [ek, pk_us, dp_us]
      exact hq.elim (fun y => Or.inl (by rw [y])) Or.inr
    · rw [pk_un ek, dp_un _ _ ek]; exact h3 k (by omega)
  · by_cases ek : k = bk_n e a (i - a) + 1
    · rw [ek, pk_us, dp_us, hx]
    · rw [pk_un ek, dp_un _ _ ek]; exact h5 k k1 (by omega)
theorem yb_B {e : gv_T} (E : gv_okF e) {a z : Nat} {fb : Int32} {en bg hy : Nat → Int32} (Z : pd_ok e a z) (H : yb_I e a z z fb en bg hy) : ey_B e a z fb en bg hy := by
  obtain ⟨h1, h2, h3, h4, h5⟩ := H
  refine ⟨h1, h2, fun k hk => ?_, fun k hk => ?_⟩
  · rcases h3 k (Nat.le_of_lt hk) with y | y
    · exact y
    · exfalso
      obtain ⟨b1, b2, b3, -⟩ := pr_bg_b E hk
      have hb := pr_en_b Z.1 (e := e) (k := k + 1) hk
      exact y _ b2 (by omega) b1
  · unfold pr_hy
    by_cases ek : k = 0
    · rw [if_pos ek, ek]; exact h4
    · rw [if_neg ek]; exact h5 k (by omega) hk
section
variable {e : gv_T} {h_length h_ligatures h_patterns h_firstWide h_restWide h_firstLines h_spaceWide h_stretch h_shrink h_tolerance h_cost h_height h_ready h_glyphCount h_breaks h_natural h_spaces h_lineCount h_paragraphs : Int32} {b_text b_wide b_joined b_kerns b_patA b_patB b_patC b_patDigits b_glyphs b_glyphOf b_bEnd b_bNext b_bHyphen b_before b_way b_lFrom b_lTo b_lNumber b_lParagraph b_lPage b_lHyphen b_lLast : Nat → Int32} {b_least b_best : Nat → Int64}
theorem yw_addBreak {post : SY → Prop} {c p q : Nat} {x : Int32} (hc : h_breaks = nI c) (hc2 : c < 48) (hx : vp_nar .boolean x = x) (h : post (h_length, h_ligatures, h_patterns, h_firstWide, h_restWide, h_firstLines, h_spaceWide, h_stretch, h_shrink, h_tolerance, h_cost, h_height, h_ready, h_glyphCount, nI (c + 1), h_natural, h_spaces, h_lineCount, h_paragraphs, b_text, b_wide, b_joined, b_kerns, b_patA, b_patB, b_patC, b_patDigits, b_glyphs, b_glyphOf, upd b_bEnd (c + 1) (nI p), upd b_bNext (c + 1) (nI q), upd b_bHyphen (c + 1) x, b_least, b_before, b_way, b_lFrom, b_lTo, b_lNumber, b_lParagraph, b_lPage, b_lHyphen, b_lLast, b_best)) : wpY_addBreak post (h_length, h_ligatures, h_patterns, h_firstWide, h_restWide, h_firstLines, h_spaceWide, h_stretch, h_shrink, h_tolerance, h_cost, h_height, h_ready, h_glyphCount, h_breaks, h_natural, h_spaces, h_lineCount, h_paragraphs, b_text, b_wide, b_joined, b_kerns, b_patA, b_patB, b_patC, b_patDigits, b_glyphs, b_glyphOf, b_bEnd, b_bNext, b_bHyphen, b_least, b_before, b_way, b_lFrom, b_lTo, b_lNumber, b_lParagraph, b_lPage, b_lHyphen, b_lLast, b_best) (nI p) (nI q) x := by
  have hv : vp_in (nI (c + 1)) 50 := vp_in_nI (by omega) (by decide)
  exact nm_r (e' := nI (c + 1)) (by rw [hc, nI_1]) ⟨hv, nm_r (e' := upd b_bEnd (c + 1) (nI p)) (by rw [nI_clamp (by omega)]) ⟨hv, nm_r (e' := upd b_bNext (c + 1) (nI q)) (by rw [nI_clamp (by omega)]) ⟨hv, nm_r (e' := upd b_bHyphen (c + 1) x) (by rw [nI_clamp (by omega), hx]) h⟩⟩⟩
/-- the next place behind a word -/
theorem yw_p111 {post : SY → Prop} {J : _} {a z k : Nat} (F : ey_F e h_length b_text b_wide b_joined b_kerns) (Z : pd_ok e a z) (h : ∀ q, (q = wo_fl e 48 (k + 1) ∨ ∀ j, k + 1 ≤ j → j < z → ¬ gv_isL e j) → wY_paragraph_135 post J (nI z) (nI k) (nI q) h_length h_ligatures h_patterns h_firstWide h_restWide h_firstLines h_spaceWide h_stretch h_shrink h_tolerance h_cost h_height h_ready h_glyphCount h_breaks h_natural h_spaces h_lineCount h_paragraphs b_text b_wide b_joined b_kerns b_patA b_patB b_patC b_patDigits b_glyphs b_glyphOf b_bEnd b_bNext b_bHyphen b_least b_before b_way b_lFrom b_lTo b_lNumber b_lParagraph b_lPage b_lHyphen b_lLast b_best) :
    ∀ d n q, d < n → q + d = z → a ≤ k → k < q → (∀ j, k + 1 ≤ j → j < q → ¬ gv_isL e j) → wY_paragraph_111 post J (nI z) (nI k) h_length h_ligatures h_patterns h_firstWide h_restWide h_firstLines h_spaceWide h_stretch h_shrink h_tolerance h_cost h_height h_ready h_glyphCount h_breaks h_natural h_spaces h_lineCount h_paragraphs b_text b_wide b_joined b_kerns b_patA b_patB b_patC b_patDigits b_glyphs b_glyphOf b_bEnd b_bNext b_bHyphen b_least b_before b_way b_lFrom b_lTo b_lNumber b_lParagraph b_lPage b_lHyphen b_lLast b_best n (nI q) := by
  obtain ⟨F1, F2, F3, F4, F5, E⟩ := id F
  have h48 := E.1
  have hzl := Z.2.1
  intro d
  induction d with
  | zero =>
    intro n q hn hq ha hk hnl
    obtain ⟨n, rfl⟩ : ∃ n', n = n' + 1 := ⟨n - 1, by omega⟩
    have : q = z := by omega
    subst this
    exact br_t (nI_le (Nat.le_refl _) (by omega)) (h _ (Or.inr hnl))
  | succ d ih =>
    intro n q hn hq ha hk hnl
    obtain ⟨n, rfl⟩ : ∃ n', n = n' + 1 := ⟨n - 1, by omega⟩
    have h11 := Z.2.2.1 q (by omega) (by omega)
    have hb := E.2.1 q
    refine br_f (nI_ge (by omega) (by omega)) ⟨vp_in_nI (by omega) (by decide), ?_⟩
    rw [nI_clamp (n := q) (by omega), F2]
    refine pk_eq (gv_tx e q) 10 (fun y => nm_r (nI_1 q) (ih n (q + 1) (by omega) (by omega) ha (by omega) (fun j j1 j2 => ?_))) (fun y => h q (Or.inl (wo_fl_eq (by omega) (by omega) hnl ⟨by omega, by omega⟩).symm))
    by_cases ej : j = q
    · rw [ej]; intro z; have := z.2; omega
    · exact hnl j j1 (by omega)
/-- the loop over the places of a paragraph -/
theorem yw_p52 {post : SY → Prop} {a z : Nat} (F : ey_F e h_length b_text b_wide b_joined b_kerns) (P : ey_P e h_patterns b_patA b_patB b_patC b_patDigits) (Z : pd_ok e a z)
    (h : ∀ fb en bg hy, ey_B e a z fb en bg hy → ∀ n, wY_paragraph_52 post (nI z) (n + 1) (nI z) h_length h_ligatures h_patterns h_firstWide h_restWide h_firstLines h_spaceWide h_stretch h_shrink h_tolerance h_cost h_height h_ready h_glyphCount fb h_natural h_spaces h_lineCount h_paragraphs b_text b_wide b_joined b_kerns b_patA b_patB b_patC b_patDigits b_glyphs b_glyphOf en bg hy b_least b_before b_way b_lFrom b_lTo b_lNumber b_lParagraph b_lPage b_lHyphen b_lLast b_best) :
    ∀ d n k fb en bg hy, d < n → k + d = z → a ≤ k → (gv_isL e k → ∀ i, k = i + 1 → a ≤ i → yb_I e a z i fb en bg hy) → (¬ gv_isL e k → yb_I e a z k fb en bg hy) → (k = a → yb_I e a z k fb en bg hy) → wY_paragraph_52 post (nI z) n (nI k) h_length h_ligatures h_patterns h_firstWide h_restWide h_firstLines h_spaceWide h_stretch h_shrink h_tolerance h_cost h_height h_ready h_glyphCount fb h_natural h_spaces h_lineCount h_paragraphs b_text b_wide b_joined b_kerns b_patA b_patB b_patC b_patDigits b_glyphs b_glyphOf en bg hy b_least b_before b_way b_lFrom b_lTo b_lNumber b_lParagraph b_lPage b_lHyphen b_lLast b_best := by
  obtain ⟨F1, F2, F3, F4, F5, E⟩ := id F
  have h48 := E.1
  have hzl := Z.2.1
  intro d
  induction d with
  | zero =>
    intro n k fb en bg hy hn hk ha H1 H2 H3
    obtain ⟨n, rfl⟩ : ∃ n', n = n' + 1 := ⟨n - 1, by omega⟩
    have : k = z := by omega
    subst this
    exact h fb en bg hy (yb_B E Z (H2 Z.2.2.2.1)) n
  | succ d ih =>
    intro n k fb en bg hy hn hk ha H1 H2 H3
    obtain ⟨n, rfl⟩ : ∃ n', n = n' + 1 := ⟨n - 1, by omega⟩
    have h11 := Z.2.2.1 k (by omega) (by omega)
    have hb := E.2.1 k
    refine br_f (nI_ge (by omega) (by omega)) ⟨vp_in_nI (by omega) (by decide), ?_⟩
    rw [nI_clamp (n := k) (by omega), F2]
    refine pk_eq (gv_tx e k) 10 (fun y => nm_r (nI_1 k) ?_) (fun y => ?_)
    · have hnl : ¬ gv_isL e k := fun z => by have := z.2; omega
      have H := H2 hnl
      refine ih n (k + 1) fb en bg hy (by omega) (by omega) (by omega) (fun _ i hi _ => by rw [show i = k from by omega]; exact H) (fun _ => yb_none ha (bk_nl hnl) H) (fun hx => by omega)
    · have hL : gv_isL e k := ⟨by omega, by omega⟩
      have k91 : ∀ fb en bg hy, yb_I e a z k fb en bg hy → wY_paragraph_91 post (wY_paragraph_52 post (nI z) n) (nI z) (nI k) h_length h_ligatures h_patterns h_firstWide h_restWide h_firstLines h_spaceWide h_stretch h_shrink h_tolerance h_cost h_height h_ready h_glyphCount fb h_natural h_spaces h_lineCount h_paragraphs b_text b_wide b_joined b_kerns b_patA b_patB b_patC b_patDigits b_glyphs b_glyphOf en bg hy b_least b_before b_way b_lFrom b_lTo b_lNumber b_lParagraph b_lPage b_lHyphen b_lLast b_best := by
        intro fb en bg hy H
        have hcn := bk_n_le e a (k - a)
        unfold wY_paragraph_91
        rw [nI_1]
        refine yw_lt F (by omega) (fun y1 => br_f (by decide) (nm_e (ih n (k + 1) fb en bg hy (by omega) (by omega) (by omega) (fun _ i hi _ => by rw [show i = k from by omega]; exact H) (fun y2 => absurd y1 y2) (fun hx => by omega)))) (fun y1 => br_t rfl (nm_e ⟨z + 1, ?_⟩))
        refine yw_p111 (a := a) (h_breaks := fb) (b_bEnd := en) (b_bNext := bg) (b_bHyphen := hy) F Z (fun q hq => ?_) (z - (k + 1)) _ (k + 1) (by omega) (by omega) ha (by omega) (fun j j1 j2 => by omega)
        have hbk : bk_is e (k + 1) := Or.inl ⟨k, rfl, hL, y1⟩
        have hnh : hy_b e (k + 1) = false := hy_b_f.mpr (fun y => y1 (hy_at_l y).1)
        unfold wY_paragraph_135
        rw [nI_1]
        refine yw_addBreak (c := bk_n e a (k - a)) H.1 (by omega) rfl (nm_e (ih n (k + 1) _ _ _ _ (by omega) (by omega) (by omega) (fun y2 => absurd y2 y1) (fun _ => ?_) (fun hx => by omega)))
        exact yb_some ha hbk H hq (by rw [hnh]; rfl)
      refine yw_hyphen F P (by omega) (bl_br rfl (fun y1 => k91 fb en bg hy ?_) (fun y1 => ?_))
      · by_cases hka : k = a
        · exact H3 hka
        · obtain ⟨i, rfl⟩ : ∃ i, k = i + 1 := ⟨k - 1, by omega⟩
          exact yb_none (by omega) (fun y2 => hy_b_f.mp y1 ((bk_ll hL).mp y2)) (H1 hL i rfl (by omega))
      · have hat := hy_b_t.mp y1
        have hka : k ≠ a := by
          intro hx
          obtain ⟨j, j1, j2⟩ := (hy_at_l hat).2
          exact Z.2.2.2.2 j (by omega) j2
        obtain ⟨i, rfl⟩ : ∃ i, k = i + 1 := ⟨k - 1, by omega⟩
        have H := H1 hL i rfl (by omega)
        have hcn := bk_n_le e a (i - a)
        refine yw_addBreak (c := bk_n e a (i - a)) H.1 (by omega) rfl (k91 _ _ _ _ ?_)
        exact yb_some (by omega) ((bk_ll hL).mpr hat) H (Or.inl (wo_fl_eq (Nat.le_refl _) (by omega) (fun j j1 j2 => by omega) hL).symm) (by rw [y1]; rfl)
theorem yw_p2 {post : SY → Prop} {a z : Nat} (F : ey_F e h_length b_text b_wide b_joined b_kerns) (Z : pd_ok e a z) (h : ∀ q, a ≤ q → q ≤ z → (∀ j, a ≤ j → j < q → ¬ gv_isL e j) → (q = z ∨ gv_isL e q) → wY_paragraph_24 post (nI z) (nI q) h_length h_ligatures h_patterns h_firstWide h_restWide h_firstLines h_spaceWide h_stretch h_shrink h_tolerance h_cost h_height h_ready h_glyphCount h_breaks h_natural h_spaces h_lineCount h_paragraphs b_text b_wide b_joined b_kerns b_patA b_patB b_patC b_patDigits b_glyphs b_glyphOf b_bEnd b_bNext b_bHyphen b_least b_before b_way b_lFrom b_lTo b_lNumber b_lParagraph b_lPage b_lHyphen b_lLast b_best) :
    ∀ d n q, d < n → q + d = z → a ≤ q → (∀ j, a ≤ j → j < q → ¬ gv_isL e j) → wY_paragraph_2 post (nI z) h_length h_ligatures h_patterns h_firstWide h_restWide h_firstLines h_spaceWide h_stretch h_shrink h_tolerance h_cost h_height h_ready h_glyphCount h_breaks h_natural h_spaces h_lineCount h_paragraphs b_text b_wide b_joined b_kerns b_patA b_patB b_patC b_patDigits b_glyphs b_glyphOf b_bEnd b_bNext b_bHyphen b_least b_before b_way b_lFrom b_lTo b_lNumber b_lParagraph b_lPage b_lHyphen b_lLast b_best n (nI q) := by
  obtain ⟨F1, F2, F3, F4, F5, E⟩ := id F
  have h48 := E.1
  have hzl := Z.2.1
  intro d
  induction d with
  | zero =>
    intro n q hn hq ha hnl
    obtain ⟨n, rfl⟩ : ∃ n', n = n' + 1 := ⟨n - 1, by omega⟩
    have : q = z := by omega
    subst this
    exact br_t (nI_le (Nat.le_refl _) (by omega)) (h q ha (Nat.le_refl _) hnl (Or.inl rfl))
  | succ d ih =>
    intro n q hn hq ha hnl
    obtain ⟨n, rfl⟩ : ∃ n', n = n' + 1 := ⟨n - 1, by omega⟩
    have h11 := Z.2.2.1 q (by omega) (by omega)
    have hb := E.2.1 q
    refine br_f (nI_ge (by omega) (by omega)) ⟨vp_in_nI (by omega) (by decide), ?_⟩
    rw [nI_clamp (n := q) (by omega), F2]
    refine pk_eq (gv_tx e q) 10 (fun y => nm_r (nI_1 q) (ih n (q + 1) (by omega) (by omega) (by omega) (fun j j1 j2 => ?_))) (fun y => h q ha (by omega) hnl (Or.inr ⟨by omega, by omega⟩))
    by_cases ej : j = q
    · rw [ej]; intro z; have := z.2; omega
    · exact hnl j j1 (by omega)
end
/-- without letters there are no breaks -/
theorem bk_nolet {e : gv_T} {a : Nat} : ∀ n, (∀ j, a ≤ j → j < a + n → ¬ gv_isL e j) → bk_n e a n = 0
  | 0, _ => rfl
  | n + 1, h => by
    have ih := bk_nolet (e := e) (a := a) n (fun j j1 j2 => h j j1 (by omega))
    rw [bk_n_f (fun y => ?_), ih]
    obtain ⟨j, j1, j2⟩ := bk_is_l y
    exact h j (by omega) (by omega) j2
section
variable {e : gv_T} {h_length h_ligatures h_patterns h_firstWide h_restWide h_firstLines h_spaceWide h_stretch h_shrink h_tolerance h_cost h_height h_ready h_glyphCount h_breaks h_natural h_spaces h_lineCount h_paragraphs : Int32} {b_text b_wide b_joined b_kerns b_patA b_patB b_patC b_patDigits b_glyphs b_glyphOf b_bEnd b_bNext b_bHyphen b_before b_way b_lFrom b_lTo b_lNumber b_lParagraph b_lPage b_lHyphen b_lLast : Nat → Int32} {b_least b_best : Nat → Int64}
theorem yw_paragraph {post : SY → Prop} {a z np : Nat} {s : Nat × (Nat → li_T)} (F : ey_F e h_length b_text b_wide b_joined b_kerns) (M : ey_M e h_firstWide h_restWide h_firstLines h_spaceWide h_stretch h_shrink h_tolerance h_cost h_height) (P : ey_P e h_patterns b_patA b_patB b_patC b_patDigits) (Z : pd_ok e a z) (L : ey_L s h_lineCount b_lFrom b_lTo b_lNumber b_lParagraph b_lHyphen b_lLast) (hs : s.1 + pr_nb e a z ≤ 48) (hnp : h_paragraphs = nI np) (hnp2 : 0 < pr_nb e a z → np < 24)
    (h0 : pr_nb e a z = 0 → post (h_length, h_ligatures, h_patterns, h_firstWide, h_restWide, h_firstLines, h_spaceWide, h_stretch, h_shrink, h_tolerance, h_cost, h_height, h_ready, h_glyphCount, h_breaks, h_natural, h_spaces, h_lineCount, h_paragraphs, b_text, b_wide, b_joined, b_kerns, b_patA, b_patB, b_patC, b_patDigits, b_glyphs, b_glyphOf, b_bEnd, b_bNext, b_bHyphen, b_least, b_before, b_way, b_lFrom, b_lTo, b_lNumber, b_lParagraph, b_lPage, b_lHyphen, b_lLast, b_best))
    (h : ∀ x1 x2 x3 x4 x5 x6 x7 y1 y2 y3 y4 y5 y6 y7 y8 y9 y10 y11 y12, 0 < pr_nb e a z → ey_L (li_pl e a z np (pr_wl e a z) 0 0 s) x1 x2 x3 x4 x5 x6 x7 → post (h_length, h_ligatures, h_patterns, h_firstWide, h_restWide, h_firstLines, h_spaceWide, h_stretch, h_shrink, h_tolerance, h_cost, h_height, h_ready, y5, y9, y3, y4, x1, nI (np + 1), b_text, b_wide, b_joined, b_kerns, b_patA, b_patB, b_patC, b_patDigits, y6, y7, y10, y11, y12, y1, y2, y8, x2, x3, x4, x5, b_lPage, x6, x7, vp_updL b_best np (pr_sm e a z))) : wpY_paragraph post (h_length, h_ligatures, h_patterns, h_firstWide, h_restWide, h_firstLines, h_spaceWide, h_stretch, h_shrink, h_tolerance, h_cost, h_height, h_ready, h_glyphCount, h_breaks, h_natural, h_spaces, h_lineCount, h_paragraphs, b_text, b_wide, b_joined, b_kerns, b_patA, b_patB, b_patC, b_patDigits, b_glyphs, b_glyphOf, b_bEnd, b_bNext, b_bHyphen, b_least, b_before, b_way, b_lFrom, b_lTo, b_lNumber, b_lParagraph, b_lPage, b_lHyphen, b_lLast, b_best) (nI a) (nI z) := by
  have E := F.2.2.2.2.2
  have h48 := E.1
  have hzl := Z.2.1
  have hnb := pr_nb_b (e := e) (a := a) (z := z)
  have haz := Z.1
  refine ⟨z + 1, yw_p2 F Z (fun q q1 q2 q3 q4 => ?_) (z - a) _ a (by omega) (by omega) (Nat.le_refl _) (fun j j1 j2 => by omega)⟩
  refine pk_eq q z (fun y => h0 ?_) (fun y => nm_e (nm_e ⟨z + 1, ?_⟩))
  · exact bk_nolet _ (fun j j1 j2 => q3 j j1 (by omega))
  · have hLq : gv_isL e q := q4.resolve_left y
    have hpos : 0 < pr_nb e a z := by
      rcases Nat.lt_or_ge 0 (pr_nb e a z) with g | g
      · exact g
      · exfalso
        have key : ∀ d q', q' + d = z → q ≤ q' → gv_isL e q' → ∃ t, q' < t ∧ t ≤ z ∧ bk_is e t := by
          intro d
          induction d with
          | zero => intro q' hd _ hl'; exact absurd hl' (by rw [show q' = z from by omega]; exact Z.2.2.2.1)
          | succ d ih =>
            intro q' hd hq' hl'
            rcases Classical.em (gv_isL e (q' + 1)) with y | y
            · obtain ⟨t, t1, t2, t3⟩ := ih (q' + 1) (by omega) (by omega) y
              exact ⟨t, by omega, t2, t3⟩
            · exact ⟨q' + 1, by omega, by omega, Or.inl ⟨q', rfl, hl', y⟩⟩
        obtain ⟨t, t1, t2, t3⟩ := key (z - q) q (by omega) (Nat.le_refl _) hLq
        obtain ⟨k, k1, k2, k3⟩ := pr_en_ex (e := e) (a := a) (z := z) (q := t) (by omega) t2 t3
        omega
    have hnp3 := hnp2 hpos
    have e0 : ∀ i, a ≤ i → i ≤ q → bk_n e a (i - a) = 0 := fun i i1 i2 => bk_nolet _ (fun j j1 j2 => q3 j j1 (by omega))
    have hI : ∀ i, a ≤ i → i ≤ q → yb_I e a z i 0 b_bEnd (upd b_bNext 0 (nI q)) (upd b_bHyphen 0 (bl_i false)) := by
      intro i i1 i2
      refine ⟨by rw [e0 i i1 i2]; rfl, fun k k1 k2 => by rw [e0 i i1 i2] at k2; omega, fun k k1 => ?_, pk_us, fun k k1 k2 => by rw [e0 i i1 i2] at k2; omega⟩
      rw [e0 i i1 i2] at k1
      have : k = 0 := by omega
      subst this
      rw [pk_us, bk_e0]
      exact Or.inl (congrArg nI (wo_fl_eq q1 (by omega) q3 hLq).symm)
    refine yw_p52 F P Z (fun fb en bg hy B n => ?_) (z - q) _ q 0 b_bEnd _ _ (by omega) (by omega) q1 (fun _ i hi hia => hI i hia (by omega)) (fun g => absurd hLq g) (fun _ => hI q q1 (Nat.le_refl _))
    refine br_t (nI_le (Nat.le_refl _) (by omega)) ?_
    refine yw_bestWay (s := s) (np := np) F M Z B hpos L hs hnp hnp3 (fun y1 y2 y3 y4 y5 y6 y7 y8 hN => br_t rfl ?_) (fun x1 x2 x3 x4 x5 x6 x7 y1 y2 y3 y4 y5 y6 y7 y8 hL => br_f (by decide) (nm_r (e' := nI (np + 1)) (by rw [hnp, nI_1]) (h x1 x2 x3 x4 x5 x6 x7 y1 y2 y3 y4 y5 y6 y7 y8 fb en bg hy hpos hL)))
    exact yw_emergency (s := s) (np := np) F M Z B L hs hnp hnp3 hN (fun x1 x2 x3 x4 x5 x6 x7 y3 y4 y5 y6 y7 hL => nm_r (e' := nI (np + 1)) (by rw [hnp, nI_1]) (h x1 x2 x3 x4 x5 x6 x7 y1 y2 y3 y4 y5 y6 y7 y8 fb en bg hy hpos hL))
theorem yw_many {post : Int32 → Prop} {n : Nat} {g : Nat → li_T} (hn : n ≤ 48) (L : ey_L (n, g) h_lineCount b_lFrom b_lTo b_lNumber b_lParagraph b_lHyphen b_lLast) (hnum : ∀ k, k < n → li_n (g k) < 2 ^ 31) {k : Nat} (hk : k < n) (h : post (bl_i (pg_mn (g k)))) : wpY_many post (h_length, h_ligatures, h_patterns, h_firstWide, h_restWide, h_firstLines, h_spaceWide, h_stretch, h_shrink, h_tolerance, h_cost, h_height, h_ready, h_glyphCount, h_breaks, h_natural, h_spaces, h_lineCount, h_paragraphs, b_text, b_wide, b_joined, b_kerns, b_patA, b_patB, b_patC, b_patDigits, b_glyphs, b_glyphOf, b_bEnd, b_bNext, b_bHyphen, b_least, b_before, b_way, b_lFrom, b_lTo, b_lNumber, b_lParagraph, b_lPage, b_lHyphen, b_lLast, b_best) (nI k) := by
  obtain ⟨L1, L2⟩ := L
  obtain ⟨l1, l2, l3, l4, l5, l6⟩ := L2 k hk
  have l3' : b_lNumber k = nI (li_n (g k)) := l3
  have l6' : b_lLast k = bl_i (li_l (g k)) := l6
  have hv : vp_in (nI k) 48 := vp_in_nI (by omega) (by decide)
  have hb := hnum k hk
  refine ⟨hv, ?_⟩
  unfold pg_mn at h
  rw [nI_clamp (n := k) (by omega), l3']
  refine pk_lt 0 (li_n (g k)) (fun y => ?_) (fun y => ⟨hv, bl_br l6' (fun y1 => ?_) (fun y1 => ?_)⟩)
  · rw [decide_eq_true y] at h; exact h
  · rw [decide_eq_false (by omega), y1] at h; exact h
  · rw [decide_eq_false (by omega), y1] at h; exact h
theorem yw_p118 {post : SY → Prop} {J : _} {s t p : Nat} (hst : s + t ≤ 48) {f : Nat → Nat} (h : ∀ pg', (∀ k, k < s + t → pg' k = nI (if s ≤ k ∧ k < s + t then p else f k)) → J (nI (p + 1)) (nI (s + t)) b_text b_wide b_joined b_kerns b_patA b_patB b_patC b_patDigits b_glyphs b_glyphOf b_bEnd b_bNext b_bHyphen b_least b_before b_way b_lFrom b_lTo b_lNumber b_lParagraph pg' b_lHyphen b_lLast b_best) :
    ∀ d n k pg', d < n → k + d = s + t → s ≤ k → (∀ j, j < k → pg' j = nI (if s ≤ j ∧ j < s + t then p else f j)) → wY_pages_118 post J (nI p) (nI s) (nI t) h_length h_ligatures h_patterns h_firstWide h_restWide h_firstLines h_spaceWide h_stretch h_shrink h_tolerance h_cost h_height h_ready h_glyphCount h_breaks h_natural h_spaces h_lineCount h_paragraphs n (nI k) b_text b_wide b_joined b_kerns b_patA b_patB b_patC b_patDigits b_glyphs b_glyphOf b_bEnd b_bNext b_bHyphen b_least b_before b_way b_lFrom b_lTo b_lNumber b_lParagraph pg' b_lHyphen b_lLast b_best := by
  intro d
  induction d with
  | zero =>
    intro n k pg' hn hk hsk hpg
    obtain ⟨n, rfl⟩ : ∃ n', n = n' + 1 := ⟨n - 1, by omega⟩
    have : k = s + t := by omega
    subst this
    refine br_t (by rw [nI_add]; exact nI_le (Nat.le_refl _) (by omega)) (nm_r (nI_add s t) (nm_r (nI_1 p) (h pg' hpg)))
  | succ d ih =>
    intro n k pg' hn hk hsk hpg
    obtain ⟨n, rfl⟩ : ∃ n', n = n' + 1 := ⟨n - 1, by omega⟩
    refine br_f (by rw [nI_add]; exact nI_ge (by omega) (by omega)) ⟨vp_in_nI (by omega) (by decide), nm_r (e' := upd pg' k (nI p)) (by rw [nI_clamp (by omega)]) (nm_r (nI_1 k) (ih n (k + 1) _ (by omega) (by omega) (by omega) (fun j hj => ?_)))⟩
    by_cases ej : j = k
    · rw [ej, pk_us, if_pos (by omega)]
    · rw [pk_un ej]; exact hpg j (by omega)
theorem yw_p42 {post : SY → Prop} {J : _} {n s p : Nat} {x4 : Int32} {g : Nat → li_T} (hn : n ≤ 48) (L : ey_L (n, g) h_lineCount b_lFrom b_lTo b_lNumber b_lParagraph b_lHyphen b_lLast) (hnum : ∀ k, k < n → li_n (g k) < 2 ^ 31) (h : ∀ x3 : Int32, x3 = nI (pg_t n g s (min (gv_ht e) (n - s))) → wY_pages_108 post J (nI p) (nI s) x3 x4 h_length h_ligatures h_patterns h_firstWide h_restWide h_firstLines h_spaceWide h_stretch h_shrink h_tolerance h_cost h_height h_ready h_glyphCount h_breaks h_natural h_spaces h_lineCount h_paragraphs b_text b_wide b_joined b_kerns b_patA b_patB b_patC b_patDigits b_glyphs b_glyphOf b_bEnd b_bNext b_bHyphen b_least b_before b_way b_lFrom b_lTo b_lNumber b_lParagraph b_lPage b_lHyphen b_lLast b_best) :
    ∀ t m, t < m → s + t ≤ n → pg_t n g s (min (gv_ht e) (n - s)) = pg_t n g s t → wY_pages_42 post J (nI p) (nI s) x4 h_length h_ligatures h_patterns h_firstWide h_restWide h_firstLines h_spaceWide h_stretch h_shrink h_tolerance h_cost h_height h_ready h_glyphCount h_breaks h_natural h_spaces h_lineCount h_paragraphs b_text b_wide b_joined b_kerns b_patA b_patB b_patC b_patDigits b_glyphs b_glyphOf b_bEnd b_bNext b_bHyphen b_least b_before b_way b_lFrom b_lTo b_lNumber b_lParagraph b_lPage b_lHyphen b_lLast b_best m (nI t) := by
  obtain ⟨L1, L2⟩ := id L
  have L1' : h_lineCount = nI n := L1
  intro t
  induction t with
  | zero =>
    intro m hm hst he
    obtain ⟨m, rfl⟩ : ∃ m', m = m' + 1 := ⟨m - 1, by omega⟩
    exact br_t (by decide) (h _ (by rw [he]; rfl))
  | succ t ih =>
    intro m hm hst he
    obtain ⟨m, rfl⟩ : ∃ m', m = m' + 1 := ⟨m - 1, by omega⟩
    have e1 : pg_t n g s (t + 1) = if pg_no n g (s + t) = true then pg_t n g s t else t + 1 := rfl
    have e2 : nI s + nI (t + 1) - 1 = nI (s + t) := by rw [nI_add, ← Nat.add_assoc, nI_pred]
    have e3 : nI s + nI (t + 1) = nI (s + t + 1) := by rw [nI_add]; rfl
    have stop : pg_no n g (s + t) = false → wY_pages_108 post J (nI p) (nI s) (nI (t + 1)) x4 h_length h_ligatures h_patterns h_firstWide h_restWide h_firstLines h_spaceWide h_stretch h_shrink h_tolerance h_cost h_height h_ready h_glyphCount h_breaks h_natural h_spaces h_lineCount h_paragraphs b_text b_wide b_joined b_kerns b_patA b_patB b_patC b_patDigits b_glyphs b_glyphOf b_bEnd b_bNext b_bHyphen b_least b_before b_way b_lFrom b_lTo b_lNumber b_lParagraph b_lPage b_lHyphen b_lLast b_best := by
      intro y
      exact h _ (by rw [he, e1, y]; rfl)
    have go : pg_no n g (s + t) = true → ∀ x3 : Int32, x3 = nI (t + 1) + (-1) → wY_pages_42 post J (nI p) (nI s) x4 h_length h_ligatures h_patterns h_firstWide h_restWide h_firstLines h_spaceWide h_stretch h_shrink h_tolerance h_cost h_height h_ready h_glyphCount h_breaks h_natural h_spaces h_lineCount h_paragraphs b_text b_wide b_joined b_kerns b_patA b_patB b_patC b_patDigits b_glyphs b_glyphOf b_bEnd b_bNext b_bHyphen b_least b_before b_way b_lFrom b_lTo b_lNumber b_lParagraph b_lPage b_lHyphen b_lLast b_best m x3 := by
      intro y
      exact nm_r (pk_m1 t) (ih m (by omega) (by omega) (by rw [he, e1, if_pos y]))
    refine br_f (nI_nle (by omega) (by omega)) (pk_le n (s + t + 1) (fun y => stop ?_) (fun y => ⟨by rw [e3]; exact vp_in_nI (by omega) (by decide), ?_⟩) L1' e3)
    · unfold pg_no; rw [decide_eq_false (by omega)]; rfl
    · obtain ⟨l1, l2, l3, l4, l5, l6⟩ := L2 (s + t) (show s + t < n by omega)
      obtain ⟨r1, r2, r3, r4, r5, r6⟩ := L2 (s + t + 1) (show s + t + 1 < n by omega)
      have l3' : b_lNumber (s + t) = nI (li_n (g (s + t))) := l3
      have r6' : b_lLast (s + t + 1) = bl_i (li_l (g (s + t + 1))) := r6
      have hb := hnum (s + t) (by omega)
      have hno : pg_no n g (s + t) = ((li_l (g (s + t + 1)) && pg_mn (g (s + t + 1))) || (decide (li_n (g (s + t)) = 0) && pg_mn (g (s + t)))) := by
        unfold pg_no; rw [decide_eq_true (by omega)]; rfl
      have k77 : (li_l (g (s + t + 1)) && pg_mn (g (s + t + 1))) = false → wY_pages_77 post J (wY_pages_42 post J (nI p) (nI s) x4 h_length h_ligatures h_patterns h_firstWide h_restWide h_firstLines h_spaceWide h_stretch h_shrink h_tolerance h_cost h_height h_ready h_glyphCount h_breaks h_natural h_spaces h_lineCount h_paragraphs b_text b_wide b_joined b_kerns b_patA b_patB b_patC b_patDigits b_glyphs b_glyphOf b_bEnd b_bNext b_bHyphen b_least b_before b_way b_lFrom b_lTo b_lNumber b_lParagraph b_lPage b_lHyphen b_lLast b_best m) (nI p) (nI s) (nI (t + 1)) x4 h_length h_ligatures h_patterns h_firstWide h_restWide h_firstLines h_spaceWide h_stretch h_shrink h_tolerance h_cost h_height h_ready h_glyphCount h_breaks h_natural h_spaces h_lineCount h_paragraphs b_text b_wide b_joined b_kerns b_patA b_patB b_patC b_patDigits b_glyphs b_glyphOf b_bEnd b_bNext b_bHyphen b_least b_before b_way b_lFrom b_lTo b_lNumber b_lParagraph b_lPage b_lHyphen b_lLast b_best := by
        intro hf
        rw [hf, Bool.false_or] at hno
        unfold wY_pages_77
        rw [e2]
        refine ⟨vp_in_nI (by omega) (by decide), ?_⟩
        rw [nI_clamp (n := s + t) (by omega), l3']
        refine pk_eq (li_n (g (s + t))) 0 (fun y1 => ?_) (fun y1 => stop ?_)
        · rw [decide_eq_true y1, Bool.true_and] at hno
          refine yw_many hn L hnum (by omega) (bl_br rfl (fun y2 => stop (by rw [hno]; exact y2)) (fun y2 => go (by rw [hno]; exact y2)))
        · rw [hno, decide_eq_false y1]; rfl
      rw [e3, nI_clamp (n := s + t + 1) (by omega)]
      refine bl_br r6' (fun y1 => k77 (by rw [y1]; rfl)) (fun y1 => yw_many hn L hnum (by omega) (bl_br rfl (fun y2 => k77 (by rw [y2, Bool.and_false])) (fun y2 => go (by rw [hno, y1, y2]; rfl))))
theorem yw_p4 {post : SY → Prop} {n : Nat} {g : Nat → li_T} (hn : n ≤ 48) (L : ey_L (n, g) h_lineCount b_lFrom b_lTo b_lNumber b_lParagraph b_lHyphen b_lLast) (hnum : ∀ k, k < n → li_n (g k) < 2 ^ 31) (hht : h_height = nI (gv_ht e)) (hh : 1 ≤ gv_ht e) (hh2 : gv_ht e ≤ 12) :
    ∀ m d s p (f : Nat → Nat) pg', m < d → n ≤ s + m → s ≤ n → (∀ k, k < s → pg' k = nI (f k)) → (∀ pg', (∀ k, k < n → pg' k = nI (pg_F n g (gv_ht e) m s p f k)) → post (h_length, h_ligatures, h_patterns, h_firstWide, h_restWide, h_firstLines, h_spaceWide, h_stretch, h_shrink, h_tolerance, h_cost, h_height, h_ready, h_glyphCount, h_breaks, h_natural, h_spaces, h_lineCount, h_paragraphs, b_text, b_wide, b_joined, b_kerns, b_patA, b_patB, b_patC, b_patDigits, b_glyphs, b_glyphOf, b_bEnd, b_bNext, b_bHyphen, b_least, b_before, b_way, b_lFrom, b_lTo, b_lNumber, b_lParagraph, pg', b_lHyphen, b_lLast, b_best)) → wY_pages_4 post h_length h_ligatures h_patterns h_firstWide h_restWide h_firstLines h_spaceWide h_stretch h_shrink h_tolerance h_cost h_height h_ready h_glyphCount h_breaks h_natural h_spaces h_lineCount h_paragraphs d (nI p) (nI s) b_text b_wide b_joined b_kerns b_patA b_patB b_patC b_patDigits b_glyphs b_glyphOf b_bEnd b_bNext b_bHyphen b_least b_before b_way b_lFrom b_lTo b_lNumber b_lParagraph pg' b_lHyphen b_lLast b_best := by
  have L1' : h_lineCount = nI n := L.1
  intro m
  induction m with
  | zero =>
    intro d s p f pg' hd hs hsn hpg h
    obtain ⟨d, rfl⟩ : ∃ d', d = d' + 1 := ⟨d - 1, by omega⟩
    exact br_t (by rw [L1']; exact nI_le (by omega) (by omega)) (h pg' (fun k hk => hpg k (by omega)))
  | succ m ih =>
    intro d s p f pg' hd hs hsn hpg h
    obtain ⟨d, rfl⟩ : ∃ d', d = d' + 1 := ⟨d - 1, by omega⟩
    by_cases hns : n ≤ s
    · have e1 : pg_F n g (gv_ht e) (m + 1) s p f = f := by
        show (if n ≤ s then f else _) = f
        rw [if_pos hns]
      rw [e1] at h
      exact br_t (by rw [L1']; exact nI_le hns (by omega)) (h pg' (fun k hk => hpg k (by omega)))
    · have e1 : pg_F n g (gv_ht e) (m + 1) s p f = pg_F n g (gv_ht e) m (s + pg_n n g (gv_ht e) s) (p + 1) (fun k => if s ≤ k ∧ k < s + pg_n n g (gv_ht e) s then p else f k) := by
        show (if n ≤ s then f else _) = _
        rw [if_neg hns]
      rw [e1] at h
      have hb := pg_n_b (n := n) (g := g) hh (s := s) (by omega)
      have hpt := pg_t_b n g s (min (gv_ht e) (n - s))
      have k118 : ∃ n118 : Nat, wY_pages_118 post (wY_pages_4 post h_length h_ligatures h_patterns h_firstWide h_restWide h_firstLines h_spaceWide h_stretch h_shrink h_tolerance h_cost h_height h_ready h_glyphCount h_breaks h_natural h_spaces h_lineCount h_paragraphs d) (nI p) (nI s) (nI (pg_n n g (gv_ht e) s)) h_length h_ligatures h_patterns h_firstWide h_restWide h_firstLines h_spaceWide h_stretch h_shrink h_tolerance h_cost h_height h_ready h_glyphCount h_breaks h_natural h_spaces h_lineCount h_paragraphs n118 (nI s) b_text b_wide b_joined b_kerns b_patA b_patB b_patC b_patDigits b_glyphs b_glyphOf b_bEnd b_bNext b_bHyphen b_least b_before b_way b_lFrom b_lTo b_lNumber b_lParagraph pg' b_lHyphen b_lLast b_best := by
        refine ⟨pg_n n g (gv_ht e) s + 1, yw_p118 (f := f) (by omega) (fun pg2 h2 => ?_) (pg_n n g (gv_ht e) s) _ s pg' (by omega) (by omega) (Nat.le_refl _) (fun j hj => ?_)⟩
        · exact ih d (s + pg_n n g (gv_ht e) s) (p + 1) _ pg2 (by omega) (by omega) hb.2 h2 h
        · rw [if_neg (by omega)]; exact hpg j hj
      have k108 : ∀ x3 x4 : Int32, x4 = nI (min (gv_ht e) (n - s)) → x3 = nI (pg_t n g s (min (gv_ht e) (n - s))) → wY_pages_108 post (wY_pages_4 post h_length h_ligatures h_patterns h_firstWide h_restWide h_firstLines h_spaceWide h_stretch h_shrink h_tolerance h_cost h_height h_ready h_glyphCount h_breaks h_natural h_spaces h_lineCount h_paragraphs d) (nI p) (nI s) x3 x4 h_length h_ligatures h_patterns h_firstWide h_restWide h_firstLines h_spaceWide h_stretch h_shrink h_tolerance h_cost h_height h_ready h_glyphCount h_breaks h_natural h_spaces h_lineCount h_paragraphs b_text b_wide b_joined b_kerns b_patA b_patB b_patC b_patDigits b_glyphs b_glyphOf b_bEnd b_bNext b_bHyphen b_least b_before b_way b_lFrom b_lTo b_lNumber b_lParagraph pg' b_lHyphen b_lLast b_best := by
        intro x3 x4 hx4 hx3
        refine pk_eq (pg_t n g s (min (gv_ht e) (n - s))) 0 (fun y => ?_) (fun y => ?_) hx3 rfl (by omega)
        · have e2 : pg_n n g (gv_ht e) s = min (gv_ht e) (n - s) := by
            unfold pg_n
            rw [if_pos y]
          rw [e2, ← hx4] at k118
          exact k118
        · have e2 : pg_n n g (gv_ht e) s = pg_t n g s (min (gv_ht e) (n - s)) := by
            unfold pg_n
            rw [if_neg y]
          rw [e2, ← hx3] at k118
          exact k118
      have e3 : h_lineCount - nI s = nI (n - s) := by rw [L1', pk_sub (by omega)]
      refine br_f (by rw [L1']; exact nI_ge (by omega) (by omega)) (pk_le (gv_ht e) (n - s) (fun y => ⟨gv_ht e + 1, ?_⟩) (fun y => nm_r e3 ⟨n - s + 1, ?_⟩) hht e3)
      · have := yw_p42 (b_lPage := pg') (x4 := h_height) hn L hnum (fun x3 hx3 => k108 x3 h_height (by rw [hht, Nat.min_eq_left y]) hx3) (gv_ht e) (gv_ht e + 1) (by omega) (by omega) (by rw [Nat.min_eq_left y])
        exact @ek_v _ (fun x => wY_pages_42 post (wY_pages_4 post h_length h_ligatures h_patterns h_firstWide h_restWide h_firstLines h_spaceWide h_stretch h_shrink h_tolerance h_cost h_height h_ready h_glyphCount h_breaks h_natural h_spaces h_lineCount h_paragraphs d) (nI p) (nI s) h_height h_length h_ligatures h_patterns h_firstWide h_restWide h_firstLines h_spaceWide h_stretch h_shrink h_tolerance h_cost h_height h_ready h_glyphCount h_breaks h_natural h_spaces h_lineCount h_paragraphs b_text b_wide b_joined b_kerns b_patA b_patB b_patC b_patDigits b_glyphs b_glyphOf b_bEnd b_bNext b_bHyphen b_least b_before b_way b_lFrom b_lTo b_lNumber b_lParagraph pg' b_lHyphen b_lLast b_best (gv_ht e + 1) x) _ _ hht this
      · exact yw_p42 (b_lPage := pg') (x4 := nI (n - s)) hn L hnum (fun x3 hx3 => k108 x3 _ (by rw [Nat.min_eq_right (by omega)]) hx3) (n - s) _ (by omega) (by omega) (by rw [Nat.min_eq_right (by omega)])
theorem yw_pages {post : SY → Prop} {n : Nat} {g : Nat → li_T} (hn : n ≤ 48) (L : ey_L (n, g) h_lineCount b_lFrom b_lTo b_lNumber b_lParagraph b_lHyphen b_lLast) (hnum : ∀ k, k < n → li_n (g k) < 2 ^ 31) (hht : h_height = nI (gv_ht e)) (hh : 1 ≤ gv_ht e) (hh2 : gv_ht e ≤ 12)
    (h : ∀ pg', (∀ k, k < n → pg' k = nI (pg_F n g (gv_ht e) n 0 0 (fun _ => 0) k)) → post (h_length, h_ligatures, h_patterns, h_firstWide, h_restWide, h_firstLines, h_spaceWide, h_stretch, h_shrink, h_tolerance, h_cost, h_height, h_ready, h_glyphCount, h_breaks, h_natural, h_spaces, h_lineCount, h_paragraphs, b_text, b_wide, b_joined, b_kerns, b_patA, b_patB, b_patC, b_patDigits, b_glyphs, b_glyphOf, b_bEnd, b_bNext, b_bHyphen, b_least, b_before, b_way, b_lFrom, b_lTo, b_lNumber, b_lParagraph, pg', b_lHyphen, b_lLast, b_best)) : wpY_pages post (h_length, h_ligatures, h_patterns, h_firstWide, h_restWide, h_firstLines, h_spaceWide, h_stretch, h_shrink, h_tolerance, h_cost, h_height, h_ready, h_glyphCount, h_breaks, h_natural, h_spaces, h_lineCount, h_paragraphs, b_text, b_wide, b_joined, b_kerns, b_patA, b_patB, b_patC, b_patDigits, b_glyphs, b_glyphOf, b_bEnd, b_bNext, b_bHyphen, b_least, b_before, b_way, b_lFrom, b_lTo, b_lNumber, b_lParagraph, b_lPage, b_lHyphen, b_lLast, b_best) :=
  ⟨n + 1, yw_p4 hn L hnum hht hh hh2 n _ 0 0 _ b_lPage (by omega) (by omega) (Nat.zero_le _) (fun k hk => by omega) h⟩
end
/-- all that the reference knows of the lines -/
def ey_D (e : gv_T) (h_lineCount h_paragraphs : Int32) (b_lFrom b_lTo b_lNumber b_lParagraph b_lPage b_lHyphen b_lLast : Nat → Int32) (b_best : Nat → Int64) : Prop :=
  ey_L (al_n e, al_g e) h_lineCount b_lFrom b_lTo b_lNumber b_lParagraph b_lHyphen b_lLast ∧ (∀ k, k < al_n e → b_lPage k = nI (al_pg e k)) ∧ h_paragraphs = nI (al_p e) ∧ ∀ p, p < al_p e → b_best p = al_s e p
section
variable {e : gv_T} {h_length h_ligatures h_patterns h_firstWide h_restWide h_firstLines h_spaceWide h_stretch h_shrink h_tolerance h_cost h_height h_ready h_glyphCount h_breaks h_natural h_spaces h_lineCount h_paragraphs : Int32} {b_text b_wide b_joined b_kerns b_patA b_patB b_patC b_patDigits b_glyphs b_glyphOf b_bEnd b_bNext b_bHyphen b_before b_way b_lFrom b_lTo b_lNumber b_lParagraph b_lPage b_lHyphen b_lLast : Nat → Int32} {b_least b_best : Nat → Int64}
theorem yw_s35 {post : SY → Prop} {J : _} {a : Nat} (F : ey_F e h_length b_text b_wide b_joined b_kerns) (h : ∀ z, a ≤ z → z ≤ gv_ln e → (∀ j, a ≤ j → j < z → j < gv_ln e ∧ gv_tx e j ≠ 11) → ¬ (z < gv_ln e ∧ gv_tx e z ≠ 11) → wY_set_60 post J (nI a) (nI z) h_length h_ligatures h_patterns h_firstWide h_restWide h_firstLines h_spaceWide h_stretch h_shrink h_tolerance h_cost h_height h_ready h_glyphCount h_breaks h_natural h_spaces h_lineCount h_paragraphs b_text b_wide b_joined b_kerns b_patA b_patB b_patC b_patDigits b_glyphs b_glyphOf b_bEnd b_bNext b_bHyphen b_least b_before b_way b_lFrom b_lTo b_lNumber b_lParagraph b_lPage b_lHyphen b_lLast b_best) :
    ∀ d n q, d < n → q + d = gv_ln e → a ≤ q → (∀ j, a ≤ j → j < q → j < gv_ln e ∧ gv_tx e j ≠ 11) → wY_set_35 post J (nI a) h_length h_ligatures h_patterns h_firstWide h_restWide h_firstLines h_spaceWide h_stretch h_shrink h_tolerance h_cost h_height h_ready h_glyphCount h_breaks h_natural h_spaces h_lineCount h_paragraphs b_text b_wide b_joined b_kerns b_patA b_patB b_patC b_patDigits b_glyphs b_glyphOf b_bEnd b_bNext b_bHyphen b_least b_before b_way b_lFrom b_lTo b_lNumber b_lParagraph b_lPage b_lHyphen b_lLast b_best n (nI q) := by
  obtain ⟨F1, F2, F3, F4, F5, E⟩ := id F
  have h48 := E.1
  intro d
  induction d with
  | zero =>
    intro n q hn hq ha hj
    obtain ⟨n, rfl⟩ : ∃ n', n = n' + 1 := ⟨n - 1, by omega⟩
    exact br_t (by rw [F1]; exact nI_le (by omega) (by omega)) (h q ha (by omega) hj (fun z => by omega))
  | succ d ih =>
    intro n q hn hq ha hj
    obtain ⟨n, rfl⟩ : ∃ n', n = n' + 1 := ⟨n - 1, by omega⟩
    have hb := E.2.1 q
    refine br_f (by rw [F1]; exact nI_ge (by omega) (by omega)) ⟨vp_in_nI (by omega) (by decide), ?_⟩
    rw [nI_clamp (n := q) (by omega), F2]
    refine pk_eq (gv_tx e q) 11 (fun y => h q ha (by omega) hj (fun z => z.2 y)) (fun y => nm_r (nI_1 q) (ih n (q + 1) (by omega) (by omega) (by omega) (fun j j1 j2 => ?_)))
    by_cases ej : j = q
    · rw [ej]; exact ⟨by omega, y⟩
    · exact hj j j1 (by omega)
theorem al_F_skip (i : Nat) : ∀ d, (∀ j, i ≤ j → j < i + d → j < gv_ln e ∧ gv_tx e j ≠ 11) → al_F e (i + d) = al_F e i
  | 0, _ => rfl
  | d + 1, h => by
    have ih := al_F_skip i d (fun j a b => h j a (by omega))
    show al_F e (i + d + 1) = _
    rw [al_F_c (h (i + d) (by omega) (by omega)), ih]
theorem yw_s25 {post : SY → Prop} (F : ey_F e h_length b_text b_wide b_joined b_kerns) (M : ey_M e h_firstWide h_restWide h_firstLines h_spaceWide h_stretch h_shrink h_tolerance h_cost h_height) (P : ey_P e h_patterns b_patA b_patB b_patC b_patDigits)
    (h : ∀ x1 x2 x3 x4 x5 x6 x7 y1 y2 y3 y4 y5 y6 y7 y8 y9 y10 y11 y12 z1 z2 z3, ey_D e x1 z1 x2 x3 x4 x5 z2 x6 x7 z3 → post (h_length, h_ligatures, h_patterns, h_firstWide, h_restWide, h_firstLines, h_spaceWide, h_stretch, h_shrink, h_tolerance, h_cost, h_height, h_ready, y5, y9, y3, y4, x1, z1, b_text, b_wide, b_joined, b_kerns, b_patA, b_patB, b_patC, b_patDigits, y6, y7, y10, y11, y12, y1, y2, y8, x2, x3, x4, x5, z2, x6, x7, z3)) :
    ∀ d n i x1 x2 x3 x4 x5 x6 x7 y1 y2 y3 y4 y5 y6 y7 y8 y9 y10 y11 y12 z1 z2 z3, d < n → gv_ln e + 1 ≤ i + d → i ≤ gv_ln e + 1 → (al_F e i).1 = i → ey_L (al_F e i).2.2.1 x1 x2 x3 x4 x5 x6 x7 → z1 = nI (al_F e i).2.1 → (∀ p, p < (al_F e i).2.1 → z3 p = (al_F e i).2.2.2 p) → wY_set_25 post n (nI i) h_length h_ligatures h_patterns h_firstWide h_restWide h_firstLines h_spaceWide h_stretch h_shrink h_tolerance h_cost h_height h_ready y5 y9 y3 y4 x1 z1 b_text b_wide b_joined b_kerns b_patA b_patB b_patC b_patDigits y6 y7 y10 y11 y12 y1 y2 y8 x2 x3 x4 x5 z2 x6 x7 z3 := by
  obtain ⟨F1, F2, F3, F4, F5, E⟩ := id F
  have K := M.2.2.2.2.2.2.2.2.2
  have h48 := E.1
  intro d
  induction d with
  | zero =>
    intro n i x1 x2 x3 x4 x5 x6 x7 y1 y2 y3 y4 y5 y6 y7 y8 y9 y10 y11 y12 z1 z2 z3 hn hi hi2 hfr hL hp hs
    obtain ⟨n, rfl⟩ : ∃ n', n = n' + 1 := ⟨n - 1, by omega⟩
    have : i = gv_ln e + 1 := by omega
    subst this
    obtain ⟨a1, a2, a3⟩ := al_end E
    refine br_t (by rw [F1]; exact nI_lt (by omega) (by omega)) ?_
    exact yw_pages (h_lineCount := x1) (b_lFrom := x2) (b_lTo := x3) (b_lNumber := x4) (b_lParagraph := x5) (b_lHyphen := x6) (b_lLast := x7) (g := al_g e) a2 hL (fun k hk => by have := li_num a1 k hk; omega) M.2.2.2.2.2.2.2.2.1 K.2.2.2.2.2.2.2.2.1 K.2.2.2.2.2.2.2.2.2 (fun pg' hpg => h x1 x2 x3 x4 x5 x6 x7 y1 y2 y3 y4 y5 y6 y7 y8 y9 y10 y11 y12 z1 pg' z3 ⟨hL, hpg, hp, hs⟩)
  | succ d ih =>
    intro n i x1 x2 x3 x4 x5 x6 x7 y1 y2 y3 y4 y5 y6 y7 y8 y9 y10 y11 y12 z1 z2 z3 hn hi hi2 hfr hL hp hs
    obtain ⟨n, rfl⟩ : ∃ n', n = n' + 1 := ⟨n - 1, by omega⟩
    by_cases hie : i = gv_ln e + 1
    · subst hie
      obtain ⟨a1, a2, a3⟩ := al_end E
      refine br_t (by rw [F1]; exact nI_lt (by omega) (by omega)) ?_
      exact yw_pages (h_lineCount := x1) (b_lFrom := x2) (b_lTo := x3) (b_lNumber := x4) (b_lParagraph := x5) (b_lHyphen := x6) (b_lLast := x7) (g := al_g e) a2 hL (fun k hk => by have := li_num a1 k hk; omega) M.2.2.2.2.2.2.2.2.1 K.2.2.2.2.2.2.2.2.1 K.2.2.2.2.2.2.2.2.2 (fun pg' hpg => h x1 x2 x3 x4 x5 x6 x7 y1 y2 y3 y4 y5 y6 y7 y8 y9 y10 y11 y12 z1 pg' z3 ⟨hL, hpg, hp, hs⟩)
    · refine br_f (by rw [F1]; exact nI_nlt (by omega) (by omega)) ⟨gv_ln e + 1, ?_⟩
      refine yw_s35 F (fun z w1 w2 w3 w4 => ?_) (gv_ln e - i) _ i (by omega) (by omega) (Nat.le_refl _) (fun j j1 j2 => by omega)
      have hsk := al_F_skip (e := e) i (z - i) (fun j j1 j2 => w3 j j1 (by omega))
      rw [show i + (z - i) = z from by omega] at hsk
      obtain ⟨i1, i2, i3, i4, i5, i6⟩ := al_inv E z (by omega)
      rw [hsk, hfr] at i1 i2 i3
      rw [hsk, hfr] at i5 i6
      have hL2 : ¬ gv_isL e z := by
        rintro ⟨l1, l2⟩
        exact w4 ⟨l1, by omega⟩
      have Z : pd_ok e i z := ⟨w1, w2, fun j h1 h2 => (w3 j h1 h2).2, hL2, i3⟩
      have hnb := pr_nb_b (e := e) (a := i) (z := z)
      have efr : (al_F e z).1 = i := by rw [hsk, hfr]
      unfold wY_set_60
      refine yw_paragraph (s := (al_F e i).2.2.1) (np := (al_F e i).2.1) F M P Z hL (by omega) hp (fun y => by omega) (fun y => nm_r (nI_1 z) ?_) (fun u1 u2 u3 u4 u5 u6 u7 v1 v2 v3 v4 v5 v6 v7 v8 v9 v10 v11 v12 y hL' => nm_r (nI_1 z) ?_)
      · have e1 := al_F_0 w4 (show pr_nb e (al_F e z).1 z = 0 by rw [efr]; exact y)
        refine ih n (z + 1) x1 x2 x3 x4 x5 x6 x7 y1 y2 y3 y4 y5 y6 y7 y8 y9 y10 y11 y12 z1 z2 z3 (by omega) (by omega) (by omega) (by rw [e1]) ?_ ?_ ?_
        · rw [e1, hsk]; exact hL
        · rw [e1, hsk]; exact hp
        · rw [e1, hsk]; exact hs
      · have e1 := al_F_1 w4 (show ¬ pr_nb e (al_F e z).1 z = 0 by rw [efr]; omega)
        rw [efr, hsk] at e1
        refine ih n (z + 1) u1 u2 u3 u4 u5 u6 u7 v1 v2 v3 v4 v5 v6 v7 v8 v9 v10 v11 v12 (nI ((al_F e i).2.1 + 1)) z2 (vp_updL z3 (al_F e i).2.1 (pr_sm e i z)) (by omega) (by omega) (by omega) (by rw [e1]) (by rw [e1]; exact hL') (by rw [e1]) ?_
        rw [e1]
        intro p hp'
        have hp'' : p < (al_F e i).2.1 + 1 := hp'
        show _ = vp_updL (al_F e i).2.2.2 (al_F e i).2.1 (pr_sm e i z) p
        by_cases ep : p = (al_F e i).2.1
        · rw [ep, pk_uLs, pk_uLs]
        · rw [pk_uLn ep, pk_uLn ep]; exact hs p (by omega)
theorem yw_set {post : SY → Prop} {rd : Bool} (F : ey_F e h_length b_text b_wide b_joined b_kerns) (M : ey_M e h_firstWide h_restWide h_firstLines h_spaceWide h_stretch h_shrink h_tolerance h_cost h_height) (P : ey_P e h_patterns b_patA b_patB b_patC b_patDigits) (hk : h_ready = bl_i rd) (hD : rd = true → ey_D e h_lineCount h_paragraphs b_lFrom b_lTo b_lNumber b_lParagraph b_lPage b_lHyphen b_lLast b_best)
    (h : ∀ x1 x2 x3 x4 x5 x6 x7 y1 y2 y3 y4 y5 y6 y7 y8 y9 y10 y11 y12 z1 z2 z3, ey_D e x1 z1 x2 x3 x4 x5 z2 x6 x7 z3 → post (h_length, h_ligatures, h_patterns, h_firstWide, h_restWide, h_firstLines, h_spaceWide, h_stretch, h_shrink, h_tolerance, h_cost, h_height, bl_i true, y5, y9, y3, y4, x1, z1, b_text, b_wide, b_joined, b_kerns, b_patA, b_patB, b_patC, b_patDigits, y6, y7, y10, y11, y12, y1, y2, y8, x2, x3, x4, x5, z2, x6, x7, z3)) : wpY_set post (h_length, h_ligatures, h_patterns, h_firstWide, h_restWide, h_firstLines, h_spaceWide, h_stretch, h_shrink, h_tolerance, h_cost, h_height, h_ready, h_glyphCount, h_breaks, h_natural, h_spaces, h_lineCount, h_paragraphs, b_text, b_wide, b_joined, b_kerns, b_patA, b_patB, b_patC, b_patDigits, b_glyphs, b_glyphOf, b_bEnd, b_bNext, b_bHyphen, b_least, b_before, b_way, b_lFrom, b_lTo, b_lNumber, b_lParagraph, b_lPage, b_lHyphen, b_lLast, b_best) := by
  refine bl_br hk (fun y => ⟨gv_ln e + 2, ?_⟩) (fun y => ?_)
  · exact yw_s25 (h_ready := 1) F M P h (gv_ln e + 1) _ 0 0 b_lFrom b_lTo b_lNumber b_lParagraph b_lHyphen b_lLast b_least b_before h_natural h_spaces h_glyphCount b_glyphs b_glyphOf b_way h_breaks b_bEnd b_bNext b_bHyphen 0 b_lPage b_best (by omega) (by omega) (by omega) rfl ⟨rfl, fun i hi => by have : i < 0 := hi; omega⟩ rfl (fun p hp => by have : p < 0 := hp; omega)
  · subst hk
    subst y
    exact h _ _ _ _ _ _ _ _ _ _ _ _ _ _ _ _ _ _ _ _ _ _ (hD rfl)
end
end
section
/-! the reference: the line of a letter, its glyph, its place -/
section
variable {e : gv_T} {h_length h_ligatures h_patterns h_firstWide h_restWide h_firstLines h_spaceWide h_stretch h_shrink h_tolerance h_cost h_height h_ready h_glyphCount h_breaks h_natural h_spaces h_lineCount h_paragraphs : Int32} {b_text b_wide b_joined b_kerns b_patA b_patB b_patC b_patDigits b_glyphs b_glyphOf b_bEnd b_bNext b_bHyphen b_before b_way b_lFrom b_lTo b_lNumber b_lParagraph b_lPage b_lHyphen b_lLast : Nat → Int32} {b_least b_best : Nat → Int64}
theorem yw_lineOf {post : Int32 → Prop} {n np pos i k0 : Nat} {g : Nat → li_T} (H : li_cl e n g np pos) (hn : n ≤ 48) (h48 : gv_ln e ≤ 48) (hi : i < 48) (L : ey_L (n, g) h_lineCount b_lFrom b_lTo b_lNumber b_lParagraph b_lHyphen b_lLast) (hk0 : k0 < n) (h1 : li_f (g k0) ≤ i) (h2 : i < li_t (g k0)) (h : post (nI k0)) : wpY_lineOf post (h_length, h_ligatures, h_patterns, h_firstWide, h_restWide, h_firstLines, h_spaceWide, h_stretch, h_shrink, h_tolerance, h_cost, h_height, h_ready, h_glyphCount, h_breaks, h_natural, h_spaces, h_lineCount, h_paragraphs, b_text, b_wide, b_joined, b_kerns, b_patA, b_patB, b_patC, b_patDigits, b_glyphs, b_glyphOf, b_bEnd, b_bNext, b_bHyphen, b_least, b_before, b_way, b_lFrom, b_lTo, b_lNumber, b_lParagraph, b_lPage, b_lHyphen, b_lLast, b_best) (nI i) := by
  obtain ⟨L1, L2⟩ := id L
  have L1' : h_lineCount = nI n := L1
  have loop : ∀ d m k, d < m → k + d = k0 → wY_lineOf_2 post (nI i) h_length h_ligatures h_patterns h_firstWide h_restWide h_firstLines h_spaceWide h_stretch h_shrink h_tolerance h_cost h_height h_ready h_glyphCount h_breaks h_natural h_spaces h_lineCount h_paragraphs b_text b_wide b_joined b_kerns b_patA b_patB b_patC b_patDigits b_glyphs b_glyphOf b_bEnd b_bNext b_bHyphen b_least b_before b_way b_lFrom b_lTo b_lNumber b_lParagraph b_lPage b_lHyphen b_lLast b_best m (nI k) := by
    intro d
    induction d with
    | zero =>
      intro m k hm hk
      obtain ⟨m, rfl⟩ : ∃ m', m = m' + 1 := ⟨m - 1, by omega⟩
      have : k = k0 := by omega
      subst this
      have hlf : b_lFrom k = nI (li_f (g k)) := (L2 k hk0).1
      have hlt : b_lTo k = nI (li_t (g k)) := (L2 k hk0).2.1
      have hb := (H.1 k hk0).1.2.1
      refine br_f (by rw [L1']; exact nI_ge (by omega) (by omega)) ⟨vp_in_nI (by omega) (by decide), ?_⟩
      rw [nI_clamp (n := k) (by omega), hlf, hlt]
      exact br_f (nI_nlt h1 (by omega)) ⟨vp_in_nI (by omega) (by decide), br_f (nI_ge h2 (by omega)) h⟩
    | succ d ih =>
      intro m k hm hk
      obtain ⟨m, rfl⟩ : ∃ m', m = m' + 1 := ⟨m - 1, by omega⟩
      have hlf : b_lFrom k = nI (li_f (g k)) := (L2 k (show k < n by omega)).1
      have hlt : b_lTo k = nI (li_t (g k)) := (L2 k (show k < n by omega)).2.1
      have hb := (H.1 k (by omega)).1.1
      have hmono := li_mono H d k (by omega)
      rw [show k + 1 + d = k0 from by omega] at hmono
      refine br_f (by rw [L1']; exact nI_ge (by omega) (by omega)) ⟨vp_in_nI (by omega) (by decide), ?_⟩
      rw [nI_clamp (n := k) (by omega), hlf, hlt]
      exact br_f (nI_nlt (by omega) (by omega)) ⟨vp_in_nI (by omega) (by decide), br_t (nI_le (by omega) (by omega)) (nm_r (nI_1 k) (ih m (k + 1) (by omega) (by omega)))⟩
  exact ⟨k0 + 1, loop k0 _ 0 (by omega) (by omega)⟩
theorem yw_difference {post : Int32 → SY → Prop} {n np pos k : Nat} {g : Nat → li_T} (F : ey_F e h_length b_text b_wide b_joined b_kerns) (M : ey_M e h_firstWide h_restWide h_firstLines h_spaceWide h_stretch h_shrink h_tolerance h_cost h_height) (H : li_cl e n g np pos) (hn : n ≤ 48) (L : ey_L (n, g) h_lineCount b_lFrom b_lTo b_lNumber b_lParagraph b_lHyphen b_lLast) (hk : k < n)
    (h : ∀ gc gs go, post (nI (bq_tg e (li_n (g k))) - nI (li_w (g k))) (h_length, h_ligatures, h_patterns, h_firstWide, h_restWide, h_firstLines, h_spaceWide, h_stretch, h_shrink, h_tolerance, h_cost, h_height, h_ready, gc, h_breaks, nI (li_w (g k)), nI (sh_ns e (li_f (g k)) (li_t (g k))), h_lineCount, h_paragraphs, b_text, b_wide, b_joined, b_kerns, b_patA, b_patB, b_patC, b_patDigits, gs, go, b_bEnd, b_bNext, b_bHyphen, b_least, b_before, b_way, b_lFrom, b_lTo, b_lNumber, b_lParagraph, b_lPage, b_lHyphen, b_lLast, b_best)) : wpY_difference post (h_length, h_ligatures, h_patterns, h_firstWide, h_restWide, h_firstLines, h_spaceWide, h_stretch, h_shrink, h_tolerance, h_cost, h_height, h_ready, h_glyphCount, h_breaks, h_natural, h_spaces, h_lineCount, h_paragraphs, b_text, b_wide, b_joined, b_kerns, b_patA, b_patB, b_patC, b_patDigits, b_glyphs, b_glyphOf, b_bEnd, b_bNext, b_bHyphen, b_least, b_before, b_way, b_lFrom, b_lTo, b_lNumber, b_lParagraph, b_lPage, b_lHyphen, b_lLast, b_best) (nI k) := by
  obtain ⟨L1, L2⟩ := id L
  obtain ⟨l1, l2, l3, l4, l5, l6⟩ := L2 k hk
  have l1' : b_lFrom k = nI (li_f (g k)) := l1
  have l2' : b_lTo k = nI (li_t (g k)) := l2
  have l3' : b_lNumber k = nI (li_n (g k)) := l3
  have l5' : b_lHyphen k = bl_i (li_h (g k)) := l5
  obtain ⟨o1, o2, o3, o4, o5, o6, o7⟩ := (H.1 k hk).1
  have hln := li_num H k hk
  have hv : vp_in (nI k) 48 := vp_in_nI (by omega) (by decide)
  refine ⟨hv, hv, hv, ?_⟩
  rw [nI_clamp (n := k) (by omega), l1', l2', l5']
  refine yw_walk F M.2.2.2.1 M.2.2.2.2.2.2.2.2.2.2.2.2.1 rfl o1 o2 o3 o4 o5 (fun gc gs go => ⟨hv, ?_⟩)
  rw [← o6, l3']
  exact yw_tg M (by omega) (h gc gs go)
theorem yw_shapeAt {post : Int32 → SY → Prop} {n np pos k i w t : Nat} {g : Nat → li_T} (F : ey_F e h_length b_text b_wide b_joined b_kerns) (H : li_cl e n g np pos) (hn : n ≤ 48) (L : ey_L (n, g) h_lineCount b_lFrom b_lTo b_lNumber b_lParagraph b_lHyphen b_lLast) (hk : k < n) (W : wp_ok e (li_f (g k)) (li_t (g k)) i w t)
    (h : ∀ gs go, sh_ar (sh_gl e w (t - w)) gs → (∀ j, w ≤ j → j < t → go j = nI ((sh_gl e w (j + 1 - w)).length - 1)) → post (nI w) (h_length, h_ligatures, h_patterns, h_firstWide, h_restWide, h_firstLines, h_spaceWide, h_stretch, h_shrink, h_tolerance, h_cost, h_height, h_ready, nI (sh_gl e w (t - w)).length, h_breaks, h_natural, h_spaces, h_lineCount, h_paragraphs, b_text, b_wide, b_joined, b_kerns, b_patA, b_patB, b_patC, b_patDigits, gs, go, b_bEnd, b_bNext, b_bHyphen, b_least, b_before, b_way, b_lFrom, b_lTo, b_lNumber, b_lParagraph, b_lPage, b_lHyphen, b_lLast, b_best)) : wpY_shapeAt post (h_length, h_ligatures, h_patterns, h_firstWide, h_restWide, h_firstLines, h_spaceWide, h_stretch, h_shrink, h_tolerance, h_cost, h_height, h_ready, h_glyphCount, h_breaks, h_natural, h_spaces, h_lineCount, h_paragraphs, b_text, b_wide, b_joined, b_kerns, b_patA, b_patB, b_patC, b_patDigits, b_glyphs, b_glyphOf, b_bEnd, b_bNext, b_bHyphen, b_least, b_before, b_way, b_lFrom, b_lTo, b_lNumber, b_lParagraph, b_lPage, b_lHyphen, b_lLast, b_best) (nI k) (nI i) := by
  obtain ⟨L1, L2⟩ := id L
  have E := F.2.2.2.2.2
  have h48 := E.1
  obtain ⟨l1, l2, l3, l4, l5, l6⟩ := L2 k hk
  have l1' : b_lFrom k = nI (li_f (g k)) := l1
  have l2' : b_lTo k = nI (li_t (g k)) := l2
  obtain ⟨o1, o2, o3, o4, o5, o6, o7⟩ := (H.1 k hk).1
  obtain ⟨w1, w2, w3, w4, w5, w6, w7⟩ := id W
  have hv : vp_in (nI k) 48 := vp_in_nI (by omega) (by decide)
  have hLl : ∀ j, w ≤ j → j < t → gv_isL e j := fun j j1 j2 => ⟨by omega, w5 j j1 j2⟩
  unfold wpY_shapeAt
  refine yw_wordStart F (by omega) (fun s s1 s2 s3 => ⟨hv, ?_⟩)
  have k23 : wY_shapeAt_23 post (nI k) (nI i) (nI w) h_length h_ligatures h_patterns h_firstWide h_restWide h_firstLines h_spaceWide h_stretch h_shrink h_tolerance h_cost h_height h_ready h_glyphCount h_breaks h_natural h_spaces h_lineCount h_paragraphs b_text b_wide b_joined b_kerns b_patA b_patB b_patC b_patDigits b_glyphs b_glyphOf b_bEnd b_bNext b_bHyphen b_least b_before b_way b_lFrom b_lTo b_lNumber b_lParagraph b_lPage b_lHyphen b_lLast b_best := by
    unfold wY_shapeAt_23
    refine yw_wordEnd F (by omega) (fun r r1 r2 r3 r4 => ⟨hv, ?_⟩)
    have k49 : wY_shapeAt_49 post (nI w) (nI t) h_length h_ligatures h_patterns h_firstWide h_restWide h_firstLines h_spaceWide h_stretch h_shrink h_tolerance h_cost h_height h_ready h_glyphCount h_breaks h_natural h_spaces h_lineCount h_paragraphs b_text b_wide b_joined b_kerns b_patA b_patB b_patC b_patDigits b_glyphs b_glyphOf b_bEnd b_bNext b_bHyphen b_least b_before b_way b_lFrom b_lTo b_lNumber b_lParagraph b_lPage b_lHyphen b_lLast b_best := by
      unfold wY_shapeAt_49
      exact yw_shape F (by omega) (by omega) hLl (fun gs go g1 g2 => h gs go g1 g2)
    have hir : i < r := by
      rcases Nat.lt_or_ge i r with y | y
      · exact y
      · exact absurd (hLl i w2 w3) (by rw [show i = r from by omega]; exact r4)
    rw [nI_clamp (n := k) (by omega), l2']
    refine pk_le r (li_t (g k)) (fun y => ?_) (fun y => ⟨hv, nm_r (e' := nI t) ?_ k49⟩)
    · have : r = t := by
        rcases Nat.lt_trichotomy r t with z | z | z
        · exact absurd (hLl r (by omega) z) r4
        · exact z
        · rcases w7 with w7 | w7
          · omega
          · exact absurd (r3 t (by omega) z).2 w7
      rw [this]; exact k49
    · have : li_t (g k) = t := by
        rcases w7 with w7 | w7
        · exact w7.symm
        · rcases Nat.lt_or_ge t (li_t (g k)) with z | z
          · exact absurd (r3 t (by omega) (by omega)).2 w7
          · omega
      rw [this]
  rw [nI_clamp (n := k) (by omega), l1']
  refine pk_le (li_f (g k)) s (fun y => ?_) (fun y => ⟨hv, nm_r (e' := nI w) ?_ k23⟩)
  · have : s = w := by
      rcases Nat.lt_trichotomy s w with z | z | z
      · rcases w6 with w6 | ⟨j, j1, j2⟩
        · omega
        · exact absurd (s2 j (by omega) (by omega)).2 j2
      · exact z
      · exact absurd (hLl (s - 1) (by omega) (by omega)) (s3 (s - 1) (by omega))
    rw [this]; exact k23
  · have : li_f (g k) = w := by
      rcases w6 with w6 | ⟨j, j1, j2⟩
      · exact w6.symm
      · rcases Nat.lt_or_ge j (li_f (g k)) with z | z
        · omega
        · exact absurd (s2 j (by omega) (by omega)).2 j2
    rw [this]
/-- the glyph in the arrays -/
theorem wp_arr {k i w t f l : Nat} (E : gv_okF e) (W : wp_ok e f l i w t) {gs go : Nat → Int32} (h1 : sh_ar (sh_gl e w (t - w)) gs) (h2 : ∀ j, w ≤ j → j < t → go j = nI ((sh_gl e w (j + 1 - w)).length - 1)) : ∃ A g0 r0, sh_gl e w (t - w) = A ++ g0 :: r0 ∧ wp_C e i w t = g0 :: r0 ∧ go i = nI r0.length ∧ gs r0.length = nI g0 ∧ sh_ok (g0 :: r0) := by
  obtain ⟨w1, w2, w3, w4, w5, w6, w7⟩ := W
  have hok := sh_gl_ok E w (i + 1 - w) (fun j j1 j2 => w5 j j1 (by omega))
  obtain ⟨g1, r1, hgl⟩ : ∃ g1 r1, sh_gl e w (i + 1 - w) = g1 :: r1 := by
    cases hx : sh_gl e w (i + 1 - w) with
    | nil =>
      exfalso
      rw [show i + 1 - w = (i - w) + 1 from by omega] at hx
      exact sh_push_ne e _ _ hx
    | cons g1 r1 => exact ⟨g1, r1, rfl⟩
  rw [hgl] at hok
  obtain ⟨A, b, g0, c1, c2, -, -⟩ := sh_cf_gl E (w := w) (i := i + 1) (by omega) hgl hok (t - (i + 1)) (fun j j1 j2 => w5 j (by omega) (by omega))
  obtain ⟨b', g', d1, d2⟩ := sh_cf_s E (i := i + 1) hok (t - (i + 1)) (fun j j1 j2 => w5 j (by omega) (by omega))
  rw [c1] at d1
  simp only [Prod.mk.injEq, List.cons.injEq] at d1
  rw [← d1.2.1] at d2
  rw [show i + 1 + (t - (i + 1)) - w = t - w from by omega] at c2
  refine ⟨A, g0, r1, c2, ?_, ?_, ?_, d2⟩
  · unfold wp_C
    rw [hgl, c1]
  · rw [h2 i w2 w3, hgl]; rfl
  · rw [c2] at h1
    exact (sh_ar_at h1).1
theorem wp_len {i w t f l : Nat} (W : wp_ok e f l i w t) : (sh_gl e w (t - w)).length ≤ t - w := sh_gl_len e w (t - w)
/-- the sum of the glyphs before the letter's -/
theorem yw_pos93 {post : Int32 → SY → Prop} {i : Nat} {x2 x4 x5 x6 : Int32} {C : List Nat} {g0 : Nat} {r0 : List Nat} (F : ey_F e h_length b_text b_wide b_joined b_kerns) (hok : sh_ok (g0 :: r0)) (hlen : r0.length < 48) (hi : i < 48) (hgo : b_glyphOf i = nI r0.length) (hC : sh_ar (g0 :: r0) b_glyphs)
    (h : vp_in x2 48 ∧ ((x6 = b_lFrom x2.toNatClampNeg → post (sh_pv e (g0 :: r0)) (h_length, h_ligatures, h_patterns, h_firstWide, h_restWide, h_firstLines, h_spaceWide, h_stretch, h_shrink, h_tolerance, h_cost, h_height, h_ready, h_glyphCount, h_breaks, h_natural, h_spaces, h_lineCount, h_paragraphs, b_text, b_wide, b_joined, b_kerns, b_patA, b_patB, b_patC, b_patDigits, b_glyphs, b_glyphOf, b_bEnd, b_bNext, b_bHyphen, b_least, b_before, b_way, b_lFrom, b_lTo, b_lNumber, b_lParagraph, b_lPage, b_lHyphen, b_lLast, b_best)) ∧ (¬ x6 = b_lFrom x2.toNatClampNeg → ∃ n171 : Nat, wY_position_171 post x2 x4 x5 (sh_pv e (g0 :: r0)) h_length h_ligatures h_patterns h_firstWide h_restWide h_firstLines h_spaceWide h_stretch h_shrink h_tolerance h_cost h_height h_ready h_glyphCount h_breaks h_natural h_spaces h_lineCount h_paragraphs b_text b_wide b_joined b_kerns b_patA b_patB b_patC b_patDigits b_glyphs b_glyphOf b_bEnd b_bNext b_bHyphen b_least b_before b_way b_lFrom b_lTo b_lNumber b_lParagraph b_lPage b_lHyphen b_lLast b_best n171 x6))) :
    ∀ (A B : List Nat) (x : Nat) m, A.length < m → g0 :: r0 = A.reverse ++ x :: B → wY_position_93 post (nI i) x2 x4 x5 x6 h_length h_ligatures h_patterns h_firstWide h_restWide h_firstLines h_spaceWide h_stretch h_shrink h_tolerance h_cost h_height h_ready h_glyphCount h_breaks h_natural h_spaces h_lineCount h_paragraphs b_text b_wide b_joined b_kerns b_patA b_patB b_patC b_patDigits b_glyphs b_glyphOf b_bEnd b_bNext b_bHyphen b_least b_before b_way b_lFrom b_lTo b_lNumber b_lParagraph b_lPage b_lHyphen b_lLast b_best m (sh_pv e (x :: B)) (nI B.length) := by
  obtain ⟨F1, F2, F3, F4, F5, E⟩ := F
  intro A
  induction A with
  | nil =>
    intro B x m hm hB
    obtain ⟨m, rfl⟩ : ∃ m', m = m' + 1 := ⟨m - 1, by have : 0 < m := hm; omega⟩
    have hB' : g0 :: r0 = x :: B := hB
    obtain ⟨e1, e2⟩ := List.cons.inj hB'
    subst e1 e2
    refine ⟨vp_in_nI hi (by decide), br_t ?_ h⟩
    rw [nI_clamp (by omega), hgo]; exact nI_le (Nat.le_refl _) (by omega)
  | cons y A ih =>
    intro B x m hm hB
    obtain ⟨m, rfl⟩ : ∃ m', m = m' + 1 := ⟨m - 1, by omega⟩
    have hm' : A.length < m := by have : A.length + 1 < m + 1 := hm; omega
    have hB' : g0 :: r0 = A.reverse ++ (y :: x :: B) := by rw [hB]; simp
    have hlB : B.length + 1 ≤ r0.length := by
      have := congrArg List.length hB'
      simp at this
      omega
    have hx : x < 10 := hok x (by rw [hB']; simp)
    have hy : y < 10 := hok y (by rw [hB']; simp)
    have hat1 := sh_ar_at (by rw [hB'] at hC; exact hC)
    have hat2 : b_glyphs B.length = nI x := hat1.2.1
    have hat3 : b_glyphs (B.length + 1) = nI y := hat1.1
    have hw := E.2.2.1 x hx
    have ih' := ih (x :: B) y m hm' hB'
    refine ⟨vp_in_nI hi (by decide), br_f ?_ ?_⟩
    · rw [nI_clamp (by omega), hgo]; exact nI_ge (by omega) (by omega)
    rw [nI_1, nI_clamp (n := B.length) (by omega), nI_clamp (n := B.length + 1) (by omega), hat2, hat3, iw_ix, nI_clamp (n := x) (by omega), nI_clamp (n := 10 * x + y) (by omega), F3 x hx, F5 (10 * x + y) (by omega)]
    refine ⟨vp_in_nI (by omega) (by decide), vp_in_nI hx (by decide), vp_in_nI (by omega) (by decide), vp_in_nI (by omega) (by decide), vp_in_nI (by omega) (by decide), nm_r (e' := sh_pv e (y :: x :: B)) ?_ (nm_e ih')⟩
    cases B with
    | nil =>
      show (0 : Int32) + (nI (gv_wd e x) + (nI (gv_kn e (10 * x + y)) - 5)) = nI (gv_wd e x + 0) + (nI (gv_kn e (10 * x + y)) - 5)
      rw [Nat.add_zero]; grind
    | cons p r =>
      have hp : p < 10 := hok p (by rw [hB']; simp)
      show nI (sh_wd e (p :: r)) + (nI (gv_kn e (10 * p + x)) - 5) + (nI (gv_wd e x) + (nI (gv_kn e (10 * x + y)) - 5)) = nI ((gv_wd e x + gv_kn e (10 * p + x) - 5) + sh_wd e (p :: r)) + (nI (gv_kn e (10 * x + y)) - 5)
      rw [← nI_add (gv_wd e x + gv_kn e (10 * p + x) - 5), ← iw_kw (k := gv_kn e (10 * p + x)) (w := gv_wd e x) (by omega)]
      grind
/-- the end of the word before -/
theorem yw_pos171 {post : Int32 → SY → Prop} {n np pos k q w : Nat} {g : Nat → li_T} {x5 x7 : Int32} (F : ey_F e h_length b_text b_wide b_joined b_kerns) (M : ey_M e h_firstWide h_restWide h_firstLines h_spaceWide h_stretch h_shrink h_tolerance h_cost h_height) (H : li_cl e n g np pos) (hn : n ≤ 48) (L : ey_L (n, g) h_lineCount b_lFrom b_lTo b_lNumber b_lParagraph b_lHyphen b_lLast) (hk : k < n) (hq : li_f (g k) < q) (hqw : q < w) (hwt : w < li_t (g k)) (hlast : ∀ j, q = j + 1 → gv_isL e j) (hsp : ∀ j, q ≤ j → j < w → ¬ gv_isL e j) {tot : Nat} (htot : 0 < tot) (htot2 : tot ≤ 48)
    (h : ∀ nat' spc' gc gs go, post (x7 + (nI (sh_nw e (li_f (g k)) q) + nI (gv_gp e)) + x5 * nI (sh_ns e (li_f (g k)) q + 1) / nI tot) (h_length, h_ligatures, h_patterns, h_firstWide, h_restWide, h_firstLines, h_spaceWide, h_stretch, h_shrink, h_tolerance, h_cost, h_height, h_ready, gc, h_breaks, nat', spc', h_lineCount, h_paragraphs, b_text, b_wide, b_joined, b_kerns, b_patA, b_patB, b_patC, b_patDigits, gs, go, b_bEnd, b_bNext, b_bHyphen, b_least, b_before, b_way, b_lFrom, b_lTo, b_lNumber, b_lParagraph, b_lPage, b_lHyphen, b_lLast, b_best)) :
    ∀ d m r, d < m → q + d = r → r ≤ w → wY_position_171 post (nI k) (nI tot) x5 x7 h_length h_ligatures h_patterns h_firstWide h_restWide h_firstLines h_spaceWide h_stretch h_shrink h_tolerance h_cost h_height h_ready h_glyphCount h_breaks h_natural h_spaces h_lineCount h_paragraphs b_text b_wide b_joined b_kerns b_patA b_patB b_patC b_patDigits b_glyphs b_glyphOf b_bEnd b_bNext b_bHyphen b_least b_before b_way b_lFrom b_lTo b_lNumber b_lParagraph b_lPage b_lHyphen b_lLast b_best m (nI r) := by
  obtain ⟨L1, L2⟩ := id L
  have E := F.2.2.2.2.2
  have h48 := E.1
  have l1' : b_lFrom k = nI (li_f (g k)) := (L2 k hk).1
  obtain ⟨o1, o2, o3, o4, o5, o6, o7⟩ := (H.1 k hk).1
  have hv : vp_in (nI k) 48 := vp_in_nI (by omega) (by decide)
  intro d
  induction d with
  | zero =>
    intro m r hm hr hrw
    obtain ⟨m, rfl⟩ : ∃ m', m = m' + 1 := ⟨m - 1, by omega⟩
    have : r = q := by omega
    subst this
    rw [wY_position_171]
    dsimp only
    rw [nI_m1 (by omega)]
    refine yw_lt F (by omega) (fun y => br_f (by decide) ⟨hv, ?_⟩) (fun y => absurd (hlast (r - 1) (by omega)) y)
    rw [nI_clamp (n := k) (by omega), l1']
    refine yw_walk (hy := false) F M.2.2.2.1 M.2.2.2.2.2.2.2.2.2.2.2.2.1 rfl hq (by omega) (fun j j1 j2 => o3 j j1 (by omega)) o4 hlast (fun gc gs go => nm_r (e' := x7 + (nI (sh_nw e (li_f (g k)) r) + nI (gv_gp e))) ?_ (nm_r (nI_1 _) ⟨nI_ne0 htot (by omega), h _ _ gc gs go⟩))
    rw [M.2.2.2.1]
    rfl
  | succ d ih =>
    intro m r hm hr hrw
    obtain ⟨m, rfl⟩ : ∃ m', m = m' + 1 := ⟨m - 1, by omega⟩
    obtain ⟨r, rfl⟩ : ∃ r', r = r' + 1 := ⟨r - 1, by omega⟩
    rw [wY_position_171]
    dsimp only
    rw [nI_pred]
    exact yw_lt F (by omega) (fun y => absurd y (hsp r (by omega) (by omega))) (fun y => br_t rfl (nm_r (pk_m1 r) (ih m r (by omega) (by omega) (by omega))))
/-- the value of position -/
theorem yw_posv {post : Int32 → SY → Prop} {n np pos k i w t : Nat} {g : Nat → li_T} {x5 : Int32} (F : ey_F e h_length b_text b_wide b_joined b_kerns) (M : ey_M e h_firstWide h_restWide h_firstLines h_spaceWide h_stretch h_shrink h_tolerance h_cost h_height) (H : li_cl e n g np pos) (hn : n ≤ 48) (L : ey_L (n, g) h_lineCount b_lFrom b_lTo b_lNumber b_lParagraph b_lHyphen b_lLast) (hk : k < n) (W : wp_ok e (li_f (g k)) (li_t (g k)) i w t)
    (h : ∀ nat' spc' gc gs go, post (nI (sh_at e (li_f (g k)) w).1 + sh_pv e (wp_C e i w t) + sh_ex x5 (sh_ns e (li_f (g k)) (li_t (g k))) (sh_at e (li_f (g k)) w).2.1) (h_length, h_ligatures, h_patterns, h_firstWide, h_restWide, h_firstLines, h_spaceWide, h_stretch, h_shrink, h_tolerance, h_cost, h_height, h_ready, gc, h_breaks, nat', spc', h_lineCount, h_paragraphs, b_text, b_wide, b_joined, b_kerns, b_patA, b_patB, b_patC, b_patDigits, gs, go, b_bEnd, b_bNext, b_bHyphen, b_least, b_before, b_way, b_lFrom, b_lTo, b_lNumber, b_lParagraph, b_lPage, b_lHyphen, b_lLast, b_best)) : wY_position_77 post (nI i) (nI k) (nI (sh_ns e (li_f (g k)) (li_t (g k)))) x5 h_length h_ligatures h_patterns h_firstWide h_restWide h_firstLines h_spaceWide h_stretch h_shrink h_tolerance h_cost h_height h_ready h_glyphCount h_breaks h_natural h_spaces h_lineCount h_paragraphs b_text b_wide b_joined b_kerns b_patA b_patB b_patC b_patDigits b_glyphs b_glyphOf b_bEnd b_bNext b_bHyphen b_least b_before b_way b_lFrom b_lTo b_lNumber b_lParagraph b_lPage b_lHyphen b_lLast b_best := by
  obtain ⟨L1, L2⟩ := id L
  have E := F.2.2.2.2.2
  have h48 := E.1
  have K := M.2.2.2.2.2.2.2.2.2
  have l1' : b_lFrom k = nI (li_f (g k)) := (L2 k hk).1
  obtain ⟨o1, o2, o3, o4, o5, o6, o7⟩ := (H.1 k hk).1
  obtain ⟨w1, w2, w3, w4, w5, w6, w7⟩ := id W
  have hv : vp_in (nI k) 48 := vp_in_nI (by omega) (by decide)
  unfold wY_position_77
  refine yw_shapeAt F H hn L hk W (fun gs go g1 g2 => ?_)
  obtain ⟨A, g0, r0, a1, a2, a3, a4, a5⟩ := wp_arr (k := k) E W g1 g2
  have hlen := wp_len W
  rw [a1] at hlen g1
  have hlr : r0.length < 48 := by simp at hlen; omega
  have hC : sh_ar (g0 :: r0) gs := by
    have := sh_ar_at g1
    exact ⟨this.1, this.2⟩
  rw [a2] at h
  have start : ∃ (A2 : List Nat) (x : Nat), g0 :: r0 = A2.reverse ++ [x] ∧ A2.length ≤ 48 := by
    refine ⟨(g0 :: r0).dropLast.reverse, (g0 :: r0).getLast (by simp), ?_, ?_⟩
    · rw [List.reverse_reverse]; exact (List.dropLast_concat_getLast (by simp)).symm
    · simp; omega
  obtain ⟨A2, x, s1, s2⟩ := start
  refine ⟨49, yw_pos93 (b_glyphs := gs) (b_glyphOf := go) (C := []) F a5 hlr (by omega) a3 hC ?_ A2 [] x 49 (by omega) s1⟩
  refine ⟨hv, ?_⟩
  rw [nI_clamp (n := k) (by omega), l1']
  refine pk_eq w (li_f (g k)) (fun y => ?_) (fun y => ⟨49, ?_⟩)
  · have := h h_natural h_spaces (nI (sh_gl e w (t - w)).length) gs go
    rw [y, sh_at_0] at this
    have e0 : nI 0 + sh_pv e (g0 :: r0) + sh_ex x5 (sh_ns e (li_f (g k)) (li_t (g k))) 0 = sh_pv e (g0 :: r0) := by
      show (0 : Int32) + sh_pv e (g0 :: r0) + 0 = _
      grind
    dsimp only at this
    rw [e0] at this
    rw [y]
    exact this
  · obtain ⟨j, j1, j2⟩ := w6.resolve_left y
    -- the last letter before w
    have key : ∀ d q, li_f (g k) + d = q → q < w → (∀ j, q < j → j < w → ¬ gv_isL e j) → ∃ q', li_f (g k) < q' ∧ q' < w ∧ (∀ j, q' = j + 1 → gv_isL e j) ∧ (∀ j, q' ≤ j → j < w → ¬ gv_isL e j) := by
      intro d
      induction d with
      | zero =>
        intro q hq hqw hn'
        have : q = li_f (g k) := by omega
        subst this
        refine ⟨li_f (g k) + 1, by omega, ?_, fun j hj => by rw [show j = li_f (g k) from by omega]; exact o4, fun j a b => hn' j (by omega) b⟩
        rcases Nat.lt_or_ge (li_f (g k) + 1) w with z | z
        · exact z
        · exfalso
          rw [show j = li_f (g k) from by omega] at j2
          exact j2 o4.2
      | succ d ih =>
        intro q hq hqw hn'
        by_cases hl : gv_isL e q
        · refine ⟨q + 1, by omega, ?_, fun j hj => by rw [show j = q from by omega]; exact hl, fun j a b => hn' j (by omega) b⟩
          rcases Nat.lt_or_ge (q + 1) w with z | z
          · exact z
          · exfalso
            rw [show j = q from by omega] at j2
            exact j2 hl.2
        · exact ih (q - 1) (by omega) (by omega) (fun j a b => by
            by_cases ej : j = q
            · rw [ej]; exact hl
            · exact hn' j (by omega) b)
    obtain ⟨q, q1, q2, q3, q4⟩ := key (w - 1 - li_f (g k)) (w - 1) (by omega) (by omega) (fun j a b => by omega)
    have hne : (sh_at e (li_f (g k)) q).2.2 ≠ [] := by
      obtain ⟨q0, rfl⟩ : ∃ q0, q = q0 + 1 := ⟨q - 1, by omega⟩
      exact sh_at_ne (by omega) (q3 q0 rfl).2
    have hgp := sh_gap (e := e) (f := li_f (g k)) (q := q) (q' := w) (by omega) q2 hne (fun j a b z => q4 j a b ⟨by omega, z⟩)
    have hmono := sh_ns_mono (e := e) (f := li_f (g k)) (q := w) (by omega) (li_t (g k) - w)
    rw [show w + (li_t (g k) - w) = li_t (g k) from by omega] at hmono
    have hns : sh_ns e (li_f (g k)) w = sh_ns e (li_f (g k)) q + 1 := by unfold sh_ns; rw [hgp]
    have htb := sh_ns_b E K.2.2.2.1 (li_f (g k)) (li_t (g k))
    have h' := h
    rw [hgp] at h'
    refine yw_pos171 (h_glyphCount := nI (sh_gl e w (t - w)).length) (b_glyphs := gs) (b_glyphOf := go) F M H hn L hk q1 q2 (by omega) q3 q4 (by omega) (by omega) (fun nat' spc' gc2 gs2 go2 => ?_) (w - q) 49 w (by omega) (by omega) (Nat.le_refl _)
    have := h' nat' spc' gc2 gs2 go2
    rw [sh_ex_q x5 (by omega) (by omega)]
    have e1 : sh_pv e (g0 :: r0) + (nI (sh_nw e (li_f (g k)) q) + nI (gv_gp e)) + sh_ex x5 (sh_ns e (li_f (g k)) (li_t (g k))) (sh_ns e (li_f (g k)) q + 1) = nI ((sh_at e (li_f (g k)) q).1 + sh_wd e (sh_at e (li_f (g k)) q).2.2 + gv_gp e) + sh_pv e (g0 :: r0) + sh_ex x5 (sh_ns e (li_f (g k)) (li_t (g k))) ((sh_at e (li_f (g k)) q).2.1 + 1) := by
      show _ + (nI ((sh_at e (li_f (g k)) q).1 + sh_wd e (sh_at e (li_f (g k)) q).2.2) + nI (gv_gp e)) + sh_ex x5 (sh_ns e (li_f (g k)) (li_t (g k))) ((sh_at e (li_f (g k)) q).2.1 + 1) = _
      rw [nI_add]
      grind
    rw [e1]
    exact this
end
end
section
/-! the component: patterns in the trie -/
def tr_cnt (Q : Nat → Bool) : Nat → Nat
  | 0 => 0
  | n + 1 => tr_cnt Q n + (if Q n = true then 1 else 0)
theorem tr_cnt_c {Q Q' : Nat → Bool} : ∀ n, (∀ p, p < n → Q p = Q' p) → tr_cnt Q n = tr_cnt Q' n
  | 0, _ => rfl
  | n + 1, h => by
    show tr_cnt Q n + _ = tr_cnt Q' n + _
    rw [tr_cnt_c n (fun p hp => h p (by omega)), h n (by omega)]
theorem tr_cnt_b (Q : Nat → Bool) : ∀ n, tr_cnt Q n ≤ n
  | 0 => Nat.le_refl _
  | n + 1 => by
    have := tr_cnt_b Q n
    show tr_cnt Q n + (if Q n = true then 1 else 0) ≤ n + 1
    split <;> omega
theorem tr_cnt_p {Q : Nat → Bool} {p : Nat} (hq : Q p = true) : ∀ n, p < n → 0 < tr_cnt Q n
  | 0, h => by omega
  | n + 1, h => by
    show 0 < tr_cnt Q n + (if Q n = true then 1 else 0)
    by_cases e : p = n
    · rw [← e, if_pos hq]; omega
    · have := tr_cnt_p hq n (by omega); omega
theorem tr_cnt_m {Q Q' : Nat → Bool} : ∀ n, (∀ p, p < n → Q p = true → Q' p = true) → tr_cnt Q n ≤ tr_cnt Q' n
  | 0, _ => Nat.le_refl _
  | n + 1, h => by
    have i := tr_cnt_m n (fun p hp => h p (by omega))
    show tr_cnt Q n + (if Q n = true then 1 else 0) ≤ tr_cnt Q' n + (if Q' n = true then 1 else 0)
    by_cases e : Q n = true
    · rw [if_pos e, if_pos (h n (by omega) e)]; omega
    · rw [if_neg e]; omega
theorem tr_cnt_u {Q Q' : Nat → Bool} {i : Nat} : ∀ n, i < n → (∀ p, p < n → p ≠ i → Q' p = Q p) → tr_cnt Q' n + (if Q i = true then 1 else 0) = tr_cnt Q n + (if Q' i = true then 1 else 0)
  | 0, h, _ => by omega
  | n + 1, h, g => by
    show tr_cnt Q' n + (if Q' n = true then 1 else 0) + _ = tr_cnt Q n + (if Q n = true then 1 else 0) + _
    by_cases e : i = n
    · rw [e, tr_cnt_c n (fun p hp => g p (by omega) (by omega))]; omega
    · have := tr_cnt_u n (by omega) (fun p hp hn => g p (by omega) hn)
      rw [g n (by omega) (fun z => e z.symm)]
      omega
def tr_ls (f : Nat → Nat) : Nat → Nat
  | 0 => 0
  | n + 1 => tr_ls f n + f n
theorem tr_ls_c {f g : Nat → Nat} : ∀ n, (∀ p, p < n → f p = g p) → tr_ls f n = tr_ls g n
  | 0, _ => rfl
  | n + 1, h => by
    show tr_ls f n + f n = tr_ls g n + g n
    rw [tr_ls_c n (fun p hp => h p (by omega)), h n (by omega)]
theorem tr_ls_b {f : Nat → Nat} (hf : ∀ p, f p ≤ 3) : ∀ n, tr_ls f n ≤ 3 * n
  | 0 => Nat.le_refl _
  | n + 1 => by
    have := tr_ls_b hf n
    have := hf n
    show tr_ls f n + f n ≤ 3 * (n + 1)
    omega
theorem tr_ls_u {f g : Nat → Nat} {i : Nat} : ∀ n, i < n → (∀ p, p < n → p ≠ i → g p = f p) → tr_ls g n + f i = tr_ls f n + g i
  | 0, h, _ => by omega
  | n + 1, h, k => by
    show tr_ls g n + g n + f i = tr_ls f n + f n + g i
    by_cases e : i = n
    · rw [e, tr_ls_c n (fun p hp => k p (by omega) (by omega))]; omega
    · have := tr_ls_u n (by omega) (fun p hp hn => k p (by omega) hn)
      rw [k n (by omega) (fun z => e z.symm)]
      omega
def tr_L (e : gv_T) : Nat := tr_ls (hy_nl e) (gv_np e)
def tr_pr (a b c : Nat) (w : tr_K) : Bool := decide (a + 1 = w.1 ∧ (w.2.1 = 0 ∨ b = w.2.1) ∧ (w.2.2 = 0 ∨ c = w.2.2))
def tr_C (e : gv_T) (w : tr_K) : Nat := tr_cnt (fun p => tr_pr (gv_pa e p) (gv_pb e p) (gv_pc e p) w) (gv_np e)
def tr_G (e : gv_T) (G : tr_K → Nat) : Prop := (∀ p, p < gv_np e → G (gv_pa e p + 1, gv_pb e p, gv_pc e p) = gv_pd e p) ∧ (∀ w, tr_ok w → G w ≠ 0 → ∃ p, p < gv_np e ∧ w = (gv_pa e p + 1, gv_pb e p, gv_pc e p))
def ex_A (ch us dg : Nat → Nat) (a_child a_digits a_uses : Nat → Int32) : Prop := (∀ k, k < 352 → a_child k = nI (ch k)) ∧ (∀ v, v < 32 → a_digits v = nI (dg v)) ∧ (∀ v, v < 32 → a_uses v = nI (us v))
def ex_T (e : gv_T) (f_patterns : Int32) (a_child a_digits a_uses : Nat → Int32) : Prop :=
  f_patterns = nI (gv_np e) ∧ gv_okP e ∧ ∃ G N ch us dg, ex_A ch us dg a_child a_digits a_uses ∧ tr_T (tr_C e) G N ch us dg (tr_L e) ∧ tr_G e G
theorem tr_chb {C G N : tr_K → Nat} {ch us dg : Nat → Nat} {S : Nat} (T : tr_T C G N ch us dg S) {k : Nat} (hk : k < 352) : ch k < 32 := by
  obtain ⟨⟨a1, a1'⟩, a2, a3, a4, a5, a6, a7, a8⟩ := id T
  have ek : k = 11 * (k / 11) + k % 11 := by omega
  have hl : k % 11 < 11 := by omega
  rw [ek]
  by_cases h0 : k / 11 = 0
  · have hin : tr_in N (0, 0, 0) := ⟨rfl, Or.inl rfl⟩
    have := a5 _ (k % 11) hin hl
    rw [a1] at this
    rw [h0, this]
    exact (a2 _ (tr_x_ok rfl (Or.inl rfl) hl)).1
  · rcases Classical.em (∃ w, tr_ok w ∧ N w = k / 11) with ⟨w, ho, hw⟩ | hno
    · rw [← hw]
      by_cases hz : w.2.2 = 0
      · rw [a5 w _ ⟨hz, Or.inr ⟨ho, by omega⟩⟩ hl]
        exact (a2 _ (tr_x_ok hz (Or.inr ho) hl)).1
      · rw [a6 w _ ho hz (by omega) hl]; omega
    · rw [(a4 (k / 11) (by omega) (by omega) (fun w ho z => hno ⟨w, ho, z⟩)).2.2 _ hl]; omega
theorem tr_dgb {e : gv_T} {C G N : tr_K → Nat} {ch us dg : Nat → Nat} {S : Nat} (O : gv_okP e) (T : tr_T C G N ch us dg S) (hG : tr_G e G) {v : Nat} (hv : v < 32) : dg v < 10000 := by
  obtain ⟨⟨a1, a1'⟩, a2, a3, a4, a5, a6, a7, a8⟩ := id T
  by_cases h0 : v = 0
  · rw [h0, a1']; omega
  · rcases Classical.em (∃ w, tr_ok w ∧ N w = v) with ⟨w, ho, hw⟩ | hno
    · rw [← hw, ((a2 w ho).2.2.1 (by omega)).2]
      rcases Nat.eq_zero_or_pos (G w) with z | z
      · omega
      · obtain ⟨p, p1, p2⟩ := hG.2 w ho (by omega)
        rw [p2, hG.1 p p1]
        exact (O.2.1 p p1).2.2.2.2.2
    · rw [(a4 v (by omega) hv (fun w ho z => hno ⟨w, ho, z⟩)).2.1]; omega
theorem tr_key {e : gv_T} (O : gv_okP e) {p : Nat} (hp : p < gv_np e) : tr_ok (gv_pa e p + 1, gv_pb e p, gv_pc e p) := by
  obtain ⟨o1, o2, o3, o4, o5, o6⟩ := O.2.1 p hp
  exact ⟨by show 1 ≤ _ + 1; omega, by show _ + 1 ≤ 11; omega, o2, o3, o4⟩
/-- the trie answers as the patterns say -/
theorem tr_iff {e : gv_T} {f_patterns : Int32} {a_child a_digits a_uses : Nat → Int32} (X : ex_T e f_patterns a_child a_digits a_uses) : tr_if e a_child a_digits := by
  obtain ⟨X1, O, G, N, ch, us, dg, ⟨A1, A2, A3⟩, T, hG⟩ := X
  obtain ⟨⟨a1, a1'⟩, a2, a3, a4, a5, a6, a7, a8⟩ := id T
  refine ⟨ch, dg, fun k hk => ⟨A1 k hk, tr_chb T hk⟩, fun v hv => ⟨A2 v hv, tr_dgb O T hG hv⟩, a1', fun l n hl hn hnz => ?_⟩
  have fin : ∀ w : tr_K, tr_ok w → tr_v ch l (n + 1) = N w → (∀ p, p < gv_np e → (hy_nl e p = n + 1 ∧ (∀ j, j < n + 1 → l j = hy_lt e p j) ↔ w = (gv_pa e p + 1, gv_pb e p, gv_pc e p))) → (∀ p, p < gv_np e → n + 1 ≤ hy_nl e p → (∀ j, j < n + 1 → l j = hy_lt e p j) → tr_pr (gv_pa e p) (gv_pb e p) (gv_pc e p) w = true) → (dg (tr_v ch l (n + 1)) ≠ 0 → ∃ p, p < gv_np e ∧ hy_nl e p = n + 1 ∧ (∀ j, j < n + 1 → l j = hy_lt e p j) ∧ gv_pd e p = dg (tr_v ch l (n + 1))) ∧ (∀ p, p < gv_np e → hy_nl e p = n + 1 → (∀ j, j < n + 1 → l j = hy_lt e p j) → dg (tr_v ch l (n + 1)) ≠ 0 ∧ gv_pd e p = dg (tr_v ch l (n + 1))) ∧ (tr_v ch l (n + 1) = 0 → ∀ p, p < gv_np e → n + 1 ≤ hy_nl e p → (∀ j, j < n + 1 → l j = hy_lt e p j) → False) := by
    intro w ho hv hk hpre
    rw [hv]
    obtain ⟨b1, b2, b3, b4⟩ := a2 w ho
    refine ⟨fun hd => ?_, fun p p1 p2 p3 => ?_, fun h0 p p1 p2 p3 => ?_⟩
    · have hn0 : N w ≠ 0 := fun z => by rw [z] at hd; exact hd a1'
      rw [(b3 hn0).2] at hd ⊢
      obtain ⟨p, p1, p2⟩ := hG.2 w ho hd
      obtain ⟨k1, k2⟩ := (hk p p1).mpr p2
      exact ⟨p, p1, k1, k2, by rw [p2, hG.1 p p1]⟩
    · have ew := (hk p p1).mp ⟨p2, p3⟩
      have hGw : G w = gv_pd e p := by rw [ew]; exact hG.1 p p1
      have hpd := (O.2.1 p p1).2.2.2.2.1
      have hn0 : N w ≠ 0 := fun z => b4 (by omega) (b2.mp z)
      rw [(b3 hn0).2, hGw]
      exact ⟨by omega, rfl⟩
    · have := tr_cnt_p (Q := fun p => tr_pr (gv_pa e p) (gv_pb e p) (gv_pc e p) w) (hpre p p1 p2 p3) (gv_np e) p1
      have h2 : tr_C e w = 0 := b2.mp h0
      unfold tr_C at h2
      omega
  have hroot : tr_in N (0, 0, 0) := ⟨rfl, Or.inl rfl⟩
  have e1 : tr_v ch l 1 = N (l 0 + 1, 0, 0) := by
    have := a5 _ (l 0) hroot (hl 0)
    rw [a1] at this
    exact this
  have o1 : tr_ok (l 0 + 1, 0, 0) := tr_x_ok (w := (0, 0, 0)) rfl (Or.inl rfl) (hl 0)
  rcases (show n = 0 ∨ n = 1 ∨ n = 2 by omega) with rfl | rfl | rfl
  · refine fin _ o1 e1 (fun p hp => ⟨fun h => ?_, fun h => ?_⟩) (fun p hp h1 h2 => ?_)
    · obtain ⟨h1, h2⟩ := h
      have hb : gv_pb e p = 0 := by
        rcases Nat.eq_zero_or_pos (gv_pb e p) with z | z
        · exact z
        · have := nl_1 (e := e) (p := p); unfold hy_nl at h1; rw [if_neg (by omega)] at h1; split at h1 <;> omega
      have hc := (O.2.1 p hp).2.2.2.1 hb
      have := h2 0 (by omega)
      rw [hb, hc]
      exact tr_k3 (by rw [this]; rfl) rfl rfl
    · simp only [Prod.mk.injEq] at h
      refine ⟨nl_1 h.2.1.symm, fun j hj => ?_⟩
      rw [show j = 0 from by omega]
      show l 0 = gv_pa e p
      omega
    · have := h2 0 (by omega)
      exact decide_eq_true ⟨by rw [this]; rfl, Or.inl rfl, Or.inl rfl⟩
  · have hn1 := hnz 1 (by omega) (by omega)
    rw [e1] at hn1
    have e2 : tr_v ch l 2 = N (l 0 + 1, l 1 + 1, 0) := by
      have := a5 (l 0 + 1, 0, 0) (l 1) ⟨rfl, Or.inr ⟨o1, hn1⟩⟩ (hl 1)
      rw [← e1] at this
      exact this
    have o2 : tr_ok (l 0 + 1, l 1 + 1, 0) := tr_x_ok (w := (l 0 + 1, 0, 0)) rfl (Or.inr o1) (hl 1)
    refine fin _ o2 e2 (fun p hp => ⟨fun h => ?_, fun h => ?_⟩) (fun p hp h1 h2 => ?_)
    · obtain ⟨h1, h2⟩ := h
      have hb := nl_b0 (e := e) (p := p) (by omega)
      have hc : gv_pc e p = 0 := by
        rcases Nat.eq_zero_or_pos (gv_pc e p) with z | z
        · exact z
        · rw [nl_3 hb (by omega)] at h1; omega
      have g0 := h2 0 (by omega)
      have g1 := h2 1 (by omega)
      rw [hc]
      have g1' : l 1 = gv_pb e p - 1 := g1
      exact tr_k3 (by rw [g0]; rfl) (by omega) rfl
    · simp only [Prod.mk.injEq] at h
      refine ⟨nl_2 (by omega) h.2.2.symm, fun j hj => ?_⟩
      rcases (show j = 0 ∨ j = 1 by omega) with rfl | rfl
      · show l 0 = gv_pa e p; omega
      · show l 1 = gv_pb e p - 1; omega
    · have hb := nl_b0 (e := e) (p := p) (by omega)
      have g0 := h2 0 (by omega)
      have g1 : l 1 = gv_pb e p - 1 := h2 1 (by omega)
      exact decide_eq_true ⟨by rw [g0]; rfl, Or.inr (by show gv_pb e p = l 1 + 1; omega), Or.inl rfl⟩
  · have hn1 := hnz 1 (by omega) (by omega)
    rw [e1] at hn1
    have e2 : tr_v ch l 2 = N (l 0 + 1, l 1 + 1, 0) := by
      have := a5 (l 0 + 1, 0, 0) (l 1) ⟨rfl, Or.inr ⟨o1, hn1⟩⟩ (hl 1)
      rw [← e1] at this
      exact this
    have o2 : tr_ok (l 0 + 1, l 1 + 1, 0) := tr_x_ok (w := (l 0 + 1, 0, 0)) rfl (Or.inr o1) (hl 1)
    have hn2 := hnz 2 (by omega) (by omega)
    rw [e2] at hn2
    have e3 : tr_v ch l 3 = N (l 0 + 1, l 1 + 1, l 2 + 1) := by
      have := a5 (l 0 + 1, l 1 + 1, 0) (l 2) ⟨rfl, Or.inr ⟨o2, hn2⟩⟩ (hl 2)
      rw [← e2] at this
      exact this
    have o3 : tr_ok (l 0 + 1, l 1 + 1, l 2 + 1) := tr_x_ok (w := (l 0 + 1, l 1 + 1, 0)) rfl (Or.inr o2) (hl 2)
    refine fin _ o3 e3 (fun p hp => ⟨fun h => ?_, fun h => ?_⟩) (fun p hp h1 h2 => ?_)
    · obtain ⟨h1, h2⟩ := h
      obtain ⟨hc, hb⟩ := nl_c0 (e := e) (p := p) (by omega)
      have g0 : l 0 = gv_pa e p := h2 0 (by omega)
      have g1 : l 1 = gv_pb e p - 1 := h2 1 (by omega)
      have g2 : l 2 = gv_pc e p - 1 := h2 2 (by omega)
      exact tr_k3 (by omega) (by omega) (by omega)
    · simp only [Prod.mk.injEq] at h
      refine ⟨nl_3 (by omega) (by omega), fun j hj => ?_⟩
      rcases (show j = 0 ∨ j = 1 ∨ j = 2 by omega) with rfl | rfl | rfl
      · show l 0 = gv_pa e p; omega
      · show l 1 = gv_pb e p - 1; omega
      · show l 2 = gv_pc e p - 1; omega
    · obtain ⟨hc, hb⟩ := nl_c0 (e := e) (p := p) (by omega)
      have g0 : l 0 = gv_pa e p := h2 0 (by omega)
      have g1 : l 1 = gv_pb e p - 1 := h2 1 (by omega)
      have g2 : l 2 = gv_pc e p - 1 := h2 2 (by omega)
      exact decide_eq_true ⟨by show gv_pa e p + 1 = l 0 + 1; omega, Or.inr (by show gv_pb e p = l 1 + 1; omega), Or.inr (by show gv_pc e p = l 2 + 1; omega)⟩
section
variable {e : gv_T} {f_length f_known f_joins f_patterns f_first f_rest f_narrow f_gap f_stretch f_shrink f_tolerance f_cost f_height f_breaks f_lines f_paragraphs : Int32} {a_text a_allowed a_counts a_wide a_join a_kerns a_child a_digits a_uses a_ends a_begins a_hyphened a_before a_natural a_spaces a_way a_lineFrom a_lineTo a_linePart a_linePage a_lineWide a_lineBad a_lineHyphen : Nat → Int32} {a_least a_sums : Nat → Int64}
theorem xw_grow {post : Int32 → SX → Prop} {C G N : tr_K → Nat} {ch us dg : Nat → Nat} {S l : Nat} {w : tr_K} (A : ex_A ch us dg a_child a_digits a_uses) (T : tr_T C G N ch us dg S) (hw : tr_in N w) (hl : l < 11) (hS : S < 31) (hC : C (tr_x w l) ≤ 20)
    (h : ∀ N' ch' us' ac au, ex_A ch' us' dg ac a_digits au → tr_T (tr_u C (tr_x w l) (C (tr_x w l) + 1)) G N' ch' us' dg (S + 1) → N' (tr_x w l) ≠ 0 → post (nI (N' (tr_x w l))) (f_length, f_known, f_joins, f_patterns, f_first, f_rest, f_narrow, f_gap, f_stretch, f_shrink, f_tolerance, f_cost, f_height, f_breaks, f_lines, f_paragraphs, a_text, a_allowed, a_counts, a_wide, a_join, a_kerns, ac, a_digits, au, a_ends, a_begins, a_hyphened, a_least, a_before, a_natural, a_spaces, a_way, a_lineFrom, a_lineTo, a_linePart, a_linePage, a_lineWide, a_lineBad, a_lineHyphen, a_sums)) : wpX_grow post (f_length, f_known, f_joins, f_patterns, f_first, f_rest, f_narrow, f_gap, f_stretch, f_shrink, f_tolerance, f_cost, f_height, f_breaks, f_lines, f_paragraphs, a_text, a_allowed, a_counts, a_wide, a_join, a_kerns, a_child, a_digits, a_uses, a_ends, a_begins, a_hyphened, a_least, a_before, a_natural, a_spaces, a_way, a_lineFrom, a_lineTo, a_linePart, a_linePage, a_lineWide, a_lineBad, a_lineHyphen, a_sums) (nI (N w)) (nI l) := by
  obtain ⟨A1, A2, A3⟩ := A
  obtain ⟨⟨a1, a1'⟩, a2, a3, a4, a5, a6, a7, a8⟩ := id T
  have hxo := tr_x_ok (l := l) hw.1 (tr_in_ok hw) hl
  have hNw : N w < 32 := by
    rcases hw.2 with rfl | ⟨o, -⟩
    · rw [a1]; omega
    · exact (a2 w o).1
  have hix : 11 * N w + l < 352 := by omega
  have hch := a5 w l hw hl
  have hN32 := (a2 _ hxo).1
  have k46 : ∀ v N' ch' us' ac au, v < 32 → us' v ≤ 20 → ex_A ch' us' dg ac a_digits au → (tr_T (tr_u C (tr_x w l) (C (tr_x w l) + 1)) G N' ch' (dp_u us' v (us' v + 1)) dg (S + 1)) → N' (tr_x w l) = v → v ≠ 0 → wX_grow_46 post (nI v) f_length f_known f_joins f_patterns f_first f_rest f_narrow f_gap f_stretch f_shrink f_tolerance f_cost f_height f_breaks f_lines f_paragraphs a_text a_allowed a_counts a_wide a_join a_kerns ac a_digits au a_ends a_begins a_hyphened a_least a_before a_natural a_spaces a_way a_lineFrom a_lineTo a_linePart a_linePage a_lineWide a_lineBad a_lineHyphen a_sums := by
    intro v N' ch' us' ac au hv hu A' T' hN hv0
    have hvi : vp_in (nI v) 32 := vp_in_nI hv (by decide)
    refine ⟨hvi, hvi, nm_r (e' := upd au v (nI (us' v + 1))) (by rw [nI_clamp (by omega), A'.2.2 v hv, nI_1, iw_bb (by omega)]) ?_⟩
    have := h N' ch' _ ac (upd au v (nI (us' v + 1))) ⟨A'.1, A'.2.1, fun u hu => ?_⟩ T' (by rw [hN]; exact hv0)
    · rw [hN] at this; exact this
    · by_cases eu : u = v
      · rw [eu, pk_us, dp_us]
      · rw [pk_un eu, dp_un _ _ eu]; exact A'.2.2 u hu
  have eix := iw_11 (N w) l
  refine ⟨by rw [eix]; exact vp_in_nI hix (by decide), nm_r (e' := nI (N (tr_x w l))) (by rw [eix, nI_clamp (by omega), A1 _ hix, hch]) (pk_eq (N (tr_x w l)) 0 (fun y => ?_) (fun y => ?_))⟩
  · obtain ⟨v, v1, v2, v3, v4⟩ := tr_room T hS
    have loop : ∀ d m q, d < m → q + d = v → 1 ≤ q → wX_grow_18 post (nI (N w)) (nI l) f_length f_known f_joins f_patterns f_first f_rest f_narrow f_gap f_stretch f_shrink f_tolerance f_cost f_height f_breaks f_lines f_paragraphs a_text a_allowed a_counts a_wide a_join a_kerns a_child a_digits a_uses a_ends a_begins a_hyphened a_least a_before a_natural a_spaces a_way a_lineFrom a_lineTo a_linePart a_linePage a_lineWide a_lineBad a_lineHyphen a_sums m (nI q) := by
      intro d
      induction d with
      | zero =>
        intro m q hm hq hq1
        obtain ⟨m, rfl⟩ : ∃ m', m = m' + 1 := ⟨m - 1, by omega⟩
        have : q = v := by omega
        subst this
        refine ⟨vp_in_nI (by omega) (by decide), ?_⟩
        rw [nI_clamp (n := q) (by omega), A3 q (by omega), v3]
        refine br_t (by decide) ⟨by rw [eix]; exact vp_in_nI hix (by decide), nm_r (e' := upd a_child (11 * N w + l) (nI q)) (by rw [eix, nI_clamp (by omega), iw_bb (by omega)]) (k46 q _ (dp_u ch (11 * N w + l) q) us _ a_uses (by omega) (by omega) ⟨fun k hk => ?_, A2, A3⟩ ?_ (tr_us N _ _) (by omega))⟩
        · by_cases ek : k = 11 * N w + l
          · rw [ek, pk_us, dp_us]
          · rw [pk_un ek, dp_un _ _ ek]; exact A1 k hk
        · rw [v3]
          exact tr_new T hw hl y v1 (by omega) v3
      | succ d ih =>
        intro m q hm hq hq1
        obtain ⟨m, rfl⟩ : ∃ m', m = m' + 1 := ⟨m - 1, by omega⟩
        have hu := v4 q hq1 (by omega)
        refine ⟨vp_in_nI (by omega) (by decide), ?_⟩
        rw [nI_clamp (n := q) (by omega), A3 q (by omega)]
        have hub : us q < 2 ^ 31 := by
          rcases Classical.em (∃ w', tr_ok w' ∧ N w' = q) with ⟨w', ho, hw'⟩ | hno
          · have hs : us q ≤ tr_sum us 31 := by
              have := (tr_sum_u (f := us) (v := q) (b := 0) rfl 31).2 hq1 (by omega)
              omega
            omega
          · have := (a4 q hq1 (by omega) (fun w' ho z => hno ⟨w', ho, z⟩)).1
            omega
        exact br_f (nI_nle hu hub) (nm_r (nI_1 q) (ih m (q + 1) (by omega) (by omega) (by omega)))
    exact ⟨v + 1, loop (v - 1) _ 1 (by omega) (by omega) (by omega)⟩
  · have hus := ((a2 _ hxo).2.2.1 y).1
    refine k46 (N (tr_x w l)) N ch us a_child a_uses hN32 (by omega) ⟨A1, A2, A3⟩ (tr_old T hxo y) rfl y
/-- one use less of a child, by the arrays -/
theorem xw_shrink {post : Int32 → SX → Prop} {ch us dg : Nat → Nat} {node l v u : Nat} (A : ex_A ch us dg a_child a_digits a_uses) (hn : 11 * node + l < 352) (hv : ch (11 * node + l) = v) (hv2 : v < 32) (hu : us v = u + 1) (hu2 : u ≤ 20)
    (h : ∀ ac au, ex_A (if u = 0 then dp_u ch (11 * node + l) 0 else ch) (dp_u us v u) dg ac a_digits au → post (nI v) (f_length, f_known, f_joins, f_patterns, f_first, f_rest, f_narrow, f_gap, f_stretch, f_shrink, f_tolerance, f_cost, f_height, f_breaks, f_lines, f_paragraphs, a_text, a_allowed, a_counts, a_wide, a_join, a_kerns, ac, a_digits, au, a_ends, a_begins, a_hyphened, a_least, a_before, a_natural, a_spaces, a_way, a_lineFrom, a_lineTo, a_linePart, a_linePage, a_lineWide, a_lineBad, a_lineHyphen, a_sums)) : wpX_shrinkBy post (f_length, f_known, f_joins, f_patterns, f_first, f_rest, f_narrow, f_gap, f_stretch, f_shrink, f_tolerance, f_cost, f_height, f_breaks, f_lines, f_paragraphs, a_text, a_allowed, a_counts, a_wide, a_join, a_kerns, a_child, a_digits, a_uses, a_ends, a_begins, a_hyphened, a_least, a_before, a_natural, a_spaces, a_way, a_lineFrom, a_lineTo, a_linePart, a_linePage, a_lineWide, a_lineBad, a_lineHyphen, a_sums) (nI node) (nI l) := by
  obtain ⟨A1, A2, A3⟩ := A
  have eix := iw_11 node l
  have hvi : vp_in (nI v) 32 := vp_in_nI hv2 (by decide)
  have hvn : vp_in ((11 : Int32) * nI node + nI l) 352 := by rw [eix]; exact vp_in_nI hn (by decide)
  have e1 : ((a_uses v - 1).toInt8.toInt32) = nI u := by rw [A3 v hv2, hu, nI_pred, iw_i8 (by omega)]
  have hau : ∀ x, x < 32 → upd a_uses v (nI u) x = nI (dp_u us v u x) := by
    intro x hx
    by_cases ex : x = v
    · rw [ex, pk_us, dp_us]
    · rw [pk_un ex, dp_un _ _ ex]; exact A3 x hx
  refine ⟨hvn, nm_r (e' := nI v) (by rw [eix, nI_clamp (by omega), A1 _ hn, hv]) ⟨hvi, hvi, nm_r (e' := upd a_uses v (nI u)) (by rw [nI_clamp (by omega), e1, iw_b (by omega)]) ?_⟩⟩
  rw [nI_clamp (n := v) (by omega), e1]
  refine pk_eq u 0 (fun y => ⟨hvn, nm_r (e' := upd a_child (11 * node + l) (nI 0)) (by rw [eix, nI_clamp (by omega)]; rfl) (h _ _ ⟨fun k hk => ?_, A2, hau⟩)⟩) (fun y => h _ _ ⟨fun k hk => ?_, A2, hau⟩)
  · rw [if_pos y]
    by_cases ek : k = 11 * node + l
    · rw [ek, pk_us, dp_us]
    · rw [pk_un ek, dp_un _ _ ek]; exact A1 k hk
  · rw [if_neg y]; exact A1 k hk
theorem xw_walk {post : Int32 → Prop} {C G N : tr_K → Nat} {ch us dg : Nat → Nat} {S x y z : Nat} (A : ex_A ch us dg a_child a_digits a_uses) (T : tr_T C G N ch us dg S) (ho : tr_ok (x + 1, y, z)) (h : post (if N (x + 1, y, z) = 0 then -1 else nI (N (x + 1, y, z)))) : wpX_walk post (f_length, f_known, f_joins, f_patterns, f_first, f_rest, f_narrow, f_gap, f_stretch, f_shrink, f_tolerance, f_cost, f_height, f_breaks, f_lines, f_paragraphs, a_text, a_allowed, a_counts, a_wide, a_join, a_kerns, a_child, a_digits, a_uses, a_ends, a_begins, a_hyphened, a_least, a_before, a_natural, a_spaces, a_way, a_lineFrom, a_lineTo, a_linePart, a_linePage, a_lineWide, a_lineBad, a_lineHyphen, a_sums) (nI x) (nI y - 1) (nI z - 1) := by
  obtain ⟨A1, A2, A3⟩ := A
  obtain ⟨⟨a1, a1'⟩, a2, a3, a4, a5, a6, a7, a8⟩ := id T
  obtain ⟨q1, q2, q3, q4, q5⟩ := ho
  dsimp only at q1 q2 q3 q4 q5
  have k54 : ∀ v : Nat, v < 32 → (if v = 0 then (-1 : Int32) else nI v) = (if N (x + 1, y, z) = 0 then -1 else nI (N (x + 1, y, z))) → wX_walk_54 post (nI v) f_length f_known f_joins f_patterns f_first f_rest f_narrow f_gap f_stretch f_shrink f_tolerance f_cost f_height f_breaks f_lines f_paragraphs a_text a_allowed a_counts a_wide a_join a_kerns a_child a_digits a_uses a_ends a_begins a_hyphened a_least a_before a_natural a_spaces a_way a_lineFrom a_lineTo a_linePart a_linePage a_lineWide a_lineBad a_lineHyphen a_sums := by
    intro v hv he
    rw [← he] at h
    refine pk_le v 0 (fun g => ?_) (fun g => ?_)
    · rw [if_pos (by omega)] at h; exact h
    · rw [if_neg (by omega)] at h; exact h
  have o1 : tr_ok (x + 1, 0, 0) := ⟨q1, q2, by show (0:Nat) ≤ 11; omega, by show (0:Nat) ≤ 11; omega, fun _ => rfl⟩
  have c1 : ch x = N (x + 1, 0, 0) := by
    have := a5 (0, 0, 0) x ⟨rfl, Or.inl rfl⟩ (by omega)
    rw [a1, Nat.mul_zero, Nat.zero_add] at this
    exact this
  have n1 := a2 _ o1
  refine ⟨vp_in_nI (by omega) (by decide), nm_r (e' := nI (N (x + 1, 0, 0))) (by rw [nI_clamp (by omega), A1 x (by omega), c1]) (pk_le (N (x + 1, 0, 0)) 0 (fun g => ?_) (fun g => ?_) rfl rfl (by omega))⟩
  · have e0 : N (x + 1, 0, 0) = 0 := by omega
    rw [e0]
    refine br_t (by decide) (k54 0 (by omega) ?_)
    have hC1 : C (x + 1, 0, 0) = 0 := n1.2.1.mp e0
    have : N (x + 1, y, z) = 0 := by
      by_cases y0 : y = 0
      · subst y0; rw [q5 rfl]; exact e0
      · obtain ⟨y, rfl⟩ : ∃ y', y = y' + 1 := ⟨y - 1, by omega⟩
        have o2 : tr_ok (x + 1, y + 1, 0) := tr_x_ok (w := (x + 1, 0, 0)) rfl (Or.inr o1) (by omega : y < 11)
        have hC2 : C (x + 1, y + 1, 0) = 0 := by
          rcases Nat.eq_zero_or_pos (C (x + 1, y + 1, 0)) with w | w
          · exact w
          · exact absurd hC1 (a7 (x + 1, 0, 0) y o1 rfl (by omega) (by show C (x + 1, y + 1, 0) ≠ 0; omega))
        by_cases z0 : z = 0
        · rw [z0]; exact (a2 _ o2).2.1.mpr hC2
        · obtain ⟨z, rfl⟩ : ∃ z', z = z' + 1 := ⟨z - 1, by omega⟩
          have o3 : tr_ok (x + 1, y + 1, z + 1) := tr_x_ok (w := (x + 1, y + 1, 0)) rfl (Or.inr o2) (by omega : z < 11)
          refine (a2 _ o3).2.1.mpr ?_
          rcases Nat.eq_zero_or_pos (C (x + 1, y + 1, z + 1)) with w | w
          · exact w
          · exact absurd hC2 (a7 (x + 1, y + 1, 0) z o2 rfl (by omega) (by show C (x + 1, y + 1, z + 1) ≠ 0; omega))
    rw [this]
  · by_cases y0 : y = 0
    · subst y0
      have z0 := q5 rfl
      subst z0
      refine br_t (by decide) (br_f (nI_nle (by omega) (by omega)) (br_t (by decide) (k54 _ n1.1 rfl)))
    · obtain ⟨y, rfl⟩ : ∃ y', y = y' + 1 := ⟨y - 1, by omega⟩
      have o2 : tr_ok (x + 1, y + 1, 0) := tr_x_ok (w := (x + 1, 0, 0)) rfl (Or.inr o1) (by omega : y < 11)
      have n2 := a2 _ o2
      have c2 : ch (11 * N (x + 1, 0, 0) + y) = N (x + 1, y + 1, 0) := a5 (x + 1, 0, 0) y ⟨rfl, Or.inr ⟨o1, by omega⟩⟩ (by omega)
      have hi2 : 11 * N (x + 1, 0, 0) + y < 352 := by omega
      rw [nI_pred]
      refine br_f (nI_pos (by omega)) ⟨by rw [iw_11]; exact vp_in_nI hi2 (by decide), nm_r (e' := nI (N (x + 1, y + 1, 0))) (by rw [iw_11, nI_clamp (by omega), A1 _ hi2, c2]) (pk_le (N (x + 1, y + 1, 0)) 0 (fun g2 => k54 _ (by omega) ?_) (fun g2 => ?_) rfl rfl (by omega))⟩
      · have e0 : N (x + 1, y + 1, 0) = 0 := by omega
        have : N (x + 1, y + 1, z) = 0 := by
          by_cases z0 : z = 0
          · rw [z0]; exact e0
          · obtain ⟨z, rfl⟩ : ∃ z', z = z' + 1 := ⟨z - 1, by omega⟩
            have o3 : tr_ok (x + 1, y + 1, z + 1) := tr_x_ok (w := (x + 1, y + 1, 0)) rfl (Or.inr o2) (by omega : z < 11)
            refine (a2 _ o3).2.1.mpr ?_
            rcases Nat.eq_zero_or_pos (C (x + 1, y + 1, z + 1)) with w | w
            · exact w
            · exact absurd (n2.2.1.mp e0) (a7 (x + 1, y + 1, 0) z o2 rfl (by omega) (by show C (x + 1, y + 1, z + 1) ≠ 0; omega))
        rw [this, e0]
      · by_cases z0 : z = 0
        · subst z0
          exact br_t (by decide) (k54 _ n2.1 rfl)
        · obtain ⟨z, rfl⟩ : ∃ z', z = z' + 1 := ⟨z - 1, by omega⟩
          have o3 : tr_ok (x + 1, y + 1, z + 1) := tr_x_ok (w := (x + 1, y + 1, 0)) rfl (Or.inr o2) (by omega : z < 11)
          have n3 := a2 _ o3
          have c3 : ch (11 * N (x + 1, y + 1, 0) + z) = N (x + 1, y + 1, z + 1) := a5 (x + 1, y + 1, 0) z ⟨rfl, Or.inr ⟨o2, by omega⟩⟩ (by omega)
          have hi3 : 11 * N (x + 1, y + 1, 0) + z < 352 := by omega
          rw [nI_pred]
          exact br_f (nI_pos (by omega)) ⟨by rw [iw_11]; exact vp_in_nI hi3 (by decide), nm_r (e' := nI (N (x + 1, y + 1, z + 1))) (by rw [iw_11, nI_clamp (by omega), A1 _ hi3, c3]) (k54 _ n3.1 rfl)⟩
end
end
section
/-! the component: a pattern comes, changes, goes -/
def gv_P (e : gv_T) (np : Nat) (pa pb pc pd : Nat → Nat) : gv_T := (e.1, (np, pa, pb, pc, pd), e.2.2)
def gv_padd (e : gv_T) (x y z q : Nat) : gv_T := gv_P e (gv_np e + 1) (dp_u (gv_pa e) (gv_np e) x) (dp_u (gv_pb e) (gv_np e) y) (dp_u (gv_pc e) (gv_np e) z) (dp_u (gv_pd e) (gv_np e) q)
def gv_pset (e : gv_T) (i q : Nat) : gv_T := gv_P e (gv_np e) (gv_pa e) (gv_pb e) (gv_pc e) (dp_u (gv_pd e) i q)
def gv_pdel (e : gv_T) (i : Nat) : gv_T := gv_P e (gv_np e - 1) (dp_u (gv_pa e) i (gv_pa e (gv_np e - 1))) (dp_u (gv_pb e) i (gv_pb e (gv_np e - 1))) (dp_u (gv_pc e) i (gv_pc e (gv_np e - 1))) (dp_u (gv_pd e) i (gv_pd e (gv_np e - 1)))
/-- pattern p has the key (x + 1, y, z) -/
def gv_key (e : gv_T) (p x y z : Nat) : Prop := gv_pa e p = x ∧ gv_pb e p = y ∧ gv_pc e p = z
theorem okP_add {e : gv_T} (O : gv_okP e) {x y z q : Nat} (hn : gv_np e ≤ 9) (ho : tr_ok (x + 1, y, z)) (h1 : 1 ≤ q) (h2 : q < 10000) (hno : ∀ p, p < gv_np e → ¬ gv_key e p x y z) : gv_okP (gv_padd e x y z q) := by
  obtain ⟨o1, o2, o3⟩ := O
  obtain ⟨q1, q2, q3, q4, q5⟩ := ho
  dsimp only at q1 q2 q3 q4 q5
  refine ⟨by show gv_np e + 1 ≤ 10; omega, fun p hp => ?_, fun p p' hp hp' e1 e2 e3 => ?_⟩
  · have hp' : p < gv_np e + 1 := hp
    show dp_u (gv_pa e) (gv_np e) x p ≤ 10 ∧ dp_u (gv_pb e) (gv_np e) y p ≤ 11 ∧ dp_u (gv_pc e) (gv_np e) z p ≤ 11 ∧ (dp_u (gv_pb e) (gv_np e) y p = 0 → dp_u (gv_pc e) (gv_np e) z p = 0) ∧ 1 ≤ dp_u (gv_pd e) (gv_np e) q p ∧ dp_u (gv_pd e) (gv_np e) q p < 10000
    by_cases ep : p = gv_np e
    · rw [ep, dp_us, dp_us, dp_us, dp_us]
      exact ⟨by omega, q3, q4, q5, h1, h2⟩
    · rw [dp_un _ _ ep, dp_un _ _ ep, dp_un _ _ ep, dp_un _ _ ep]
      exact o2 p (by omega)
  · have hp1 : p < gv_np e + 1 := hp
    have hp2 : p' < gv_np e + 1 := hp'
    have e1' : dp_u (gv_pa e) (gv_np e) x p = dp_u (gv_pa e) (gv_np e) x p' := e1
    have e2' : dp_u (gv_pb e) (gv_np e) y p = dp_u (gv_pb e) (gv_np e) y p' := e2
    have e3' : dp_u (gv_pc e) (gv_np e) z p = dp_u (gv_pc e) (gv_np e) z p' := e3
    by_cases ep : p = gv_np e
    · by_cases ep' : p' = gv_np e
      · omega
      · rw [ep, dp_us, dp_un _ _ ep'] at e1' e2' e3'
        exact absurd ⟨e1'.symm, e2'.symm, e3'.symm⟩ (hno p' (by omega))
    · by_cases ep' : p' = gv_np e
      · rw [ep', dp_us, dp_un _ _ ep] at e1' e2' e3'
        exact absurd ⟨e1', e2', e3'⟩ (hno p (by omega))
      · rw [dp_un _ _ ep, dp_un _ _ ep'] at e1' e2' e3'
        exact o3 p p' (by omega) (by omega) e1' e2' e3'
theorem okP_set {e : gv_T} (O : gv_okP e) {i q : Nat} (h1 : 1 ≤ q) (h2 : q < 10000) : gv_okP (gv_pset e i q) := by
  obtain ⟨o1, o2, o3⟩ := O
  refine ⟨o1, fun p hp => ?_, o3⟩
  obtain ⟨b1, b2, b3, b4, b5, b6⟩ := o2 p hp
  refine ⟨b1, b2, b3, b4, ?_⟩
  show 1 ≤ dp_u (gv_pd e) i q p ∧ dp_u (gv_pd e) i q p < 10000
  by_cases ep : p = i
  · rw [ep, dp_us]; exact ⟨h1, h2⟩
  · rw [dp_un _ _ ep]; exact ⟨b5, b6⟩
theorem okP_del {e : gv_T} (O : gv_okP e) {i : Nat} (hi : i < gv_np e) : gv_okP (gv_pdel e i) := by
  obtain ⟨o1, o2, o3⟩ := O
  have src : ∀ p, p < gv_np e - 1 → ∃ p', p' < gv_np e ∧ p' ≠ i ∧ (p ≠ i → p' = p) ∧ (p = i → p' = gv_np e - 1) ∧ gv_pa (gv_pdel e i) p = gv_pa e p' ∧ gv_pb (gv_pdel e i) p = gv_pb e p' ∧ gv_pc (gv_pdel e i) p = gv_pc e p' ∧ gv_pd (gv_pdel e i) p = gv_pd e p' := by
    intro p hp
    by_cases ep : p = i
    · exact ⟨gv_np e - 1, by omega, by omega, fun z => absurd ep z, fun _ => rfl, by rw [ep]; exact dp_us _ _ _, by rw [ep]; exact dp_us _ _ _, by rw [ep]; exact dp_us _ _ _, by rw [ep]; exact dp_us _ _ _⟩
    · exact ⟨p, by omega, ep, fun _ => rfl, fun z => absurd z ep, dp_un _ _ ep, dp_un _ _ ep, dp_un _ _ ep, dp_un _ _ ep⟩
  refine ⟨by show gv_np e - 1 ≤ 10; omega, fun p hp => ?_, fun p p' hp hp' e1 e2 e3 => ?_⟩
  · obtain ⟨p', s1, -, -, -, s2, s3, s4, s5⟩ := src p hp
    rw [s2, s3, s4, s5]; exact o2 p' s1
  · obtain ⟨r, s1, s1', s1a, s1b, s2, s3, s4, s5⟩ := src p hp
    obtain ⟨r', t1, t1', t1a, t1b, t2, t3, t4, t5⟩ := src p' hp'
    rw [s2, t2] at e1
    rw [s3, t3] at e2
    rw [s4, t4] at e3
    have := o3 r r' s1 t1 e1 e2 e3
    have hp1 : p < gv_np e - 1 := hp
    have hp2 : p' < gv_np e - 1 := hp'
    by_cases c1 : p = i
    · have := s1b c1
      by_cases c2 : p' = i
      · omega
      · have := t1a c2; omega
    · have := s1a c1
      by_cases c2 : p' = i
      · have := t1b c2; omega
      · have := t1a c2; omega
theorem tr_inc (C : tr_K → Nat) (k w : tr_K) : tr_u C k (C k + 1) w = C w + (if w = k then 1 else 0) := by
  by_cases h : w = k
  · rw [h, tr_us, if_pos rfl]
  · rw [tr_un _ _ h, if_neg h]; rfl
theorem tr_dcr (C : tr_K → Nat) (k w : tr_K) : tr_u C k (C k - 1) w = C w - (if w = k then 1 else 0) := by
  by_cases h : w = k
  · rw [h, tr_us, if_pos rfl]
  · rw [tr_un _ _ h, if_neg h]; rfl
theorem tr_pr1 {x : Nat} {w : tr_K} (ho : tr_ok w) : (if tr_pr x 0 0 w = true then 1 else 0) = (if w = (x + 1, 0, 0) then 1 else 0) := by
  obtain ⟨a, b, c⟩ := w
  obtain ⟨q1, q2, q3, q4, q5⟩ := ho
  dsimp only at q1 q2 q3 q4 q5
  simp only [tr_pr, decide_eq_true_eq, Prod.mk.injEq]
  split <;> split <;> omega
theorem tr_pr2 {x y : Nat} {w : tr_K} (ho : tr_ok w) (hy : 0 < y) : (if tr_pr x y 0 w = true then 1 else 0) = (if w = (x + 1, 0, 0) then 1 else 0) + (if w = (x + 1, y, 0) then 1 else 0) := by
  obtain ⟨a, b, c⟩ := w
  obtain ⟨q1, q2, q3, q4, q5⟩ := ho
  dsimp only at q1 q2 q3 q4 q5
  simp only [tr_pr, decide_eq_true_eq, Prod.mk.injEq]
  split <;> split <;> split <;> omega
theorem tr_pr3 {x y z : Nat} {w : tr_K} (ho : tr_ok w) (hy : 0 < y) (hz : 0 < z) : (if tr_pr x y z w = true then 1 else 0) = (if w = (x + 1, 0, 0) then 1 else 0) + (if w = (x + 1, y, 0) then 1 else 0) + (if w = (x + 1, y, z) then 1 else 0) := by
  obtain ⟨a, b, c⟩ := w
  obtain ⟨q1, q2, q3, q4, q5⟩ := ho
  dsimp only at q1 q2 q3 q4 q5
  simp only [tr_pr, decide_eq_true_eq, Prod.mk.injEq]
  split <;> split <;> split <;> split <;> omega
theorem trC_add (e : gv_T) (x y z q : Nat) (w : tr_K) : tr_C (gv_padd e x y z q) w = tr_C e w + (if tr_pr x y z w = true then 1 else 0) := by
  show tr_cnt (fun p => tr_pr (dp_u (gv_pa e) (gv_np e) x p) (dp_u (gv_pb e) (gv_np e) y p) (dp_u (gv_pc e) (gv_np e) z p) w) (gv_np e) + (if tr_pr (dp_u (gv_pa e) (gv_np e) x (gv_np e)) (dp_u (gv_pb e) (gv_np e) y (gv_np e)) (dp_u (gv_pc e) (gv_np e) z (gv_np e)) w = true then 1 else 0) = _
  rw [dp_us, dp_us, dp_us]
  congr 1
  exact tr_cnt_c _ (fun p hp => by rw [dp_un _ _ (by omega), dp_un _ _ (by omega), dp_un _ _ (by omega)])
theorem trC_del (e : gv_T) {i : Nat} (hi : i < gv_np e) (w : tr_K) : tr_C (gv_pdel e i) w + (if tr_pr (gv_pa e i) (gv_pb e i) (gv_pc e i) w = true then 1 else 0) = tr_C e w := by
  obtain ⟨m, hm⟩ : ∃ m, gv_np e = m + 1 := ⟨gv_np e - 1, by omega⟩
  unfold tr_C
  rw [show gv_np (gv_pdel e i) = m from by show gv_np e - 1 = m; omega, hm]
  show _ = tr_cnt (fun p => tr_pr (gv_pa e p) (gv_pb e p) (gv_pc e p) w) m + (if tr_pr (gv_pa e m) (gv_pb e m) (gv_pc e m) w = true then 1 else 0)
  have e1 : gv_np e - 1 = m := by omega
  have hQ : ∀ p, p ≠ i → tr_pr (gv_pa (gv_pdel e i) p) (gv_pb (gv_pdel e i) p) (gv_pc (gv_pdel e i) p) w = tr_pr (gv_pa e p) (gv_pb e p) (gv_pc e p) w := by
    intro p hp
    show tr_pr (dp_u (gv_pa e) i _ p) (dp_u (gv_pb e) i _ p) (dp_u (gv_pc e) i _ p) w = _
    rw [dp_un _ _ hp, dp_un _ _ hp, dp_un _ _ hp]
  have hQi : tr_pr (gv_pa (gv_pdel e i) i) (gv_pb (gv_pdel e i) i) (gv_pc (gv_pdel e i) i) w = tr_pr (gv_pa e m) (gv_pb e m) (gv_pc e m) w := by
    show tr_pr (dp_u (gv_pa e) i (gv_pa e (gv_np e - 1)) i) (dp_u (gv_pb e) i (gv_pb e (gv_np e - 1)) i) (dp_u (gv_pc e) i (gv_pc e (gv_np e - 1)) i) w = _
    rw [dp_us, dp_us, dp_us, e1]
  by_cases him : i = m
  · rw [tr_cnt_c (Q := fun p => tr_pr (gv_pa (gv_pdel e i) p) (gv_pb (gv_pdel e i) p) (gv_pc (gv_pdel e i) p) w) m (fun p hp => hQ p (by omega)), him]
  · have := tr_cnt_u (Q := fun p => tr_pr (gv_pa e p) (gv_pb e p) (gv_pc e p) w) (Q' := fun p => tr_pr (gv_pa (gv_pdel e i) p) (gv_pb (gv_pdel e i) p) (gv_pc (gv_pdel e i) p) w) (i := i) m (by omega) (fun p hp hn => hQ p hn)
    rw [hQi] at this
    exact this
theorem trL_add (e : gv_T) (x y z q : Nat) : tr_L (gv_padd e x y z q) = tr_L e + (if y = 0 then 1 else if z = 0 then 2 else 3) := by
  show tr_ls (hy_nl (gv_padd e x y z q)) (gv_np e) + hy_nl (gv_padd e x y z q) (gv_np e) = _
  have h1 : hy_nl (gv_padd e x y z q) (gv_np e) = (if y = 0 then 1 else if z = 0 then 2 else 3) := by
    show (if dp_u (gv_pb e) (gv_np e) y (gv_np e) = 0 then 1 else if dp_u (gv_pc e) (gv_np e) z (gv_np e) = 0 then 2 else 3) = _
    rw [dp_us, dp_us]
  rw [h1, tr_ls_c (g := hy_nl e) (gv_np e) (fun p hp => ?_)]
  · rfl
  · show (if dp_u (gv_pb e) (gv_np e) y p = 0 then 1 else if dp_u (gv_pc e) (gv_np e) z p = 0 then 2 else 3) = _
    rw [dp_un _ _ (by omega), dp_un _ _ (by omega)]
    rfl
theorem trL_del (e : gv_T) {i : Nat} (hi : i < gv_np e) : tr_L (gv_pdel e i) + hy_nl e i = tr_L e := by
  obtain ⟨m, hm⟩ : ∃ m, gv_np e = m + 1 := ⟨gv_np e - 1, by omega⟩
  unfold tr_L
  rw [show gv_np (gv_pdel e i) = m from by show gv_np e - 1 = m; omega, hm]
  show _ = tr_ls (hy_nl e) m + hy_nl e m
  have e1 : gv_np e - 1 = m := by omega
  have hQ : ∀ p, p ≠ i → hy_nl (gv_pdel e i) p = hy_nl e p := by
    intro p hp
    show (if dp_u (gv_pb e) i _ p = 0 then 1 else if dp_u (gv_pc e) i _ p = 0 then 2 else 3) = _
    rw [dp_un _ _ hp, dp_un _ _ hp]
    rfl
  have hQi : hy_nl (gv_pdel e i) i = hy_nl e m := by
    show (if dp_u (gv_pb e) i (gv_pb e (gv_np e - 1)) i = 0 then 1 else if dp_u (gv_pc e) i (gv_pc e (gv_np e - 1)) i = 0 then 2 else 3) = _
    rw [dp_us, dp_us, e1]
    rfl
  by_cases him : i = m
  · rw [tr_ls_c (g := hy_nl e) m (fun p hp => hQ p (by omega)), him]
  · have := tr_ls_u (f := hy_nl e) (g := hy_nl (gv_pdel e i)) (i := i) m (by omega) (fun p hp hn => hQ p hn)
    rw [hQi] at this
    exact this
theorem tr_cnt_2 {Q : Nat → Bool} {p q : Nat} (hp : Q p = true) (hq : Q q = true) (hpq : p < q) : ∀ n, q < n → 2 ≤ tr_cnt Q n
  | 0, h => by omega
  | n + 1, h => by
    show 2 ≤ tr_cnt Q n + (if Q n = true then 1 else 0)
    by_cases e : q = n
    · have := tr_cnt_p hp n (by omega)
      rw [← e, if_pos hq]
      rw [← e] at this
      omega
    · have := tr_cnt_2 hp hq hpq n (by omega); omega
theorem tr_cnt_ex {Q : Nat → Bool} : ∀ n, tr_cnt Q n ≠ 0 → ∃ p, p < n ∧ Q p = true
  | 0, h => absurd rfl h
  | n + 1, h => by
    by_cases e : Q n = true
    · exact ⟨n, by omega, e⟩
    · have h' : tr_cnt Q n ≠ 0 := by
        intro z
        apply h
        show tr_cnt Q n + (if Q n = true then 1 else 0) = 0
        rw [z, if_neg e]
      obtain ⟨p, p1, p2⟩ := tr_cnt_ex n h'
      exact ⟨p, by omega, p2⟩
/-- the only pattern behind a beginning -/
theorem tr_only {e : gv_T} {w : tr_K} {i : Nat} (hi : i < gv_np e) (h : tr_pr (gv_pa e i) (gv_pb e i) (gv_pc e i) w = true) (h1 : tr_C e w = 1) {p : Nat} (hp : p < gv_np e) (hq : tr_pr (gv_pa e p) (gv_pb e p) (gv_pc e p) w = true) : p = i := by
  unfold tr_C at h1
  rcases Nat.lt_trichotomy p i with y | y | y
  · have := tr_cnt_2 (Q := fun p => tr_pr (gv_pa e p) (gv_pb e p) (gv_pc e p) w) hq h y _ hi; omega
  · exact y
  · have := tr_cnt_2 (Q := fun p => tr_pr (gv_pa e p) (gv_pb e p) (gv_pc e p) w) h hq y _ hp; omega
section
variable {C G N : tr_K → Nat} {ch us dg : Nat → Nat} {S : Nat}
theorem tr_shr (T : tr_T C G N ch us dg S) {w : tr_K} {l : Nat} (hw : tr_in N w) (hl : l < 11) (h1 : 1 ≤ C (tr_x w l)) (hG : C (tr_x w l) = 1 → G (tr_x w l) = 0) (hch : C (tr_x w l) = 1 → (tr_x w l).2.2 = 0 → ∀ l', l' < 11 → C (tr_x (tr_x w l) l') = 0) : ∃ N', (∀ w', w' ≠ tr_x w l → N' w' = N w') ∧ tr_T (tr_u C (tr_x w l) (C (tr_x w l) - 1)) G N' (if C (tr_x w l) - 1 = 0 then dp_u ch (11 * N w + l) 0 else ch) (dp_u us (N (tr_x w l)) (C (tr_x w l) - 1)) dg (S - 1) := by
  by_cases h : C (tr_x w l) = 1
  · refine ⟨tr_u N (tr_x w l) 0, fun w' hw' => tr_un _ _ hw', ?_⟩
    rw [h, if_pos rfl]
    exact tr_del T hw hl h (hG h) (hch h)
  · refine ⟨N, fun _ _ => rfl, ?_⟩
    rw [if_neg (by omega)]
    exact tr_dec T (tr_x_ok hw.1 (tr_in_ok hw) hl) (by omega)
end
theorem dp_comm (f : Nat → Nat) {i j a b : Nat} (h : i ≠ j) : dp_u (dp_u f i a) j b = dp_u (dp_u f j b) i a := by
  funext k
  by_cases h1 : k = j
  · subst h1
    rw [dp_us, dp_un _ _ (fun z => h z.symm), dp_us]
  · rw [dp_un _ _ h1]
    by_cases h2 : k = i
    · subst h2; rw [dp_us, dp_us]
    · rw [dp_un _ _ h2, dp_un _ _ h2, dp_un _ _ h1]
/-- a link goes if nobody uses it -/
def dp_z (u : Nat) (f : Nat → Nat) (i : Nat) : Nat → Nat := if u = 0 then dp_u f i 0 else f
theorem dp_z_c (u v : Nat) (f : Nat → Nat) (i j : Nat) : dp_z u (dp_z v f i) j = dp_z v (dp_z u f j) i := by
  unfold dp_z
  by_cases h : i = j
  · subst h
    split <;> split <;> rfl
  · split <;> split
    · exact dp_comm f h
    · rfl
    · rfl
    · rfl
theorem dp_z_n (u : Nat) (f : Nat → Nat) {i j : Nat} (h : j ≠ i) : dp_z u f i j = f j := by
  unfold dp_z
  split
  · exact dp_un _ _ h
  · rfl
section
variable {e : gv_T} {f_length f_known f_joins f_patterns f_first f_rest f_narrow f_gap f_stretch f_shrink f_tolerance f_cost f_height f_breaks f_lines f_paragraphs : Int32} {a_text a_allowed a_counts a_wide a_join a_kerns a_child a_digits a_uses a_ends a_begins a_hyphened a_before a_natural a_spaces a_way a_lineFrom a_lineTo a_linePart a_linePage a_lineWide a_lineBad a_lineHyphen : Nat → Int32} {a_least a_sums : Nat → Int64}
theorem xw_260 {post : Int32 → SX → Prop} {C G N : tr_K → Nat} {ch us dg : Nat → Nat} {S q : Nat} {k : tr_K} {x6 : Int32} (A : ex_A ch us dg a_child a_digits a_uses) (T : tr_T C G N ch us dg S) (hk : tr_ok k) (h0 : N k ≠ 0) (hq : q < 10000) (hx : x6 = nI (N k)) (h : ∀ ad, ex_A ch us (dp_u dg (N k) q) a_child ad a_uses → tr_T C (tr_u G k q) N ch us (dp_u dg (N k) q) S → post 1 (f_length, 0, f_joins, f_patterns, f_first, f_rest, f_narrow, f_gap, f_stretch, f_shrink, f_tolerance, f_cost, f_height, f_breaks, f_lines, f_paragraphs, a_text, a_allowed, a_counts, a_wide, a_join, a_kerns, a_child, ad, a_uses, a_ends, a_begins, a_hyphened, a_least, a_before, a_natural, a_spaces, a_way, a_lineFrom, a_lineTo, a_linePart, a_linePage, a_lineWide, a_lineBad, a_lineHyphen, a_sums)) : wX_pattern_260 post (nI q) x6 f_length f_known f_joins f_patterns f_first f_rest f_narrow f_gap f_stretch f_shrink f_tolerance f_cost f_height f_breaks f_lines f_paragraphs a_text a_allowed a_counts a_wide a_join a_kerns a_child a_digits a_uses a_ends a_begins a_hyphened a_least a_before a_natural a_spaces a_way a_lineFrom a_lineTo a_linePart a_linePage a_lineWide a_lineBad a_lineHyphen a_sums := by
  obtain ⟨A1, A2, A3⟩ := A
  have h32 := (T.2.1 k hk).1
  subst hx
  refine ⟨vp_in_nI h32 (by decide), nm_r (e' := upd a_digits (N k) (nI q)) (by rw [nI_clamp (by omega), iw_ss (by omega)]) ?_⟩
  show _ ∧ _
  refine ⟨rfl, h _ ⟨A1, fun v hv => ?_, A3⟩ (tr_dig T q hk h0)⟩
  by_cases ev : v = N k
  · rw [ev, pk_us, dp_us]
  · rw [pk_un ev, dp_un _ _ ev]; exact A2 v hv
theorem trG_add {G : tr_K → Nat} (hG : tr_G e G) {x y z q : Nat} (hno : ∀ p, p < gv_np e → ¬ gv_key e p x y z) : tr_G (gv_padd e x y z q) (tr_u G (x + 1, y, z) q) := by
  refine ⟨fun p hp => ?_, fun w ho hw => ?_⟩
  · have hp' : p < gv_np e + 1 := hp
    show tr_u G (x + 1, y, z) q (dp_u (gv_pa e) (gv_np e) x p + 1, dp_u (gv_pb e) (gv_np e) y p, dp_u (gv_pc e) (gv_np e) z p) = dp_u (gv_pd e) (gv_np e) q p
    by_cases ep : p = gv_np e
    · rw [ep, dp_us, dp_us, dp_us, dp_us, tr_us]
    · rw [dp_un _ _ ep, dp_un _ _ ep, dp_un _ _ ep, dp_un _ _ ep, tr_un]
      · exact hG.1 p (by omega)
      · intro z
        simp only [Prod.mk.injEq] at z
        exact hno p (by omega) ⟨by omega, z.2.1, z.2.2⟩
  · by_cases ew : w = (x + 1, y, z)
    · refine ⟨gv_np e, Nat.lt_succ_self _, ?_⟩
      show w = (dp_u (gv_pa e) (gv_np e) x (gv_np e) + 1, dp_u (gv_pb e) (gv_np e) y (gv_np e), dp_u (gv_pc e) (gv_np e) z (gv_np e))
      rw [dp_us, dp_us, dp_us]; exact ew
    · rw [tr_un _ _ ew] at hw
      obtain ⟨p, p1, p2⟩ := hG.2 w ho hw
      refine ⟨p, Nat.lt_succ_of_lt p1, ?_⟩
      show w = (dp_u (gv_pa e) (gv_np e) x p + 1, dp_u (gv_pb e) (gv_np e) y p, dp_u (gv_pc e) (gv_np e) z p)
      rw [dp_un _ _ (by omega), dp_un _ _ (by omega), dp_un _ _ (by omega)]; exact p2
theorem trG_set {G : tr_K → Nat} (O : gv_okP e) (hG : tr_G e G) {i q : Nat} (hi : i < gv_np e) (hq : 1 ≤ q) : tr_G (gv_pset e i q) (tr_u G (gv_pa e i + 1, gv_pb e i, gv_pc e i) q) := by
  refine ⟨fun p hp => ?_, fun w ho hw => ?_⟩
  · show tr_u G (gv_pa e i + 1, gv_pb e i, gv_pc e i) q (gv_pa e p + 1, gv_pb e p, gv_pc e p) = dp_u (gv_pd e) i q p
    by_cases ep : p = i
    · rw [ep, tr_us, dp_us]
    · rw [dp_un _ _ ep, tr_un]
      · exact hG.1 p hp
      · intro z
        simp only [Prod.mk.injEq] at z
        exact ep (O.2.2 p i hp hi (by omega) z.2.1 z.2.2)
  · by_cases ew : w = (gv_pa e i + 1, gv_pb e i, gv_pc e i)
    · exact ⟨i, hi, ew⟩
    · rw [tr_un _ _ ew] at hw
      exact hG.2 w ho hw
theorem trG_del {G : tr_K → Nat} (O : gv_okP e) (hG : tr_G e G) {i : Nat} (hi : i < gv_np e) : tr_G (gv_pdel e i) (tr_u G (gv_pa e i + 1, gv_pb e i, gv_pc e i) 0) := by
  refine ⟨fun p hp => ?_, fun w ho hw => ?_⟩
  · have hp' : p < gv_np e - 1 := hp
    show tr_u G _ 0 (dp_u (gv_pa e) i (gv_pa e (gv_np e - 1)) p + 1, dp_u (gv_pb e) i (gv_pb e (gv_np e - 1)) p, dp_u (gv_pc e) i (gv_pc e (gv_np e - 1)) p) = dp_u (gv_pd e) i (gv_pd e (gv_np e - 1)) p
    by_cases ep : p = i
    · rw [ep, dp_us, dp_us, dp_us, dp_us, tr_un]
      · exact hG.1 _ (by omega)
      · intro z
        simp only [Prod.mk.injEq] at z
        have := O.2.2 (gv_np e - 1) i (by omega) hi (by omega) z.2.1 z.2.2
        omega
    · rw [dp_un _ _ ep, dp_un _ _ ep, dp_un _ _ ep, dp_un _ _ ep, tr_un]
      · exact hG.1 p (by omega)
      · intro z
        simp only [Prod.mk.injEq] at z
        exact ep (O.2.2 p i (by omega) hi (by omega) z.2.1 z.2.2)
  · by_cases ew : w = (gv_pa e i + 1, gv_pb e i, gv_pc e i)
    · rw [ew, tr_us] at hw; exact absurd rfl hw
    · rw [tr_un _ _ ew] at hw
      obtain ⟨p, p1, p2⟩ := hG.2 w ho hw
      have hpi : p ≠ i := fun z => ew (by rw [p2, z])
      by_cases hpl : p = gv_np e - 1
      · refine ⟨i, by show i < gv_np e - 1; omega, ?_⟩
        show w = (dp_u (gv_pa e) i (gv_pa e (gv_np e - 1)) i + 1, dp_u (gv_pb e) i (gv_pb e (gv_np e - 1)) i, dp_u (gv_pc e) i (gv_pc e (gv_np e - 1)) i)
        rw [dp_us, dp_us, dp_us, ← hpl]; exact p2
      · refine ⟨p, by show p < gv_np e - 1; omega, ?_⟩
        show w = (dp_u (gv_pa e) i (gv_pa e (gv_np e - 1)) p + 1, dp_u (gv_pb e) i (gv_pb e (gv_np e - 1)) p, dp_u (gv_pc e) i (gv_pc e (gv_np e - 1)) p)
        rw [dp_un _ _ hpi, dp_un _ _ hpi, dp_un _ _ hpi]; exact p2
theorem xw_padd {post : Int32 → SX → Prop} {x y z q : Nat} {x6 : Int32} (X : ex_T e f_patterns a_child a_digits a_uses) (hn : gv_np e ≤ 9) (ho : tr_ok (x + 1, y, z)) (h1 : 1 ≤ q) (h2 : q < 10000) (hno : ∀ p, p < gv_np e → ¬ gv_key e p x y z)
    (h : ∀ fp ac ad au, ex_T (gv_padd e x y z q) fp ac ad au → post 1 (f_length, 0, f_joins, fp, f_first, f_rest, f_narrow, f_gap, f_stretch, f_shrink, f_tolerance, f_cost, f_height, f_breaks, f_lines, f_paragraphs, a_text, a_allowed, a_counts, a_wide, a_join, a_kerns, ac, ad, au, a_ends, a_begins, a_hyphened, a_least, a_before, a_natural, a_spaces, a_way, a_lineFrom, a_lineTo, a_linePart, a_linePage, a_lineWide, a_lineBad, a_lineHyphen, a_sums)) : wX_pattern_181 post (nI x) (nI y - 1) (nI z - 1) (nI q) (nI (if y = 0 then 1 else if z = 0 then 2 else 3)) x6 0 f_length f_known f_joins f_patterns f_first f_rest f_narrow f_gap f_stretch f_shrink f_tolerance f_cost f_height f_breaks f_lines f_paragraphs a_text a_allowed a_counts a_wide a_join a_kerns a_child a_digits a_uses a_ends a_begins a_hyphened a_least a_before a_natural a_spaces a_way a_lineFrom a_lineTo a_linePart a_linePage a_lineWide a_lineBad a_lineHyphen a_sums := by
  obtain ⟨X1, O, G, N, ch, us, dg, A, T, hG⟩ := X
  obtain ⟨q1, q2, q3, q4, q5⟩ := id ho
  dsimp only at q1 q2 q3 q4 q5
  have hx11 : x < 11 := by omega
  have hCb : ∀ w, tr_C e w ≤ 9 := fun w => Nat.le_trans (tr_cnt_b _ _) hn
  have hroot : tr_in N (0, 0, 0) := ⟨rfl, Or.inl rfl⟩
  have O' := okP_add O hn ho h1 h2 hno
  have hG' := trG_add hG (q := q) hno
  have efp : f_patterns + 1 = nI (gv_np e + 1) := by rw [X1, nI_1]
  have hLb : tr_L e ≤ 27 := Nat.le_trans (tr_ls_b (fun p => (hy_nl_b e p).2) _) (by omega)
  have hLa := trL_add e x y z q
  have hN0 : N (0, 0, 0) = 0 := T.1.1
  have o1 : tr_ok (x + 1, 0, 0) := ⟨q1, q2, by show (0:Nat) ≤ 11; omega, by show (0:Nat) ≤ 11; omega, fun _ => rfl⟩
  refine br_f (nI_ne0 (by omega) (by omega)) (br_t rfl (nm_r efp ?_))
  have e0 : (0 : Int32) = nI (N (0, 0, 0)) := by rw [hN0]; rfl
  rw [e0]
  refine xw_grow A T hroot hx11 (by omega) (by have := hCb (tr_x (0, 0, 0) x); omega) (fun N1 ch1 us1 ac1 au1 A1 T1 hn1 => ?_)
  have hx1 : tr_x (0, 0, 0) x = (x + 1, 0, 0) := rfl
  rw [hx1] at T1 hn1 ⊢
  by_cases y0 : y = 0
  · subst y0
    have z0 := q5 rfl
    subst z0
    refine br_t (by decide) (br_t (by decide) (xw_260 (f_patterns := nI (gv_np e + 1)) (a_child := ac1) (a_uses := au1) A1 T1 o1 hn1 h2 rfl (fun ad A2 T2 => h _ ac1 ad au1 ⟨rfl, O', _, N1, ch1, us1, _, A2, tr_cong T2 (by rw [hLa]; simp) (fun w hw => ?_) (fun _ _ => rfl), hG'⟩)))
    rw [trC_add, tr_inc, tr_pr1 hw]
  · obtain ⟨y, rfl⟩ : ∃ y', y = y' + 1 := ⟨y - 1, by omega⟩
    have o2 : tr_ok (x + 1, y + 1, 0) := tr_x_ok (w := (x + 1, 0, 0)) rfl (Or.inr o1) (by omega : y < 11)
    have hx2 : tr_x (x + 1, 0, 0) y = (x + 1, y + 1, 0) := rfl
    have hgt : ¬ nI (if y + 1 = 0 then 1 else if z = 0 then 2 else 3) ≤ 1 := by
      rw [if_neg (by omega)]
      split <;> decide
    rw [nI_pred]
    refine br_f hgt (xw_grow (f_patterns := nI (gv_np e + 1)) (a_child := ac1) (a_uses := au1) A1 T1 ⟨rfl, Or.inr ⟨o1, hn1⟩⟩ (by omega : y < 11) (by omega) (by rw [tr_inc]; have := hCb (tr_x (x + 1, 0, 0) y); split <;> omega) (fun N2 ch2 us2 ac2 au2 A2 T2 hn2 => ?_))
    rw [hx2] at T2 hn2 ⊢
    by_cases z0 : z = 0
    · subst z0
      refine br_t (by rw [if_neg (by omega), if_pos rfl]; decide) (xw_260 (f_patterns := nI (gv_np e + 1)) (a_child := ac2) (a_uses := au2) A2 T2 o2 hn2 h2 rfl (fun ad A3 T3 => h _ ac2 ad au2 ⟨rfl, O', _, N2, ch2, us2, _, A3, tr_cong T3 (by rw [hLa]; simp) (fun w hw => ?_) (fun _ _ => rfl), hG'⟩))
      rw [trC_add, tr_inc, tr_inc, tr_pr2 hw (by omega)]; omega
    · obtain ⟨z, rfl⟩ : ∃ z', z = z' + 1 := ⟨z - 1, by omega⟩
      have hx3 : tr_x (x + 1, y + 1, 0) z = (x + 1, y + 1, z + 1) := rfl
      rw [nI_pred]
      refine br_f (by rw [if_neg (by omega), if_neg (by omega)]; decide) (xw_grow (f_patterns := nI (gv_np e + 1)) (a_child := ac2) (a_uses := au2) A2 T2 ⟨rfl, Or.inr ⟨o2, hn2⟩⟩ (by omega : z < 11) (by omega) (by rw [tr_inc, tr_inc]; have := hCb (tr_x (x + 1, y + 1, 0) z); split <;> split <;> omega) (fun N3 ch3 us3 ac3 au3 A3 T3 hn3 => ?_))
      rw [hx3] at T3 hn3 ⊢
      refine xw_260 (f_patterns := nI (gv_np e + 1)) (a_child := ac3) (a_uses := au3) A3 T3 ho hn3 h2 rfl (fun ad A4 T4 => h _ ac3 ad au3 ⟨rfl, O', _, N3, ch3, us3, _, A4, tr_cong T4 (by rw [hLa]; simp) (fun w hw => ?_) (fun _ _ => rfl), hG'⟩)
      rw [trC_add, tr_inc, tr_inc, tr_inc, tr_pr3 hw (by omega) (by omega)]; omega
theorem xw_34 {post : SX → Prop} {ch us dg : Nat → Nat} {v : Nat} {x4 : Int32} (A : ex_A ch us dg a_child a_digits a_uses) (hv : v < 32) (hx : x4 = nI v) (h : ∀ ad, ex_A ch us (dp_u dg v 0) a_child ad a_uses → post (f_length, f_known, f_joins, f_patterns - 1, f_first, f_rest, f_narrow, f_gap, f_stretch, f_shrink, f_tolerance, f_cost, f_height, f_breaks, f_lines, f_paragraphs, a_text, a_allowed, a_counts, a_wide, a_join, a_kerns, a_child, ad, a_uses, a_ends, a_begins, a_hyphened, a_least, a_before, a_natural, a_spaces, a_way, a_lineFrom, a_lineTo, a_linePart, a_linePage, a_lineWide, a_lineBad, a_lineHyphen, a_sums)) : wX_remove_34 post x4 f_length f_known f_joins f_patterns f_first f_rest f_narrow f_gap f_stretch f_shrink f_tolerance f_cost f_height f_breaks f_lines f_paragraphs a_text a_allowed a_counts a_wide a_join a_kerns a_child a_digits a_uses a_ends a_begins a_hyphened a_least a_before a_natural a_spaces a_way a_lineFrom a_lineTo a_linePart a_linePage a_lineWide a_lineBad a_lineHyphen a_sums := by
  obtain ⟨A1, A2, A3⟩ := A
  subst hx
  refine ⟨vp_in_nI hv (by decide), nm_r (e' := upd a_digits v (nI 0)) (by rw [nI_clamp (by omega)]; rfl) (nm_e (h _ ⟨A1, fun u hu => ?_, A3⟩))⟩
  by_cases eu : u = v
  · rw [eu, pk_us, dp_us]
  · rw [pk_un eu, dp_un _ _ eu]; exact A2 u hu
theorem xw_pdel {post : SX → Prop} {i x y z : Nat} (X : ex_T e f_patterns a_child a_digits a_uses) (hi : i < gv_np e) (hx : gv_pa e i = x) (hy : gv_pb e i = y) (hz : gv_pc e i = z)
    (h : ∀ fp ac ad au, ex_T (gv_pdel e i) fp ac ad au → post (f_length, f_known, f_joins, fp, f_first, f_rest, f_narrow, f_gap, f_stretch, f_shrink, f_tolerance, f_cost, f_height, f_breaks, f_lines, f_paragraphs, a_text, a_allowed, a_counts, a_wide, a_join, a_kerns, ac, ad, au, a_ends, a_begins, a_hyphened, a_least, a_before, a_natural, a_spaces, a_way, a_lineFrom, a_lineTo, a_linePart, a_linePage, a_lineWide, a_lineBad, a_lineHyphen, a_sums)) : wpX_remove post (f_length, f_known, f_joins, f_patterns, f_first, f_rest, f_narrow, f_gap, f_stretch, f_shrink, f_tolerance, f_cost, f_height, f_breaks, f_lines, f_paragraphs, a_text, a_allowed, a_counts, a_wide, a_join, a_kerns, a_child, a_digits, a_uses, a_ends, a_begins, a_hyphened, a_least, a_before, a_natural, a_spaces, a_way, a_lineFrom, a_lineTo, a_linePart, a_linePage, a_lineWide, a_lineBad, a_lineHyphen, a_sums) (nI x) (nI y - 1) (nI z - 1) := by
  subst hx hy hz
  obtain ⟨X1, O, G, N, ch, us, dg, A, T, hG⟩ := X
  have ho := tr_key O hi
  obtain ⟨q1, q2, q3, q4, q5⟩ := id ho
  dsimp only at q1 q2 q3 q4 q5
  have hx11 : gv_pa e i < 11 := by omega
  have O' := okP_del O hi
  have hG' := trG_del O hG hi
  have hLd := trL_del e hi
  have hCd := trC_del e hi
  have efp : f_patterns - 1 = nI (gv_np e - 1) := by rw [X1, nI_m1 (by omega)]
  obtain ⟨⟨a1, a1'⟩, a2, a3, a4, a5, a6, a7, a8⟩ := id T
  have hCb : ∀ w, tr_C e w ≤ 10 := fun w => Nat.le_trans (tr_cnt_b _ _) O.1
  have hroot : tr_in N (0, 0, 0) := ⟨rfl, Or.inl rfl⟩
  have o1 : tr_ok (gv_pa e i + 1, 0, 0) := ⟨q1, q2, by show (0:Nat) ≤ 11; omega, by show (0:Nat) ≤ 11; omega, fun _ => rfl⟩
  -- every beginning of the key is in use
  have use : ∀ w, tr_ok w → tr_pr (gv_pa e i) (gv_pb e i) (gv_pc e i) w = true → 1 ≤ tr_C e w ∧ N w ≠ 0 ∧ N w < 32 ∧ us (N w) = tr_C e w - 1 + 1 := by
    intro w hw hp
    have hc := tr_cnt_p (Q := fun p => tr_pr (gv_pa e p) (gv_pb e p) (gv_pc e p) w) hp _ hi
    have hc' : 1 ≤ tr_C e w := hc
    obtain ⟨b1, b2, b3, b4⟩ := a2 w hw
    have hn : N w ≠ 0 := fun y => by have := b2.mp y; omega
    exact ⟨hc', hn, b1, by rw [(b3 hn).1]; omega⟩
  have gz : ∀ w, tr_ok w → tr_pr (gv_pa e i) (gv_pb e i) (gv_pc e i) w = true → tr_C e w = 1 → tr_u G (gv_pa e i + 1, gv_pb e i, gv_pc e i) 0 w = 0 := by
    intro w hw hp h1
    by_cases ew : w = (gv_pa e i + 1, gv_pb e i, gv_pc e i)
    · rw [ew, tr_us]
    · rw [tr_un _ _ ew]
      rcases Nat.eq_zero_or_pos (G w) with y | y
      · exact y
      · exfalso
        obtain ⟨p, p1, p2⟩ := hG.2 w hw (by omega)
        have : p = i := tr_only hi hp h1 p1 (by rw [p2]; exact decide_eq_true ⟨rfl, Or.inr rfl, Or.inr rfl⟩)
        rw [this] at p2
        exact ew p2
  have hp1 : tr_pr (gv_pa e i) (gv_pb e i) (gv_pc e i) (gv_pa e i + 1, 0, 0) = true := decide_eq_true ⟨rfl, Or.inl rfl, Or.inl rfl⟩
  obtain ⟨c1, n1, n1', u1⟩ := use _ o1 hp1
  have hch1 : ch (11 * 0 + gv_pa e i) = N (gv_pa e i + 1, 0, 0) := by
    have := a5 (0, 0, 0) (gv_pa e i) hroot hx11
    rw [a1] at this
    exact this
  have b1 := hCb (gv_pa e i + 1, 0, 0)
  unfold wpX_remove
  refine xw_shrink (node := 0) A (by omega) hch1 n1' u1 (by omega) (fun ac1 au1 A1 => ?_)
  by_cases y0 : gv_pb e i = 0
  · have z0 := q5 y0
    rw [y0, z0] at ho hG' gz hp1 hCd ⊢
    refine br_t (by decide) (br_t (by decide) (xw_34 (a_child := ac1) (a_uses := au1) A1 n1' rfl (fun ad A2 => ?_)))
    rw [efp]
    refine h _ ac1 ad au1 ⟨rfl, O', ?_⟩
    have T0 := tr_dig T 0 o1 n1
    have hcl : tr_C e (gv_pa e i + 1, 0, 0) = 1 → ((gv_pa e i + 1, 0, 0) : tr_K).2.2 = 0 → ∀ l', l' < 11 → tr_C e (tr_x (gv_pa e i + 1, 0, 0) l') = 0 := by
      intro hc _ l' hl'
      rcases Nat.eq_zero_or_pos (tr_C e (tr_x (gv_pa e i + 1, 0, 0) l')) with y | y
      · exact y
      · exfalso
        obtain ⟨p, p1, p2⟩ := tr_cnt_ex _ (show tr_cnt (fun p => tr_pr (gv_pa e p) (gv_pb e p) (gv_pc e p) (gv_pa e i + 1, l' + 1, 0)) (gv_np e) ≠ 0 from by have : 0 < tr_C e (gv_pa e i + 1, l' + 1, 0) := y; unfold tr_C at this; omega)
        have g := of_decide_eq_true p2
        dsimp only at g
        have : p = i := tr_only hi (by rw [y0, z0]; exact hp1) hc p1 (decide_eq_true ⟨by show gv_pa e p + 1 = gv_pa e i + 1; omega, Or.inl rfl, Or.inl rfl⟩)
        rw [this, y0] at g
        omega
    obtain ⟨N', hN', T1⟩ := tr_shr (w := (0, 0, 0)) (l := gv_pa e i) T0 hroot hx11 c1 (fun hc => gz _ o1 hp1 hc) hcl
    rw [a1] at T1
    refine ⟨_, N', _, _, _, A2, tr_cong T1 ?_ (fun w hw => ?_) (fun _ _ => rfl), hG'⟩
    · have : hy_nl e i = 1 := nl_1 y0
      omega
    · have h1 := hCd w
      have h2 := tr_pr1 (x := gv_pa e i) hw
      have h3 := tr_dcr (tr_C e) (gv_pa e i + 1, 0, 0) w
      show tr_C (gv_pdel e i) w = tr_u (tr_C e) (gv_pa e i + 1, 0, 0) (tr_C e (gv_pa e i + 1, 0, 0) - 1) w
      omega
  · obtain ⟨y, hy⟩ : ∃ y, gv_pb e i = y + 1 := ⟨gv_pb e i - 1, by omega⟩
    rw [hy] at ho hG' gz hp1 hCd q3 q5 use ⊢
    have o2 : tr_ok (gv_pa e i + 1, y + 1, 0) := tr_x_ok (w := (gv_pa e i + 1, 0, 0)) rfl (Or.inr o1) (by omega : y < 11)
    have hp2 : tr_pr (gv_pa e i) (y + 1) (gv_pc e i) (gv_pa e i + 1, y + 1, 0) = true := decide_eq_true ⟨rfl, Or.inr rfl, Or.inl rfl⟩
    obtain ⟨c2, n2, n2', u2⟩ := use _ o2 hp2
    have b2 := hCb (gv_pa e i + 1, y + 1, 0)
    have hin1 : tr_in N (gv_pa e i + 1, 0, 0) := ⟨rfl, Or.inr ⟨o1, n1⟩⟩
    have hch2 : ch (11 * N (gv_pa e i + 1, 0, 0) + y) = N (gv_pa e i + 1, y + 1, 0) := a5 (gv_pa e i + 1, 0, 0) y hin1 (by omega)
    have n12 : N (gv_pa e i + 1, y + 1, 0) ≠ N (gv_pa e i + 1, 0, 0) := by
      intro w
      have := a3 _ _ o2 o1 w n2
      simp only [Prod.mk.injEq] at this
      omega
    have A1' : ex_A (dp_z (tr_C e (gv_pa e i + 1, 0, 0) - 1) ch (11 * 0 + gv_pa e i)) (dp_u us (N (gv_pa e i + 1, 0, 0)) (tr_C e (gv_pa e i + 1, 0, 0) - 1)) dg ac1 a_digits au1 := A1
    rw [nI_pred]
    refine br_f (nI_pos (by omega)) (xw_shrink (a_child := ac1) (a_uses := au1) (node := N (gv_pa e i + 1, 0, 0)) (l := y) (v := N (gv_pa e i + 1, y + 1, 0)) (u := tr_C e (gv_pa e i + 1, y + 1, 0) - 1) A1' (by omega) ?_ n2' ?_ (by omega) (fun ac2 au2 A2 => ?_))
    · rw [dp_z_n _ _ (by omega)]; exact hch2
    · rw [dp_un _ _ n12]; exact u2
    have A2' : ex_A (dp_z (tr_C e (gv_pa e i + 1, y + 1, 0) - 1) (dp_z (tr_C e (gv_pa e i + 1, 0, 0) - 1) ch (11 * 0 + gv_pa e i)) (11 * N (gv_pa e i + 1, 0, 0) + y)) (dp_u (dp_u us (N (gv_pa e i + 1, 0, 0)) (tr_C e (gv_pa e i + 1, 0, 0) - 1)) (N (gv_pa e i + 1, y + 1, 0)) (tr_C e (gv_pa e i + 1, y + 1, 0) - 1)) dg ac2 a_digits au2 := A2
    -- only pattern i lies behind a beginning with one use
    have only : ∀ w w', tr_pr (gv_pa e i) (y + 1) (gv_pc e i) w = true → tr_C e w = 1 → (∀ p, tr_pr (gv_pa e p) (gv_pb e p) (gv_pc e p) w' = true → tr_pr (gv_pa e p) (gv_pb e p) (gv_pc e p) w = true) → tr_C e w' ≠ 0 → tr_pr (gv_pa e i) (y + 1) (gv_pc e i) w' = true := by
      intro w w' hw h1 hm hc
      obtain ⟨p, p1, p2⟩ := tr_cnt_ex _ (show tr_cnt (fun p => tr_pr (gv_pa e p) (gv_pb e p) (gv_pc e p) w') (gv_np e) ≠ 0 from hc)
      have : p = i := tr_only hi (by rw [hy]; exact hw) h1 p1 (hm p p2)
      rw [this, hy] at p2
      exact p2
    have le1 : ∀ w w', (∀ p, tr_pr (gv_pa e p) (gv_pb e p) (gv_pc e p) w' = true → tr_pr (gv_pa e p) (gv_pb e p) (gv_pc e p) w = true) → tr_C e w' ≤ tr_C e w := fun w w' hm => tr_cnt_m _ (fun p _ hp => hm p hp)
    have pm1 : ∀ b p, tr_pr (gv_pa e p) (gv_pb e p) (gv_pc e p) (gv_pa e i + 1, b, 0) = true → tr_pr (gv_pa e p) (gv_pb e p) (gv_pc e p) (gv_pa e i + 1, 0, 0) = true := fun b p hp => decide_eq_true ⟨(of_decide_eq_true hp).1, Or.inl rfl, Or.inl rfl⟩
    have pm2 : ∀ c p, tr_pr (gv_pa e p) (gv_pb e p) (gv_pc e p) (gv_pa e i + 1, y + 1, c) = true → tr_pr (gv_pa e p) (gv_pb e p) (gv_pc e p) (gv_pa e i + 1, y + 1, 0) = true := fun c p hp => decide_eq_true ⟨(of_decide_eq_true hp).1, (of_decide_eq_true hp).2.1, Or.inl rfl⟩
    by_cases z0 : gv_pc e i = 0
    · rw [z0] at ho hG' gz hp1 hp2 hCd only ⊢
      refine br_t (by decide) (xw_34 (a_child := ac2) (a_uses := au2) A2' n2' rfl (fun ad A3 => ?_))
      rw [efp]
      refine h _ ac2 ad au2 ⟨rfl, O', ?_⟩
      have T0 := tr_dig T 0 o2 n2
      have hcl2 : tr_C e (gv_pa e i + 1, y + 1, 0) = 1 → ((gv_pa e i + 1, y + 1, 0) : tr_K).2.2 = 0 → ∀ l', l' < 11 → tr_C e (tr_x (gv_pa e i + 1, y + 1, 0) l') = 0 := by
        intro hc _ l' hl'
        rcases Nat.eq_zero_or_pos (tr_C e (tr_x (gv_pa e i + 1, y + 1, 0) l')) with w | w
        · exact w
        · exfalso
          have hc' : tr_C e (gv_pa e i + 1, y + 1, l' + 1) ≠ 0 := by have : 0 < tr_C e (gv_pa e i + 1, y + 1, l' + 1) := w; omega
          have := of_decide_eq_true (only (gv_pa e i + 1, y + 1, 0) (gv_pa e i + 1, y + 1, l' + 1) hp2 hc (pm2 (l' + 1)) hc')
          dsimp only at this
          omega
      obtain ⟨NA, hNA, TA⟩ := tr_shr (w := (gv_pa e i + 1, 0, 0)) (l := y) T0 hin1 (by omega) c2 (fun hc => gz _ o2 hp2 hc) hcl2
      have eA1 : NA (gv_pa e i + 1, 0, 0) = N (gv_pa e i + 1, 0, 0) := hNA _ (fun w => n12 (by rw [w]; rfl))
      have eA0 : NA (0, 0, 0) = 0 := TA.1.1
      have eC1 : tr_u (tr_C e) (tr_x (gv_pa e i + 1, 0, 0) y) (tr_C e (tr_x (gv_pa e i + 1, 0, 0) y) - 1) (gv_pa e i + 1, 0, 0) = tr_C e (gv_pa e i + 1, 0, 0) := tr_un _ _ (fun w => n12 (by rw [w]; rfl))
      have hcl1 : tr_u (tr_C e) (tr_x (gv_pa e i + 1, 0, 0) y) (tr_C e (tr_x (gv_pa e i + 1, 0, 0) y) - 1) (gv_pa e i + 1, 0, 0) = 1 → ((gv_pa e i + 1, 0, 0) : tr_K).2.2 = 0 → ∀ l', l' < 11 → tr_u (tr_C e) (tr_x (gv_pa e i + 1, 0, 0) y) (tr_C e (tr_x (gv_pa e i + 1, 0, 0) y) - 1) (tr_x (gv_pa e i + 1, 0, 0) l') = 0 := by
        intro hc _ l' hl'
        rw [eC1] at hc
        by_cases el : l' = y
        · rw [el, tr_us]
          have := le1 (gv_pa e i + 1, 0, 0) (gv_pa e i + 1, y + 1, 0) (pm1 (y + 1))
          show tr_C e (gv_pa e i + 1, y + 1, 0) - 1 = 0
          omega
        · rw [tr_un _ _ (fun w => by
            have w' : ((gv_pa e i + 1, l' + 1, 0) : tr_K) = (gv_pa e i + 1, y + 1, 0) := w
            simp only [Prod.mk.injEq] at w'
            omega)]
          rcases Nat.eq_zero_or_pos (tr_C e (tr_x (gv_pa e i + 1, 0, 0) l')) with w | w
          · exact w
          · exfalso
            have hc' : tr_C e (gv_pa e i + 1, l' + 1, 0) ≠ 0 := by have : 0 < tr_C e (gv_pa e i + 1, l' + 1, 0) := w; omega
            have := of_decide_eq_true (only (gv_pa e i + 1, 0, 0) (gv_pa e i + 1, l' + 1, 0) hp1 hc (pm1 (l' + 1)) hc')
            dsimp only at this
            omega
      obtain ⟨NB, hNB, TB⟩ := tr_shr (w := (0, 0, 0)) (l := gv_pa e i) TA ⟨rfl, Or.inl rfl⟩ hx11 (by show 1 ≤ tr_u _ _ _ (gv_pa e i + 1, 0, 0); rw [eC1]; exact c1) (fun hc => by
        have hc' : tr_u (tr_C e) (tr_x (gv_pa e i + 1, 0, 0) y) (tr_C e (tr_x (gv_pa e i + 1, 0, 0) y) - 1) (gv_pa e i + 1, 0, 0) = 1 := hc
        rw [eC1] at hc'
        exact gz _ o1 hp1 hc') hcl1
      have x1 : tr_x (0, 0, 0) (gv_pa e i) = (gv_pa e i + 1, 0, 0) := rfl
      have x2 : tr_x (gv_pa e i + 1, 0, 0) y = (gv_pa e i + 1, y + 1, 0) := rfl
      rw [x1, eA0, eA1, eC1] at TB
      rw [x2] at TB
      refine ⟨_, NB, _, _, _, A3, ?_, hG'⟩
      rw [dp_z_c, dp_comm us (fun w => n12 w.symm)]
      refine tr_cong TB ?_ (fun w hw => ?_) (fun _ _ => rfl)
      · have : hy_nl e i = 2 := nl_2 y0 z0
        omega
      · have h1 := hCd w
        have h2 := tr_pr2 (x := gv_pa e i) (y := y + 1) hw (by omega)
        have h3 := tr_dcr (tr_u (tr_C e) (gv_pa e i + 1, y + 1, 0) (tr_C e (gv_pa e i + 1, y + 1, 0) - 1)) (gv_pa e i + 1, 0, 0) w
        have h4 := tr_dcr (tr_C e) (gv_pa e i + 1, y + 1, 0) w
        rw [x2] at eC1
        rw [eC1] at h3
        show tr_C (gv_pdel e i) w = _
        omega
    · obtain ⟨z, hz⟩ : ∃ z, gv_pc e i = z + 1 := ⟨gv_pc e i - 1, by omega⟩
      rw [hz] at ho hG' gz hp1 hp2 hCd only q4 q5 use ⊢
      have o3 : tr_ok (gv_pa e i + 1, y + 1, z + 1) := tr_x_ok (w := (gv_pa e i + 1, y + 1, 0)) rfl (Or.inr o2) (by omega : z < 11)
      have hp3 : tr_pr (gv_pa e i) (y + 1) (z + 1) (gv_pa e i + 1, y + 1, z + 1) = true := decide_eq_true ⟨rfl, Or.inr rfl, Or.inr rfl⟩
      obtain ⟨c3, n3, n3', u3⟩ := use _ o3 hp3
      have b3 := hCb (gv_pa e i + 1, y + 1, z + 1)
      have hin2 : tr_in N (gv_pa e i + 1, y + 1, 0) := ⟨rfl, Or.inr ⟨o2, n2⟩⟩
      have hch3 : ch (11 * N (gv_pa e i + 1, y + 1, 0) + z) = N (gv_pa e i + 1, y + 1, z + 1) := a5 (gv_pa e i + 1, y + 1, 0) z hin2 (by omega)
      have n32 : N (gv_pa e i + 1, y + 1, z + 1) ≠ N (gv_pa e i + 1, y + 1, 0) := by
        intro w
        have := a3 _ _ o3 o2 w n3
        simp only [Prod.mk.injEq] at this
        omega
      have n31 : N (gv_pa e i + 1, y + 1, z + 1) ≠ N (gv_pa e i + 1, 0, 0) := by
        intro w
        have := a3 _ _ o3 o1 w n3
        simp only [Prod.mk.injEq] at this
        omega
      have k32 : ((gv_pa e i + 1, y + 1, 0) : tr_K) ≠ (gv_pa e i + 1, y + 1, z + 1) := fun w => n32 (by rw [← w])
      have k31 : ((gv_pa e i + 1, 0, 0) : tr_K) ≠ (gv_pa e i + 1, y + 1, z + 1) := fun w => n31 (by rw [← w])
      have k21 : ((gv_pa e i + 1, 0, 0) : tr_K) ≠ (gv_pa e i + 1, y + 1, 0) := fun w => n12 (by rw [← w])
      rw [nI_pred]
      refine br_f (nI_pos (by omega)) (xw_shrink (a_child := ac2) (a_uses := au2) (node := N (gv_pa e i + 1, y + 1, 0)) (l := z) (v := N (gv_pa e i + 1, y + 1, z + 1)) (u := tr_C e (gv_pa e i + 1, y + 1, z + 1) - 1) A2' (by omega) ?_ n3' ?_ (by omega) (fun ac3 au3 A3 => ?_))
      · rw [dp_z_n _ _ (by omega), dp_z_n _ _ (by omega)]; exact hch3
      · rw [dp_un _ _ n32, dp_un _ _ n31]; exact u3
      have A3' : ex_A (dp_z (tr_C e (gv_pa e i + 1, y + 1, z + 1) - 1) (dp_z (tr_C e (gv_pa e i + 1, y + 1, 0) - 1) (dp_z (tr_C e (gv_pa e i + 1, 0, 0) - 1) ch (11 * 0 + gv_pa e i)) (11 * N (gv_pa e i + 1, 0, 0) + y)) (11 * N (gv_pa e i + 1, y + 1, 0) + z)) (dp_u (dp_u (dp_u us (N (gv_pa e i + 1, 0, 0)) (tr_C e (gv_pa e i + 1, 0, 0) - 1)) (N (gv_pa e i + 1, y + 1, 0)) (tr_C e (gv_pa e i + 1, y + 1, 0) - 1)) (N (gv_pa e i + 1, y + 1, z + 1)) (tr_C e (gv_pa e i + 1, y + 1, z + 1) - 1)) dg ac3 a_digits au3 := A3
      refine xw_34 (a_child := ac3) (a_uses := au3) A3' n3' rfl (fun ad A4 => ?_)
      rw [efp]
      refine h _ ac3 ad au3 ⟨rfl, O', ?_⟩
      have T0 := tr_dig T 0 o3 n3
      obtain ⟨NA, hNA, TA⟩ := tr_shr (w := (gv_pa e i + 1, y + 1, 0)) (l := z) T0 hin2 (by omega) c3 (fun hc => gz _ o3 hp3 hc) (fun _ hz0 => absurd hz0 (by show z + 1 ≠ 0; omega))
      have x1 : tr_x (0, 0, 0) (gv_pa e i) = (gv_pa e i + 1, 0, 0) := rfl
      have x2 : tr_x (gv_pa e i + 1, 0, 0) y = (gv_pa e i + 1, y + 1, 0) := rfl
      have x3 : tr_x (gv_pa e i + 1, y + 1, 0) z = (gv_pa e i + 1, y + 1, z + 1) := rfl
      rw [x3] at TA hNA
      have eA1 : NA (gv_pa e i + 1, 0, 0) = N (gv_pa e i + 1, 0, 0) := hNA _ k31
      have eA2 : NA (gv_pa e i + 1, y + 1, 0) = N (gv_pa e i + 1, y + 1, 0) := hNA _ k32
      have eC2 : (tr_u (tr_C e) (gv_pa e i + 1, y + 1, z + 1) (tr_C e (gv_pa e i + 1, y + 1, z + 1) - 1)) (gv_pa e i + 1, y + 1, 0) = tr_C e (gv_pa e i + 1, y + 1, 0) := tr_un _ _ k32
      have eC1 : (tr_u (tr_C e) (gv_pa e i + 1, y + 1, z + 1) (tr_C e (gv_pa e i + 1, y + 1, z + 1) - 1)) (gv_pa e i + 1, 0, 0) = tr_C e (gv_pa e i + 1, 0, 0) := tr_un _ _ k31
      have hcl2 : (tr_u (tr_C e) (gv_pa e i + 1, y + 1, z + 1) (tr_C e (gv_pa e i + 1, y + 1, z + 1) - 1)) (tr_x (gv_pa e i + 1, 0, 0) y) = 1 → (tr_x (gv_pa e i + 1, 0, 0) y).2.2 = 0 → ∀ l', l' < 11 → (tr_u (tr_C e) (gv_pa e i + 1, y + 1, z + 1) (tr_C e (gv_pa e i + 1, y + 1, z + 1) - 1)) (tr_x (tr_x (gv_pa e i + 1, 0, 0) y) l') = 0 := by
        intro hc _ l' hl'
        have hc : (tr_u (tr_C e) (gv_pa e i + 1, y + 1, z + 1) (tr_C e (gv_pa e i + 1, y + 1, z + 1) - 1)) (gv_pa e i + 1, y + 1, 0) = 1 := hc
        rw [eC2] at hc
        show (tr_u (tr_C e) (gv_pa e i + 1, y + 1, z + 1) (tr_C e (gv_pa e i + 1, y + 1, z + 1) - 1)) (gv_pa e i + 1, y + 1, l' + 1) = 0
        by_cases el : l' = z
        · rw [el, tr_us]
          have := le1 (gv_pa e i + 1, y + 1, 0) (gv_pa e i + 1, y + 1, z + 1) (pm2 (z + 1))
          omega
        · rw [tr_un _ _ (fun w => by simp only [Prod.mk.injEq] at w; omega)]
          rcases Nat.eq_zero_or_pos (tr_C e (gv_pa e i + 1, y + 1, l' + 1)) with w | w
          · exact w
          · exfalso
            have := of_decide_eq_true (only (gv_pa e i + 1, y + 1, 0) (gv_pa e i + 1, y + 1, l' + 1) hp2 hc (pm2 (l' + 1)) (by omega))
            dsimp only at this
            omega
      obtain ⟨NB, hNB, TB⟩ := tr_shr (w := (gv_pa e i + 1, 0, 0)) (l := y) TA ⟨rfl, Or.inr ⟨o1, by rw [eA1]; exact n1⟩⟩ (by omega) (by rw [x2, eC2]; exact c2) (fun hc => by
        rw [x2, eC2] at hc
        exact gz _ o2 hp2 hc) hcl2
      rw [x2, eA1, eA2, eC2] at TB
      rw [x2] at hNB
      have eB1 : NB (gv_pa e i + 1, 0, 0) = N (gv_pa e i + 1, 0, 0) := (hNB _ k21).trans eA1
      have eB0 : NB (0, 0, 0) = 0 := TB.1.1
      have eD1 : (tr_u (tr_u (tr_C e) (gv_pa e i + 1, y + 1, z + 1) (tr_C e (gv_pa e i + 1, y + 1, z + 1) - 1)) (gv_pa e i + 1, y + 1, 0) (tr_C e (gv_pa e i + 1, y + 1, 0) - 1)) (gv_pa e i + 1, 0, 0) = tr_C e (gv_pa e i + 1, 0, 0) := (tr_un _ _ k21).trans eC1
      have hcl1 : (tr_u (tr_u (tr_C e) (gv_pa e i + 1, y + 1, z + 1) (tr_C e (gv_pa e i + 1, y + 1, z + 1) - 1)) (gv_pa e i + 1, y + 1, 0) (tr_C e (gv_pa e i + 1, y + 1, 0) - 1)) (tr_x (0, 0, 0) (gv_pa e i)) = 1 → (tr_x (0, 0, 0) (gv_pa e i)).2.2 = 0 → ∀ l', l' < 11 → (tr_u (tr_u (tr_C e) (gv_pa e i + 1, y + 1, z + 1) (tr_C e (gv_pa e i + 1, y + 1, z + 1) - 1)) (gv_pa e i + 1, y + 1, 0) (tr_C e (gv_pa e i + 1, y + 1, 0) - 1)) (tr_x (tr_x (0, 0, 0) (gv_pa e i)) l') = 0 := by
        intro hc _ l' hl'
        have hc : (tr_u (tr_u (tr_C e) (gv_pa e i + 1, y + 1, z + 1) (tr_C e (gv_pa e i + 1, y + 1, z + 1) - 1)) (gv_pa e i + 1, y + 1, 0) (tr_C e (gv_pa e i + 1, y + 1, 0) - 1)) (gv_pa e i + 1, 0, 0) = 1 := hc
        rw [eD1] at hc
        show (tr_u (tr_u (tr_C e) (gv_pa e i + 1, y + 1, z + 1) (tr_C e (gv_pa e i + 1, y + 1, z + 1) - 1)) (gv_pa e i + 1, y + 1, 0) (tr_C e (gv_pa e i + 1, y + 1, 0) - 1)) (gv_pa e i + 1, l' + 1, 0) = 0
        by_cases el : l' = y
        · rw [el, tr_us]
          have := le1 (gv_pa e i + 1, 0, 0) (gv_pa e i + 1, y + 1, 0) (pm1 (y + 1))
          omega
        · rw [tr_un _ _ (fun w => by simp only [Prod.mk.injEq] at w; omega), tr_un _ _ (fun w => by simp only [Prod.mk.injEq] at w; omega)]
          rcases Nat.eq_zero_or_pos (tr_C e (gv_pa e i + 1, l' + 1, 0)) with w | w
          · exact w
          · exfalso
            have := of_decide_eq_true (only (gv_pa e i + 1, 0, 0) (gv_pa e i + 1, l' + 1, 0) hp1 hc (pm1 (l' + 1)) (by omega))
            dsimp only at this
            omega
      obtain ⟨ND, hND, TD⟩ := tr_shr (w := (0, 0, 0)) (l := gv_pa e i) TB ⟨rfl, Or.inl rfl⟩ hx11 (by rw [x1, eD1]; exact c1) (fun hc => by
        rw [x1, eD1] at hc
        exact gz _ o1 hp1 hc) hcl1
      rw [x1, eB0, eB1, eD1] at TD
      refine ⟨_, ND, _, _, _, A4, ?_, hG'⟩
      have ech : dp_z (tr_C e (gv_pa e i + 1, y + 1, z + 1) - 1) (dp_z (tr_C e (gv_pa e i + 1, y + 1, 0) - 1) (dp_z (tr_C e (gv_pa e i + 1, 0, 0) - 1) ch (11 * 0 + gv_pa e i)) (11 * N (gv_pa e i + 1, 0, 0) + y)) (11 * N (gv_pa e i + 1, y + 1, 0) + z) = dp_z (tr_C e (gv_pa e i + 1, 0, 0) - 1) (dp_z (tr_C e (gv_pa e i + 1, y + 1, 0) - 1) (dp_z (tr_C e (gv_pa e i + 1, y + 1, z + 1) - 1) ch (11 * N (gv_pa e i + 1, y + 1, 0) + z)) (11 * N (gv_pa e i + 1, 0, 0) + y)) (11 * 0 + gv_pa e i) := by
        rw [dp_z_c (tr_C e (gv_pa e i + 1, y + 1, 0) - 1) (tr_C e (gv_pa e i + 1, 0, 0) - 1), dp_z_c (tr_C e (gv_pa e i + 1, y + 1, z + 1) - 1) (tr_C e (gv_pa e i + 1, 0, 0) - 1), dp_z_c (tr_C e (gv_pa e i + 1, y + 1, z + 1) - 1) (tr_C e (gv_pa e i + 1, y + 1, 0) - 1)]
      have eus : dp_u (dp_u (dp_u us (N (gv_pa e i + 1, 0, 0)) (tr_C e (gv_pa e i + 1, 0, 0) - 1)) (N (gv_pa e i + 1, y + 1, 0)) (tr_C e (gv_pa e i + 1, y + 1, 0) - 1)) (N (gv_pa e i + 1, y + 1, z + 1)) (tr_C e (gv_pa e i + 1, y + 1, z + 1) - 1) = dp_u (dp_u (dp_u us (N (gv_pa e i + 1, y + 1, z + 1)) (tr_C e (gv_pa e i + 1, y + 1, z + 1) - 1)) (N (gv_pa e i + 1, y + 1, 0)) (tr_C e (gv_pa e i + 1, y + 1, 0) - 1)) (N (gv_pa e i + 1, 0, 0)) (tr_C e (gv_pa e i + 1, 0, 0) - 1) := by
        rw [dp_comm us (fun w => n12 w.symm), dp_comm (dp_u us (N (gv_pa e i + 1, y + 1, 0)) (tr_C e (gv_pa e i + 1, y + 1, 0) - 1)) (fun w => n31 w.symm), dp_comm us (fun w => n32 w.symm)]
      rw [ech, eus]
      refine tr_cong TD ?_ (fun w hw => ?_) (fun _ _ => rfl)
      · have : hy_nl e i = 3 := nl_3 y0 z0
        omega
      · have h1 := hCd w
        have h2 := tr_pr3 (x := gv_pa e i) (y := y + 1) (z := z + 1) hw (by omega) (by omega)
        have h3 := tr_dcr (tr_u (tr_u (tr_C e) (gv_pa e i + 1, y + 1, z + 1) (tr_C e (gv_pa e i + 1, y + 1, z + 1) - 1)) (gv_pa e i + 1, y + 1, 0) (tr_C e (gv_pa e i + 1, y + 1, 0) - 1)) (gv_pa e i + 1, 0, 0) w
        have h4 := tr_dcr (tr_u (tr_C e) (gv_pa e i + 1, y + 1, z + 1) (tr_C e (gv_pa e i + 1, y + 1, z + 1) - 1)) (gv_pa e i + 1, y + 1, 0) w
        have h5 := tr_dcr (tr_C e) (gv_pa e i + 1, y + 1, z + 1) w
        rw [eD1] at h3
        rw [eC2] at h4
        show tr_C (gv_pdel e i) w = tr_u (tr_u (tr_u (tr_C e) (gv_pa e i + 1, y + 1, z + 1) (tr_C e (gv_pa e i + 1, y + 1, z + 1) - 1)) (gv_pa e i + 1, y + 1, 0) (tr_C e (gv_pa e i + 1, y + 1, 0) - 1)) (gv_pa e i + 1, 0, 0) (tr_C e (gv_pa e i + 1, 0, 0) - 1) w
        omega
end
end
section
/-! the method pattern, on both sides -/
def pt_ok (a b c d : Int32) : Prop := 0 ≤ a.toInt ∧ a.toInt ≤ 10 ∧ -1 ≤ b.toInt ∧ b.toInt ≤ 10 ∧ -1 ≤ c.toInt ∧ c.toInt ≤ 10 ∧ (b.toInt = -1 → c.toInt = -1) ∧ ¬ (c.toInt ≠ -1 ∧ b.toInt = 10) ∧ (a.toInt < 10 ∨ (0 ≤ b.toInt ∧ b.toInt < 10) ∨ (0 ≤ c.toInt ∧ c.toInt < 10)) ∧ 0 ≤ d.toInt ∧ (b.toInt = -1 → d.toInt < 100) ∧ (b.toInt ≠ -1 → c.toInt = -1 → d.toInt < 1000) ∧ (c.toInt ≠ -1 → d.toInt < 10000)
/-- the arguments as naturals -/
def pt_eq (a b c d : Int32) (x y z q : Nat) : Prop := a = nI x ∧ b = nI y - 1 ∧ c = nI z - 1 ∧ d = nI q ∧ tr_ok (x + 1, y, z) ∧ q < 10000
theorem pt_ex {a b c d : Int32} (h : pt_ok a b c d) : ∃ x y z q, pt_eq a b c d x y z q := by
  obtain ⟨h1, h2, h3, h4, h5, h6, h7, h8, h9, h10, h11, h12, h13⟩ := h
  have ex0 : ∀ v : Int32, 0 ≤ v.toInt → ∃ j : Nat, (j : Int) = v.toInt ∧ v = nI j := by
    intro v hv
    obtain ⟨j, hj, rfl⟩ := nI_of (x := v) (by rw [Int32.lt_iff_toInt_lt]; show ¬ _ < (0 : Int); omega)
    exact ⟨j, (nI_toInt hj).symm, rfl⟩
  have ex1 : ∀ v : Int32, -1 ≤ v.toInt → v.toInt ≤ 10 → ∃ j : Nat, (j : Int) = v.toInt + 1 ∧ v = nI j - 1 := by
    intro v hv hv2
    refine ⟨(v.toInt + 1).toNat, by omega, ?_⟩
    apply Int32.toInt_inj.mp
    rw [s1_T (by omega)]
    omega
  obtain ⟨x, x1, x2⟩ := ex0 a h1
  obtain ⟨y, y1, y2⟩ := ex1 b h3 h4
  obtain ⟨z, z1, z2⟩ := ex1 c h5 h6
  obtain ⟨q, q1, q2⟩ := ex0 d h10
  refine ⟨x, y, z, q, x2, y2, z2, q2, ⟨by show 1 ≤ x + 1; omega, by show x + 1 ≤ 11; omega, by show y ≤ 11; omega, by show z ≤ 11; omega, fun y0 => ?_⟩, ?_⟩
  · have y0' : y = 0 := y0
    show z = 0
    have := h7 (by omega)
    omega
  · by_cases c1 : c.toInt = -1
    · by_cases b1 : b.toInt = -1
      · have := h11 b1; omega
      · have := h12 b1 c1; omega
    · have := h13 c1; omega
theorem il_lt (x k : Int32) : x < k ↔ x.toInt < k.toInt := Int32.lt_iff_toInt_lt
theorem il_le (x k : Int32) : x ≤ k ↔ x.toInt ≤ k.toInt := Int32.le_iff_toInt_le
theorem il_eq (x k : Int32) : x = k ↔ x.toInt = k.toInt := Int32.toInt_inj.symm
theorem xw_within {post : Int32 → Prop} {v lo hi : Int32} (h1 : lo.toInt ≤ v.toInt → v.toInt ≤ hi.toInt → post 1) (h0 : ¬ (lo.toInt ≤ v.toInt ∧ v.toInt ≤ hi.toInt) → post 0) : wpX_within post v lo hi :=
  ek_if (il_lt v lo) (fun g => h0 (by omega)) (fun g => ek_if (il_lt hi v) (fun g1 => h0 (by omega)) (fun g1 => h1 (by omega) (by omega)))
theorem xw_letter {post : Int32 → Prop} {v : Int32} (h1 : 0 ≤ v.toInt → v.toInt < 10 → post 1) (h0 : ¬ (0 ≤ v.toInt ∧ v.toInt < 10) → post 0) : wpX_letter post v := by
  have t0 : (0 : Int32).toInt = 0 := rfl
  have t10 : (10 : Int32).toInt = 10 := rfl
  exact ek_if (il_lt v 0) (fun g => h0 (by omega)) (fun g => ek_if (il_le 10 v) (fun g1 => h0 (by omega)) (fun g1 => h1 (by omega) (by omega)))
section
variable {e : gv_T} {f_length f_known f_joins f_patterns f_first f_rest f_narrow f_gap f_stretch f_shrink f_tolerance f_cost f_height f_breaks f_lines f_paragraphs : Int32} {a_text a_allowed a_counts a_wide a_join a_kerns a_child a_digits a_uses a_ends a_begins a_hyphened a_before a_natural a_spaces a_way a_lineFrom a_lineTo a_linePart a_linePage a_lineWide a_lineBad a_lineHyphen : Nat → Int32} {a_least a_sums : Nat → Int64}
theorem xw_pat0 {post : Int32 → SX → Prop} {v1 v2 v3 v4 : Int32} (hN : ¬ pt_ok v1 v2 v3 v4 → post 0 (f_length, f_known, f_joins, f_patterns, f_first, f_rest, f_narrow, f_gap, f_stretch, f_shrink, f_tolerance, f_cost, f_height, f_breaks, f_lines, f_paragraphs, a_text, a_allowed, a_counts, a_wide, a_join, a_kerns, a_child, a_digits, a_uses, a_ends, a_begins, a_hyphened, a_least, a_before, a_natural, a_spaces, a_way, a_lineFrom, a_lineTo, a_linePart, a_linePage, a_lineWide, a_lineBad, a_lineHyphen, a_sums))
    (hY : pt_ok v1 v2 v3 v4 → ∀ x5 z0 : Int32, v4.toInt < z0.toInt → (v2.toInt = -1 → x5 = 1) → (v2.toInt ≠ -1 → v3.toInt = -1 → x5 = 2) → (v3.toInt ≠ -1 → x5 = 3) → wX_pattern_129 post v1 v2 v3 v4 x5 z0 v4 f_length f_known f_joins f_patterns f_first f_rest f_narrow f_gap f_stretch f_shrink f_tolerance f_cost f_height f_breaks f_lines f_paragraphs a_text a_allowed a_counts a_wide a_join a_kerns a_child a_digits a_uses a_ends a_begins a_hyphened a_least a_before a_natural a_spaces a_way a_lineFrom a_lineTo a_linePart a_linePage a_lineWide a_lineBad a_lineHyphen a_sums) : wpX_pattern post (f_length, f_known, f_joins, f_patterns, f_first, f_rest, f_narrow, f_gap, f_stretch, f_shrink, f_tolerance, f_cost, f_height, f_breaks, f_lines, f_paragraphs, a_text, a_allowed, a_counts, a_wide, a_join, a_kerns, a_child, a_digits, a_uses, a_ends, a_begins, a_hyphened, a_least, a_before, a_natural, a_spaces, a_way, a_lineFrom, a_lineTo, a_linePart, a_linePage, a_lineWide, a_lineBad, a_lineHyphen, a_sums) v1 v2 v3 v4 := by
  have t0 : (0 : Int32).toInt = 0 := rfl
  have t10 : (10 : Int32).toInt = 10 := rfl
  have tm1 : (-1 : Int32).toInt = -1 := by decide
  have t100 : (100 : Int32).toInt = 100 := rfl
  have t1000 : (1000 : Int32).toInt = 1000 := rfl
  have t10000 : (10000 : Int32).toInt = 10000 := rfl
  have k19 : ∀ x5 : Int32, (v2.toInt = -1 → x5 = 1) → (v2.toInt ≠ -1 → v3.toInt = -1 → x5 = 2) → (v2.toInt ≠ -1 → v3.toInt ≠ -1 → x5 = 3) → wX_pattern_19 post v1 v2 v3 v4 x5 f_length f_known f_joins f_patterns f_first f_rest f_narrow f_gap f_stretch f_shrink f_tolerance f_cost f_height f_breaks f_lines f_paragraphs a_text a_allowed a_counts a_wide a_join a_kerns a_child a_digits a_uses a_ends a_begins a_hyphened a_least a_before a_natural a_spaces a_way a_lineFrom a_lineTo a_linePart a_linePage a_lineWide a_lineBad a_lineHyphen a_sums := by
    intro x5 c1 c2 c3
    unfold wX_pattern_19
    refine xw_within (fun a1 a2 => br_f (by decide) (xw_within (fun b1 b2 => br_f (by decide) (xw_within (fun d1 d2 => br_f (by decide) ?_) (fun g => br_t rfl (hN (fun z => g ⟨by rw [tm1]; exact z.2.2.2.2.1, by rw [t10]; exact z.2.2.2.2.2.1⟩))))) (fun g => br_t rfl (hN (fun z => g ⟨by rw [tm1]; exact z.2.2.1, by rw [t10]; exact z.2.2.2.1⟩))))) (fun g => br_t rfl (hN (fun z => g ⟨by rw [t0]; exact z.1, by rw [t10]; exact z.2.1⟩)))
    have k61 : (v2.toInt = -1 → v3.toInt = -1) → wX_pattern_61 post v1 v2 v3 v4 x5 f_length f_known f_joins f_patterns f_first f_rest f_narrow f_gap f_stretch f_shrink f_tolerance f_cost f_height f_breaks f_lines f_paragraphs a_text a_allowed a_counts a_wide a_join a_kerns a_child a_digits a_uses a_ends a_begins a_hyphened a_least a_before a_natural a_spaces a_way a_lineFrom a_lineTo a_linePart a_linePage a_lineWide a_lineBad a_lineHyphen a_sums := by
      intro hbc
      have k129 : ∀ z0 : Int32, ¬ (v3.toInt ≠ -1 ∧ v2.toInt = 10) → (v1.toInt < 10 ∨ (0 ≤ v2.toInt ∧ v2.toInt < 10) ∨ (0 ≤ v3.toInt ∧ v3.toInt < 10)) → 0 ≤ v4.toInt → (v2.toInt = -1 → z0.toInt = 100) → (v2.toInt ≠ -1 → v3.toInt = -1 → z0.toInt = 1000) → (v3.toInt ≠ -1 → z0.toInt = 10000) → wX_pattern_129 post v1 v2 v3 v4 x5 z0 v4 f_length f_known f_joins f_patterns f_first f_rest f_narrow f_gap f_stretch f_shrink f_tolerance f_cost f_height f_breaks f_lines f_paragraphs a_text a_allowed a_counts a_wide a_join a_kerns a_child a_digits a_uses a_ends a_begins a_hyphened a_least a_before a_natural a_spaces a_way a_lineFrom a_lineTo a_linePart a_linePage a_lineWide a_lineBad a_lineHyphen a_sums := by
        intro z0 g1 g2 g3 g4 g5 g6
        by_cases hlt : v4.toInt < z0.toInt
        · refine hY ⟨by omega, by omega, by omega, by omega, by omega, by omega, hbc, g1, g2, g3, fun h => ?_, fun h h' => ?_, fun h => ?_⟩ x5 z0 hlt c1 c2 (fun h => c3 (fun h' => h (hbc h')) h)
          · have := g4 h; omega
          · have := g5 h h'; omega
          · have := g6 h; omega
        · refine br_f (by rw [il_lt]; exact hlt) (hN (fun z => hlt ?_))
          obtain ⟨-, -, -, -, -, -, -, -, -, -, z1, z2, z3⟩ := z
          by_cases h1 : v3.toInt = -1
          · by_cases h2 : v2.toInt = -1
            · rw [g4 h2]; exact z1 h2
            · rw [g5 h2 h1]; exact z2 h2 h1
          · rw [g6 h1]; exact z3 h1
      have k96 : ¬ (v3.toInt ≠ -1 ∧ v2.toInt = 10) → (v1.toInt < 10 ∨ (0 ≤ v2.toInt ∧ v2.toInt < 10) ∨ (0 ≤ v3.toInt ∧ v3.toInt < 10)) → wX_pattern_96 post v1 v2 v3 v4 x5 f_length f_known f_joins f_patterns f_first f_rest f_narrow f_gap f_stretch f_shrink f_tolerance f_cost f_height f_breaks f_lines f_paragraphs a_text a_allowed a_counts a_wide a_join a_kerns a_child a_digits a_uses a_ends a_begins a_hyphened a_least a_before a_natural a_spaces a_way a_lineFrom a_lineTo a_linePart a_linePage a_lineWide a_lineBad a_lineHyphen a_sums := by
        intro g1 g2
        refine ek_if (il_lt v4 0) (fun g => hN (fun z => by have := z.2.2.2.2.2.2.2.2.2.1; omega)) (fun g => ?_)
        by_cases h2 : v2.toInt = -1
        · have := c1 h2
          subst this
          exact br_t rfl (k129 100 g1 g2 (by omega) (fun _ => rfl) (fun h => absurd h2 h) (fun h => absurd (hbc h2) h))
        · by_cases h3 : v3.toInt = -1
          · have := c2 h2 h3
            subst this
            exact br_f (by decide) (br_t rfl (k129 1000 g1 g2 (by omega) (fun h => absurd h h2) (fun _ _ => rfl) (fun h => absurd h3 h)))
          · have := c3 h2 h3
            subst this
            exact br_f (by decide) (br_f (by decide) (k129 10000 g1 g2 (by omega) (fun h => absurd h h2) (fun _ h => absurd h h3) (fun _ => rfl)))
      have k75 : ¬ (v3.toInt ≠ -1 ∧ v2.toInt = 10) → wX_pattern_75 post v1 v2 v3 v4 x5 f_length f_known f_joins f_patterns f_first f_rest f_narrow f_gap f_stretch f_shrink f_tolerance f_cost f_height f_breaks f_lines f_paragraphs a_text a_allowed a_counts a_wide a_join a_kerns a_child a_digits a_uses a_ends a_begins a_hyphened a_least a_before a_natural a_spaces a_way a_lineFrom a_lineTo a_linePart a_linePage a_lineWide a_lineBad a_lineHyphen a_sums := by
        intro g1
        unfold wX_pattern_75
        refine xw_letter (fun a a' => br_f (by decide) (k96 g1 (Or.inl a'))) (fun a => br_t rfl (xw_letter (fun b b' => br_f (by decide) (k96 g1 (Or.inr (Or.inl ⟨b, b'⟩)))) (fun b => br_t rfl (xw_letter (fun c c' => br_f (by decide) (k96 g1 (Or.inr (Or.inr ⟨c, c'⟩)))) (fun c => br_t rfl (hN (fun z => ?_)))))))
        have := z.2.2.2.2.2.2.2.2.1
        have := z.1
        omega
      by_cases h3 : v3.toInt = -1
      · refine br_f (fun h => ?_) (k75 (fun z => z.1 h3))
        by_cases h2 : v2.toInt = -1
        · rw [c1 h2] at h; exact absurd h (by decide)
        · rw [c2 h2 h3] at h; exact absurd h (by decide)
      · have h2 : v2.toInt ≠ -1 := fun h => h3 (hbc h)
        refine br_t (c3 h2 h3) (ek_if (il_eq v2 10) (fun g => hN (fun z => z.2.2.2.2.2.2.2.1 ⟨h3, by rw [g]; rfl⟩)) (fun g => k75 (fun z => g (by rw [z.2]; rfl))))
    refine ek_if (il_eq v2 (-1)) (fun g => ek_if (il_eq v3 (-1)) (fun g1 => k61 (fun _ => by rw [g1]; exact tm1)) (fun g1 => hN (fun z => g1 ?_))) (fun g => k61 (fun h => absurd (by rw [h]; exact tm1.symm) g))
    rw [tm1]
    exact z.2.2.2.2.2.2.1 (by rw [g]; exact tm1)
  refine ek_if (il_eq v2 (-1)) (fun g => k19 1 (fun _ => rfl) (fun h => absurd (by rw [g]; exact tm1) h) (fun h => absurd (by rw [g]; exact tm1) h)) (fun g => ek_if (il_eq v3 (-1)) (fun g1 => k19 2 (fun h => absurd (by rw [h]; exact tm1.symm) g) (fun _ _ => rfl) (fun _ h => absurd (by rw [g1]; exact tm1) h)) (fun g1 => k19 3 (fun h => absurd (by rw [h]; exact tm1.symm) g) (fun _ h => absurd (by rw [h]; exact tm1.symm) g1) (fun _ _ => rfl)))
theorem gv_find (x y z : Nat) : (∃ i, i < gv_np e ∧ gv_key e i x y z) ∨ (∀ p, p < gv_np e → ¬ gv_key e p x y z) := by
  rcases Classical.em (∃ i, i < gv_np e ∧ gv_key e i x y z) with h | h
  · exact Or.inl h
  · exact Or.inr (fun p p1 p2 => h ⟨p, p1, p2⟩)
theorem xw_pattern {post : Int32 → SX → Prop} {v1 v2 v3 v4 : Int32} (X : ex_T e f_patterns a_child a_digits a_uses) (hN : ¬ pt_ok v1 v2 v3 v4 → post 0 (f_length, f_known, f_joins, f_patterns, f_first, f_rest, f_narrow, f_gap, f_stretch, f_shrink, f_tolerance, f_cost, f_height, f_breaks, f_lines, f_paragraphs, a_text, a_allowed, a_counts, a_wide, a_join, a_kerns, a_child, a_digits, a_uses, a_ends, a_begins, a_hyphened, a_least, a_before, a_natural, a_spaces, a_way, a_lineFrom, a_lineTo, a_linePart, a_linePage, a_lineWide, a_lineBad, a_lineHyphen, a_sums))
    (hF : ∀ x y z q, pt_ok v1 v2 v3 v4 → pt_eq v1 v2 v3 v4 x y z q → (∀ p, p < gv_np e → ¬ gv_key e p x y z) → gv_np e = 10 → post 0 (f_length, f_known, f_joins, f_patterns, f_first, f_rest, f_narrow, f_gap, f_stretch, f_shrink, f_tolerance, f_cost, f_height, f_breaks, f_lines, f_paragraphs, a_text, a_allowed, a_counts, a_wide, a_join, a_kerns, a_child, a_digits, a_uses, a_ends, a_begins, a_hyphened, a_least, a_before, a_natural, a_spaces, a_way, a_lineFrom, a_lineTo, a_linePart, a_linePage, a_lineWide, a_lineBad, a_lineHyphen, a_sums))
    (h0 : ∀ x y z, pt_ok v1 v2 v3 v4 → pt_eq v1 v2 v3 v4 x y z 0 → (∀ p, p < gv_np e → ¬ gv_key e p x y z) → gv_np e ≤ 9 → post 1 (f_length, 0, f_joins, f_patterns, f_first, f_rest, f_narrow, f_gap, f_stretch, f_shrink, f_tolerance, f_cost, f_height, f_breaks, f_lines, f_paragraphs, a_text, a_allowed, a_counts, a_wide, a_join, a_kerns, a_child, a_digits, a_uses, a_ends, a_begins, a_hyphened, a_least, a_before, a_natural, a_spaces, a_way, a_lineFrom, a_lineTo, a_linePart, a_linePage, a_lineWide, a_lineBad, a_lineHyphen, a_sums))
    (hD : ∀ x y z i fp ac ad au, pt_ok v1 v2 v3 v4 → pt_eq v1 v2 v3 v4 x y z 0 → i < gv_np e → gv_key e i x y z → ex_T (gv_pdel e i) fp ac ad au → post 1 (f_length, 0, f_joins, fp, f_first, f_rest, f_narrow, f_gap, f_stretch, f_shrink, f_tolerance, f_cost, f_height, f_breaks, f_lines, f_paragraphs, a_text, a_allowed, a_counts, a_wide, a_join, a_kerns, ac, ad, au, a_ends, a_begins, a_hyphened, a_least, a_before, a_natural, a_spaces, a_way, a_lineFrom, a_lineTo, a_linePart, a_linePage, a_lineWide, a_lineBad, a_lineHyphen, a_sums))
    (hS : ∀ x y z q i ad, pt_ok v1 v2 v3 v4 → pt_eq v1 v2 v3 v4 x y z q → 1 ≤ q → i < gv_np e → gv_key e i x y z → ex_T (gv_pset e i q) f_patterns a_child ad a_uses → post 1 (f_length, 0, f_joins, f_patterns, f_first, f_rest, f_narrow, f_gap, f_stretch, f_shrink, f_tolerance, f_cost, f_height, f_breaks, f_lines, f_paragraphs, a_text, a_allowed, a_counts, a_wide, a_join, a_kerns, a_child, ad, a_uses, a_ends, a_begins, a_hyphened, a_least, a_before, a_natural, a_spaces, a_way, a_lineFrom, a_lineTo, a_linePart, a_linePage, a_lineWide, a_lineBad, a_lineHyphen, a_sums))
    (hA : ∀ x y z q fp ac ad au, pt_ok v1 v2 v3 v4 → pt_eq v1 v2 v3 v4 x y z q → 1 ≤ q → (∀ p, p < gv_np e → ¬ gv_key e p x y z) → gv_np e ≤ 9 → ex_T (gv_padd e x y z q) fp ac ad au → post 1 (f_length, 0, f_joins, fp, f_first, f_rest, f_narrow, f_gap, f_stretch, f_shrink, f_tolerance, f_cost, f_height, f_breaks, f_lines, f_paragraphs, a_text, a_allowed, a_counts, a_wide, a_join, a_kerns, ac, ad, au, a_ends, a_begins, a_hyphened, a_least, a_before, a_natural, a_spaces, a_way, a_lineFrom, a_lineTo, a_linePart, a_linePage, a_lineWide, a_lineBad, a_lineHyphen, a_sums)) : wpX_pattern post (f_length, f_known, f_joins, f_patterns, f_first, f_rest, f_narrow, f_gap, f_stretch, f_shrink, f_tolerance, f_cost, f_height, f_breaks, f_lines, f_paragraphs, a_text, a_allowed, a_counts, a_wide, a_join, a_kerns, a_child, a_digits, a_uses, a_ends, a_begins, a_hyphened, a_least, a_before, a_natural, a_spaces, a_way, a_lineFrom, a_lineTo, a_linePart, a_linePage, a_lineWide, a_lineBad, a_lineHyphen, a_sums) v1 v2 v3 v4 := by
  refine xw_pat0 hN (fun hok x5 z0 hlt c1 c2 c3 => br_t (by rw [il_lt]; exact hlt) ?_)
  obtain ⟨x, y, z, q, hpe⟩ := pt_ex hok
  obtain ⟨e1, e2, e3, e4, ho, hq⟩ := id hpe
  obtain ⟨X1, O, G, N, ch, us, dg, A, T, hG⟩ := id X
  obtain ⟨q1, q2, q3, q4, q5⟩ := id ho
  dsimp only at q1 q2 q3 q4 q5
  have hx5 : x5 = nI (if y = 0 then 1 else if z = 0 then 2 else 3) := by
    have t2 : v2.toInt = (y : Int) - 1 := by rw [e2, s1_T (by omega)]
    have t3 : v3.toInt = (z : Int) - 1 := by rw [e3, s1_T (by omega)]
    by_cases y0 : y = 0
    · rw [if_pos y0]; exact c1 (by omega)
    · rw [if_neg y0]
      by_cases z0 : z = 0
      · rw [if_pos z0]; exact c2 (by omega) (by omega)
      · rw [if_neg z0]; exact c3 (by omega)
  subst e1 e2 e3 e4 hx5
  obtain ⟨b1, b2, b3, b4⟩ := T.2.1 _ ho
  have k181 : ∀ (th : Bool) (x6 : Int32), (th = true → ∃ i, i < gv_np e ∧ gv_key e i x y z) → (th = true → x6 = nI (N (x + 1, y, z)) ∧ N (x + 1, y, z) ≠ 0) → (th = false → (∀ p, p < gv_np e → ¬ gv_key e p x y z) ∧ gv_np e ≤ 9) → wX_pattern_181 post (nI x) (nI y - 1) (nI z - 1) (nI q) (nI (if y = 0 then 1 else if z = 0 then 2 else 3)) x6 (bl_i th) f_length f_known f_joins f_patterns f_first f_rest f_narrow f_gap f_stretch f_shrink f_tolerance f_cost f_height f_breaks f_lines f_paragraphs a_text a_allowed a_counts a_wide a_join a_kerns a_child a_digits a_uses a_ends a_begins a_hyphened a_least a_before a_natural a_spaces a_way a_lineFrom a_lineTo a_linePart a_linePage a_lineWide a_lineBad a_lineHyphen a_sums := by
    intro th x6 g1 g2 g3
    by_cases hq0 : q = 0
    · subst hq0
      refine br_t rfl (bl_br rfl (fun y1 => ?_) (fun y1 => ?_))
      · show _ ∧ _
        exact ⟨rfl, h0 x y z hok hpe (g3 y1).1 (g3 y1).2⟩
      · obtain ⟨i, i1, i2, i3, i4⟩ := g1 y1
        refine xw_pdel X i1 i2 i3 i4 (fun fp ac ad au X' => ?_)
        show _ ∧ _
        exact ⟨rfl, hD x y z i fp ac ad au hok hpe i1 ⟨i2, i3, i4⟩ X'⟩
    · cases th with
      | false => exact xw_padd X (g3 rfl).2 ho (by omega) hq (g3 rfl).1 (fun fp ac ad au X' => hA x y z q fp ac ad au hok hpe (by omega) (g3 rfl).1 (g3 rfl).2 X')
      | true =>
        obtain ⟨i, i1, i2, i3, i4⟩ := g1 rfl
        obtain ⟨g4, g5⟩ := g2 rfl
        refine br_f (nI_ne0 (by omega) (by omega)) (br_f (by decide) (xw_260 A T ho g5 hq g4 (fun ad A' T' => hS x y z q i ad hok hpe (by omega) i1 ⟨i2, i3, i4⟩ ⟨X1, okP_set O (by omega) hq, _, N, ch, us, _, A', tr_cong T' (Nat.le_refl _) (fun _ _ => rfl) (fun _ _ => rfl), ?_⟩)))
        have := trG_set O hG (q := q) i1 (by omega)
        rw [i2, i3, i4] at this
        exact this
  have k162 : ∀ x6 : Int32, (∀ p, p < gv_np e → ¬ gv_key e p x y z) → wX_pattern_162 post (nI x) (nI y - 1) (nI z - 1) (nI q) (nI (if y = 0 then 1 else if z = 0 then 2 else 3)) x6 f_length f_known f_joins f_patterns f_first f_rest f_narrow f_gap f_stretch f_shrink f_tolerance f_cost f_height f_breaks f_lines f_paragraphs a_text a_allowed a_counts a_wide a_join a_kerns a_child a_digits a_uses a_ends a_begins a_hyphened a_least a_before a_natural a_spaces a_way a_lineFrom a_lineTo a_linePart a_linePage a_lineWide a_lineBad a_lineHyphen a_sums := by
    intro x6 hno
    have h10 := O.1
    exact br_t rfl (pk_eq (gv_np e) 10 (fun y1 => hF x y z q hok hpe hno y1) (fun y1 => k181 false x6 (fun z => by cases z) (fun z => by cases z) (fun _ => ⟨hno, by omega⟩)) X1 rfl)
  have hkey : ∀ p, p < gv_np e → gv_key e p x y z → G (x + 1, y, z) = gv_pd e p ∧ 1 ≤ gv_pd e p := by
    intro p p1 ⟨k1, k2, k3⟩
    have := hG.1 p p1
    rw [k1, k2, k3] at this
    exact ⟨this, (O.2.1 p p1).2.2.2.2.1⟩
  refine xw_walk A T ho ?_
  by_cases hn0 : N (x + 1, y, z) = 0
  · rw [if_pos hn0]
    refine br_t (by decide) (k162 _ (fun p p1 p2 => ?_))
    obtain ⟨k1, k2⟩ := hkey p p1 p2
    exact b4 (by omega) (b2.mp hn0)
  · rw [if_neg hn0]
    have hdg := (b3 hn0).2
    have hdb := tr_dgb O T hG b1
    refine br_f (nI_pos (by omega)) ⟨vp_in_nI b1 (by decide), ?_⟩
    rw [nI_clamp (n := N (x + 1, y, z)) (by omega), A.2.1 _ b1, hdg]
    rw [hdg] at hdb
    refine pk_le (G (x + 1, y, z)) 0 (fun y1 => k162 _ (fun p p1 p2 => ?_)) (fun y1 => ?_)
    · obtain ⟨k1, k2⟩ := hkey p p1 p2
      omega
    · obtain ⟨p, p1, p2⟩ := hG.2 _ ho (by omega)
      simp only [Prod.mk.injEq] at p2
      exact br_f (by decide) (k181 true _ (fun _ => ⟨p, p1, by omega, p2.2.1.symm, p2.2.2.symm⟩) (fun _ => ⟨rfl, hn0⟩) (fun z => by cases z))
end
end
section
/-! the reference: the method pattern -/
section
variable {e : gv_T} {h_length h_ligatures h_patterns h_firstWide h_restWide h_firstLines h_spaceWide h_stretch h_shrink h_tolerance h_cost h_height h_ready h_glyphCount h_breaks h_natural h_spaces h_lineCount h_paragraphs : Int32} {b_text b_wide b_joined b_kerns b_patA b_patB b_patC b_patDigits b_glyphs b_glyphOf b_bEnd b_bNext b_bHyphen b_before b_way b_lFrom b_lTo b_lNumber b_lParagraph b_lPage b_lHyphen b_lLast : Nat → Int32} {b_least b_best : Nat → Int64}
theorem yw_pat0 {post : Int32 → SY → Prop} {v1 v2 v3 v4 : Int32} (hN : ¬ pt_ok v1 v2 v3 v4 → post 0 (h_length, h_ligatures, h_patterns, h_firstWide, h_restWide, h_firstLines, h_spaceWide, h_stretch, h_shrink, h_tolerance, h_cost, h_height, h_ready, h_glyphCount, h_breaks, h_natural, h_spaces, h_lineCount, h_paragraphs, b_text, b_wide, b_joined, b_kerns, b_patA, b_patB, b_patC, b_patDigits, b_glyphs, b_glyphOf, b_bEnd, b_bNext, b_bHyphen, b_least, b_before, b_way, b_lFrom, b_lTo, b_lNumber, b_lParagraph, b_lPage, b_lHyphen, b_lLast, b_best)) (hY : pt_ok v1 v2 v3 v4 → ∃ n144 : Nat, wY_pattern_144 post v1 v2 v3 v4 h_length h_ligatures h_patterns h_firstWide h_restWide h_firstLines h_spaceWide h_stretch h_shrink h_tolerance h_cost h_height h_ready h_glyphCount h_breaks h_natural h_spaces h_lineCount h_paragraphs b_text b_wide b_joined b_kerns b_patA b_patB b_patC b_patDigits b_glyphs b_glyphOf b_bEnd b_bNext b_bHyphen b_least b_before b_way b_lFrom b_lTo b_lNumber b_lParagraph b_lPage b_lHyphen b_lLast b_best n144 0) : wpY_pattern post (h_length, h_ligatures, h_patterns, h_firstWide, h_restWide, h_firstLines, h_spaceWide, h_stretch, h_shrink, h_tolerance, h_cost, h_height, h_ready, h_glyphCount, h_breaks, h_natural, h_spaces, h_lineCount, h_paragraphs, b_text, b_wide, b_joined, b_kerns, b_patA, b_patB, b_patC, b_patDigits, b_glyphs, b_glyphOf, b_bEnd, b_bNext, b_bHyphen, b_least, b_before, b_way, b_lFrom, b_lTo, b_lNumber, b_lParagraph, b_lPage, b_lHyphen, b_lLast, b_best) v1 v2 v3 v4 := by
  have t0 : (0 : Int32).toInt = 0 := rfl
  have t10 : (10 : Int32).toInt = 10 := rfl
  have tm1 : (-1 : Int32).toInt = -1 := by decide
  have t99 : (99 : Int32).toInt = 99 := rfl
  have t999 : (999 : Int32).toInt = 999 := rfl
  have t9999 : (9999 : Int32).toInt = 9999 := rfl
  have b1 := v2.le_toInt
  have b2 := v3.le_toInt
  refine ek_if (il_lt v1 0) (fun g => hN (fun z => by have := z.1; omega)) (fun g1 => ?_)
  refine ek_if (il_lt 10 v1) (fun g => hN (fun z => by have := z.2.1; omega)) (fun g2 => ?_)
  refine ek_if (il_lt v2 (-1)) (fun g => hN (fun z => by have := z.2.2.1; omega)) (fun g3 => ?_)
  refine ek_if (il_lt 10 v2) (fun g => hN (fun z => by have := z.2.2.2.1; omega)) (fun g4 => ?_)
  refine ek_if (il_lt v3 (-1)) (fun g => hN (fun z => by have := z.2.2.2.2.1; omega)) (fun g5 => ?_)
  refine ek_if (il_lt 10 v3) (fun g => hN (fun z => by have := z.2.2.2.2.2.1; omega)) (fun g6 => ?_)
  have k42 : (v2.toInt = -1 → v3.toInt = -1) → wY_pattern_42 post v1 v2 v3 v4 h_length h_ligatures h_patterns h_firstWide h_restWide h_firstLines h_spaceWide h_stretch h_shrink h_tolerance h_cost h_height h_ready h_glyphCount h_breaks h_natural h_spaces h_lineCount h_paragraphs b_text b_wide b_joined b_kerns b_patA b_patB b_patC b_patDigits b_glyphs b_glyphOf b_bEnd b_bNext b_bHyphen b_least b_before b_way b_lFrom b_lTo b_lNumber b_lParagraph b_lPage b_lHyphen b_lLast b_best := by
    intro hbc
    have k125 : ∀ z0 : Int32, ¬ (v3.toInt ≠ -1 ∧ v2.toInt = 10) → (v1.toInt < 10 ∨ (0 ≤ v2.toInt ∧ v2.toInt < 10) ∨ (0 ≤ v3.toInt ∧ v3.toInt < 10)) → (v2.toInt = -1 → z0.toInt = 99) → (v2.toInt ≠ -1 → v3.toInt = -1 → z0.toInt = 999) → (v3.toInt ≠ -1 → z0.toInt = 9999) → wY_pattern_125 post v1 v2 v3 v4 z0 h_length h_ligatures h_patterns h_firstWide h_restWide h_firstLines h_spaceWide h_stretch h_shrink h_tolerance h_cost h_height h_ready h_glyphCount h_breaks h_natural h_spaces h_lineCount h_paragraphs b_text b_wide b_joined b_kerns b_patA b_patB b_patC b_patDigits b_glyphs b_glyphOf b_bEnd b_bNext b_bHyphen b_least b_before b_way b_lFrom b_lTo b_lNumber b_lParagraph b_lPage b_lHyphen b_lLast b_best := by
      intro z0 a1 a2 a3 a4 a5
      refine ek_if (il_lt v4 0) (fun g => hN (fun z => by have := z.2.2.2.2.2.2.2.2.2.1; omega)) (fun g => ek_if (il_le v4 z0) (fun g7 => hY ⟨by omega, by omega, by omega, by omega, by omega, by omega, hbc, a1, a2, by omega, fun h => ?_, fun h h' => ?_, fun h => ?_⟩) (fun g7 => hN (fun z => g7 ?_)))
      · have := a3 h; omega
      · have := a4 h h'; omega
      · have := a5 h; omega
      · obtain ⟨-, -, -, -, -, -, -, -, -, -, z1, z2, z3⟩ := z
        by_cases h1 : v3.toInt = -1
        · by_cases h2 : v2.toInt = -1
          · have := a3 h2; have := z1 h2; omega
          · have := a4 h2 h1; have := z2 h2 h1; omega
        · have := a5 h1; have := z3 h1; omega
    by_cases h2 : v2.toInt = -1
    · have h3 := hbc h2
      refine br_f (by rw [il_le, t0]; omega) (br_f (by decide) ?_)
      have k99 : v1.toInt < 10 → wY_pattern_99 post v1 v2 v3 v4 1 h_length h_ligatures h_patterns h_firstWide h_restWide h_firstLines h_spaceWide h_stretch h_shrink h_tolerance h_cost h_height h_ready h_glyphCount h_breaks h_natural h_spaces h_lineCount h_paragraphs b_text b_wide b_joined b_kerns b_patA b_patB b_patC b_patDigits b_glyphs b_glyphOf b_bEnd b_bNext b_bHyphen b_least b_before b_way b_lFrom b_lTo b_lNumber b_lParagraph b_lPage b_lHyphen b_lLast b_best := fun h => br_t rfl (k125 99 (fun z => z.1 h3) (Or.inl h) (fun _ => rfl) (fun z => absurd h2 z) (fun z => absurd h3 z))
      refine ek_if (il_eq v1 10) (fun g => br_t rfl (hN (fun z => ?_))) (fun g => k99 (by omega))
      have := z.2.2.2.2.2.2.2.2.1
      omega
    · by_cases h3 : v3.toInt = -1
      · refine br_t (by rw [il_le, t0]; omega) (br_f (by rw [il_le, t0]; omega) (br_f (by decide) ?_))
        have k99 : (v1.toInt < 10 ∨ v2.toInt < 10) → wY_pattern_99 post v1 v2 v3 v4 2 h_length h_ligatures h_patterns h_firstWide h_restWide h_firstLines h_spaceWide h_stretch h_shrink h_tolerance h_cost h_height h_ready h_glyphCount h_breaks h_natural h_spaces h_lineCount h_paragraphs b_text b_wide b_joined b_kerns b_patA b_patB b_patC b_patDigits b_glyphs b_glyphOf b_bEnd b_bNext b_bHyphen b_least b_before b_way b_lFrom b_lTo b_lNumber b_lParagraph b_lPage b_lHyphen b_lLast b_best := fun h => br_f (by decide) (br_t rfl (k125 999 (fun z => z.1 h3) (by omega) (fun z => absurd z h2) (fun _ _ => rfl) (fun z => absurd h3 z)))
        refine ek_if (il_eq v1 10) (fun g => br_f (by decide) (br_t rfl (ek_if (il_eq v2 10) (fun g7 => hN (fun z => ?_)) (fun g7 => k99 (by omega))))) (fun g => k99 (by omega))
        have := z.2.2.2.2.2.2.2.2.1
        omega
      · refine br_t (by rw [il_le, t0]; omega) (br_t (by rw [il_le, t0]; omega) (br_t rfl (ek_if (il_eq v2 10) (fun g => hN (fun z => z.2.2.2.2.2.2.2.1 ⟨h3, by omega⟩)) (fun g => ?_))))
        have k99 : wY_pattern_99 post v1 v2 v3 v4 3 h_length h_ligatures h_patterns h_firstWide h_restWide h_firstLines h_spaceWide h_stretch h_shrink h_tolerance h_cost h_height h_ready h_glyphCount h_breaks h_natural h_spaces h_lineCount h_paragraphs b_text b_wide b_joined b_kerns b_patA b_patB b_patC b_patDigits b_glyphs b_glyphOf b_bEnd b_bNext b_bHyphen b_least b_before b_way b_lFrom b_lTo b_lNumber b_lParagraph b_lPage b_lHyphen b_lLast b_best := br_f (by decide) (br_f (by decide) (k125 9999 (fun z => g (by omega)) (Or.inr (Or.inl ⟨by omega, by omega⟩)) (fun z => absurd z h2) (fun _ z => absurd z h3) (fun _ => rfl)))
        exact br_c (fun _ => br_f (by decide) (br_f (by decide) k99)) (fun _ => k99)
  refine ek_if (il_le 0 v2) (fun g => k42 (fun h => by omega)) (fun g => ek_if (il_lt v3 0) (fun g7 => k42 (fun h => by omega)) (fun g7 => hN (fun z => ?_)))
  have := z.2.2.2.2.2.2.1 (by omega)
  omega
theorem yw_find {post : Int32 → SY → Prop} {x y z q : Nat} {v4 : Int32} (P : ey_P e h_patterns b_patA b_patB b_patC b_patDigits) (ho : tr_ok (x + 1, y, z)) (h : ∀ i, i ≤ gv_np e → (i < gv_np e → gv_key e i x y z) → (i = gv_np e → ∀ p, p < gv_np e → ¬ gv_key e p x y z) → wY_pattern_192 post (nI x) (nI y - 1) (nI z - 1) v4 (nI i) h_length h_ligatures h_patterns h_firstWide h_restWide h_firstLines h_spaceWide h_stretch h_shrink h_tolerance h_cost h_height h_ready h_glyphCount h_breaks h_natural h_spaces h_lineCount h_paragraphs b_text b_wide b_joined b_kerns b_patA b_patB b_patC b_patDigits b_glyphs b_glyphOf b_bEnd b_bNext b_bHyphen b_least b_before b_way b_lFrom b_lTo b_lNumber b_lParagraph b_lPage b_lHyphen b_lLast b_best) :
    ∀ d n i, d < n → i + d = gv_np e → (∀ p, p < i → ¬ gv_key e p x y z) → wY_pattern_144 post (nI x) (nI y - 1) (nI z - 1) v4 h_length h_ligatures h_patterns h_firstWide h_restWide h_firstLines h_spaceWide h_stretch h_shrink h_tolerance h_cost h_height h_ready h_glyphCount h_breaks h_natural h_spaces h_lineCount h_paragraphs b_text b_wide b_joined b_kerns b_patA b_patB b_patC b_patDigits b_glyphs b_glyphOf b_bEnd b_bNext b_bHyphen b_least b_before b_way b_lFrom b_lTo b_lNumber b_lParagraph b_lPage b_lHyphen b_lLast b_best n (nI i) := by
  obtain ⟨P1, P2, O1, O2, O3⟩ := P
  obtain ⟨q1, q2, q3, q4, q5⟩ := ho
  dsimp only at q1 q2 q3 q4 q5
  intro d
  induction d with
  | zero =>
    intro n i hn hi hno
    obtain ⟨n, rfl⟩ : ∃ n', n = n' + 1 := ⟨n - 1, by omega⟩
    exact br_t (by rw [P1]; exact nI_le (by omega) (by omega)) (h i (by omega) (fun z => by omega) (fun _ p hp => hno p (by omega)))
  | succ d ih =>
    intro n i hn hi hno
    obtain ⟨n, rfl⟩ : ∃ n', n = n' + 1 := ⟨n - 1, by omega⟩
    obtain ⟨p1, p2, p3, p4⟩ := P2 i (by omega)
    obtain ⟨o1, o2, o3, o4, o5, o6⟩ := O2 i (by omega)
    have hv : vp_in (nI i) 10 := vp_in_nI (by omega) (by decide)
    have s1e : ∀ {u w : Nat}, u ≤ 11 → w ≤ 11 → (nI u - 1 = nI w - 1 ↔ u = w) := by
      intro u w hu hw
      rw [il_eq, s1_T (by omega), s1_T (by omega)]
      omega
    have nx : ¬ gv_key e i x y z → ∀ x7 : Int32, x7 = nI i + 1 → wY_pattern_144 post (nI x) (nI y - 1) (nI z - 1) v4 h_length h_ligatures h_patterns h_firstWide h_restWide h_firstLines h_spaceWide h_stretch h_shrink h_tolerance h_cost h_height h_ready h_glyphCount h_breaks h_natural h_spaces h_lineCount h_paragraphs b_text b_wide b_joined b_kerns b_patA b_patB b_patC b_patDigits b_glyphs b_glyphOf b_bEnd b_bNext b_bHyphen b_least b_before b_way b_lFrom b_lTo b_lNumber b_lParagraph b_lPage b_lHyphen b_lLast b_best n x7 := by
      intro hk
      refine nm_r (nI_1 i) (ih n (i + 1) (by omega) (by omega) (fun p hp => ?_))
      by_cases ep : p = i
      · rw [ep]; exact hk
      · exact hno p (by omega)
    refine br_f (by rw [P1]; exact nI_ge (by omega) (by omega)) ⟨hv, ?_⟩
    rw [nI_clamp (n := i) (by omega), p1, p2, p3]
    refine pk_eq (gv_pa e i) x (fun y1 => ⟨hv, ek_if (s1e o2 q3) (fun y2 => ⟨hv, ek_if (s1e o3 q4) (fun y3 => h i (by omega) (fun _ => ⟨y1, y2, y3⟩) (fun w => by omega)) (fun y3 => nx (fun w => y3 w.2.2))⟩) (fun y2 => nx (fun w => y2 w.2.1))⟩) (fun y1 => nx (fun w => y1 w.1))
theorem eyP_upd {i x y z q np : Nat} (P : ey_P e h_patterns b_patA b_patB b_patC b_patDigits) (O' : gv_okP (gv_P e np (dp_u (gv_pa e) i x) (dp_u (gv_pb e) i y) (dp_u (gv_pc e) i z) (dp_u (gv_pd e) i q))) (hnp : ∀ p, p < np → p ≠ i → p < gv_np e) : ey_P (gv_P e np (dp_u (gv_pa e) i x) (dp_u (gv_pb e) i y) (dp_u (gv_pc e) i z) (dp_u (gv_pd e) i q)) (nI np) (upd b_patA i (nI x)) (upd b_patB i (nI y - 1)) (upd b_patC i (nI z - 1)) (upd b_patDigits i (nI q)) := by
  refine ⟨rfl, fun p hp => ?_, O'⟩
  show upd b_patA i (nI x) p = nI (dp_u (gv_pa e) i x p) ∧ upd b_patB i (nI y - 1) p = nI (dp_u (gv_pb e) i y p) - 1 ∧ upd b_patC i (nI z - 1) p = nI (dp_u (gv_pc e) i z p) - 1 ∧ upd b_patDigits i (nI q) p = nI (dp_u (gv_pd e) i q p)
  by_cases ep : p = i
  · rw [ep, pk_us, pk_us, pk_us, pk_us, dp_us, dp_us, dp_us, dp_us]; exact ⟨rfl, rfl, rfl, rfl⟩
  · rw [pk_un ep, pk_un ep, pk_un ep, pk_un ep, dp_un _ _ ep, dp_un _ _ ep, dp_un _ _ ep, dp_un _ _ ep]
    exact P.2.1 p (hnp p hp ep)
/-- storing at place i, more than nothing -/
theorem yw_236p {post : Int32 → SY → Prop} {i x q : Nat} {v2 v3 : Int32} (hi : i < 10) (hq : 1 ≤ q) (hq2 : q < 10000) (h : post 1 (h_length, h_ligatures, h_patterns, h_firstWide, h_restWide, h_firstLines, h_spaceWide, h_stretch, h_shrink, h_tolerance, h_cost, h_height, h_ready, h_glyphCount, h_breaks, h_natural, h_spaces, h_lineCount, h_paragraphs, b_text, b_wide, b_joined, b_kerns, upd b_patA i (nI x), upd b_patB i v2, upd b_patC i v3, upd b_patDigits i (nI q), b_glyphs, b_glyphOf, b_bEnd, b_bNext, b_bHyphen, b_least, b_before, b_way, b_lFrom, b_lTo, b_lNumber, b_lParagraph, b_lPage, b_lHyphen, b_lLast, b_best)) : wY_pattern_236 post (nI x) v2 v3 (nI q) (nI i) h_length h_ligatures h_patterns h_firstWide h_restWide h_firstLines h_spaceWide h_stretch h_shrink h_tolerance h_cost h_height h_ready h_glyphCount h_breaks h_natural h_spaces h_lineCount h_paragraphs b_text b_wide b_joined b_kerns b_patA b_patB b_patC b_patDigits b_glyphs b_glyphOf b_bEnd b_bNext b_bHyphen b_least b_before b_way b_lFrom b_lTo b_lNumber b_lParagraph b_lPage b_lHyphen b_lLast b_best := by
  have hv : vp_in (nI i) 10 := vp_in_nI hi (by decide)
  have hc : (nI i).toNatClampNeg = i := nI_clamp (by omega)
  exact ⟨hv, nm_r (e' := upd b_patA i (nI x)) (by rw [hc]) ⟨hv, nm_r (e' := upd b_patB i v2) (by rw [hc]) ⟨hv, nm_r (e' := upd b_patC i v3) (by rw [hc]) ⟨hv, nm_r (e' := upd b_patDigits i (nI q)) (by rw [hc]) (br_f (nI_nle (by omega) (by omega)) h)⟩⟩⟩⟩
theorem yw_236z {post : Int32 → SY → Prop} {i x m : Nat} {v2 v3 : Int32} (hi : i < 10) (hm : m < 10) (hp : h_patterns = nI (m + 1)) (h : post 1 (h_length, h_ligatures, nI m, h_firstWide, h_restWide, h_firstLines, h_spaceWide, h_stretch, h_shrink, h_tolerance, h_cost, h_height, h_ready, h_glyphCount, h_breaks, h_natural, h_spaces, h_lineCount, h_paragraphs, b_text, b_wide, b_joined, b_kerns, upd (upd b_patA i (nI x)) i (upd b_patA i (nI x) m), upd (upd b_patB i v2) i (upd b_patB i v2 m), upd (upd b_patC i v3) i (upd b_patC i v3 m), upd (upd b_patDigits i (nI 0)) i (upd b_patDigits i (nI 0) m), b_glyphs, b_glyphOf, b_bEnd, b_bNext, b_bHyphen, b_least, b_before, b_way, b_lFrom, b_lTo, b_lNumber, b_lParagraph, b_lPage, b_lHyphen, b_lLast, b_best)) : wY_pattern_236 post (nI x) v2 v3 (nI 0) (nI i) h_length h_ligatures h_patterns h_firstWide h_restWide h_firstLines h_spaceWide h_stretch h_shrink h_tolerance h_cost h_height h_ready h_glyphCount h_breaks h_natural h_spaces h_lineCount h_paragraphs b_text b_wide b_joined b_kerns b_patA b_patB b_patC b_patDigits b_glyphs b_glyphOf b_bEnd b_bNext b_bHyphen b_least b_before b_way b_lFrom b_lTo b_lNumber b_lParagraph b_lPage b_lHyphen b_lLast b_best := by
  have hv : vp_in (nI i) 10 := vp_in_nI hi (by decide)
  have hvm : vp_in (nI m) 10 := vp_in_nI hm (by decide)
  have hc : (nI i).toNatClampNeg = i := nI_clamp (by omega)
  have hcm : (nI m).toNatClampNeg = m := nI_clamp (by omega)
  refine ⟨hv, nm_r (e' := upd b_patA i (nI x)) (by rw [hc]) ⟨hv, nm_r (e' := upd b_patB i v2) (by rw [hc]) ⟨hv, nm_r (e' := upd b_patC i v3) (by rw [hc]) ⟨hv, nm_r (e' := upd b_patDigits i (nI 0)) (by rw [hc]) (br_t (by decide) (nm_r (e' := nI m) (by rw [hp, nI_pred]) ?_))⟩⟩⟩⟩
  rw [hcm, hc]
  exact ⟨hvm, hv, nm_e ⟨hvm, hv, nm_e ⟨hvm, hv, nm_e ⟨hvm, hv, nm_e h⟩⟩⟩⟩
theorem yw_pN {post : Int32 → SY → Prop} {v1 v2 v3 v4 : Int32} (hN : ¬ pt_ok v1 v2 v3 v4) (h : post 0 (h_length, h_ligatures, h_patterns, h_firstWide, h_restWide, h_firstLines, h_spaceWide, h_stretch, h_shrink, h_tolerance, h_cost, h_height, h_ready, h_glyphCount, h_breaks, h_natural, h_spaces, h_lineCount, h_paragraphs, b_text, b_wide, b_joined, b_kerns, b_patA, b_patB, b_patC, b_patDigits, b_glyphs, b_glyphOf, b_bEnd, b_bNext, b_bHyphen, b_least, b_before, b_way, b_lFrom, b_lTo, b_lNumber, b_lParagraph, b_lPage, b_lHyphen, b_lLast, b_best)) : wpY_pattern post (h_length, h_ligatures, h_patterns, h_firstWide, h_restWide, h_firstLines, h_spaceWide, h_stretch, h_shrink, h_tolerance, h_cost, h_height, h_ready, h_glyphCount, h_breaks, h_natural, h_spaces, h_lineCount, h_paragraphs, b_text, b_wide, b_joined, b_kerns, b_patA, b_patB, b_patC, b_patDigits, b_glyphs, b_glyphOf, b_bEnd, b_bNext, b_bHyphen, b_least, b_before, b_way, b_lFrom, b_lTo, b_lNumber, b_lParagraph, b_lPage, b_lHyphen, b_lLast, b_best) v1 v2 v3 v4 := yw_pat0 (fun _ => h) (fun z => absurd z hN)
theorem yw_pF {post : Int32 → SY → Prop} {v1 v2 v3 v4 : Int32} {x y z q : Nat} (P : ey_P e h_patterns b_patA b_patB b_patC b_patDigits) (hok : pt_ok v1 v2 v3 v4) (hpe : pt_eq v1 v2 v3 v4 x y z q) (hno : ∀ p, p < gv_np e → ¬ gv_key e p x y z) (hn : gv_np e = 10) (h : post 0 (h_length, h_ligatures, h_patterns, h_firstWide, h_restWide, h_firstLines, h_spaceWide, h_stretch, h_shrink, h_tolerance, h_cost, h_height, h_ready, h_glyphCount, h_breaks, h_natural, h_spaces, h_lineCount, h_paragraphs, b_text, b_wide, b_joined, b_kerns, b_patA, b_patB, b_patC, b_patDigits, b_glyphs, b_glyphOf, b_bEnd, b_bNext, b_bHyphen, b_least, b_before, b_way, b_lFrom, b_lTo, b_lNumber, b_lParagraph, b_lPage, b_lHyphen, b_lLast, b_best)) : wpY_pattern post (h_length, h_ligatures, h_patterns, h_firstWide, h_restWide, h_firstLines, h_spaceWide, h_stretch, h_shrink, h_tolerance, h_cost, h_height, h_ready, h_glyphCount, h_breaks, h_natural, h_spaces, h_lineCount, h_paragraphs, b_text, b_wide, b_joined, b_kerns, b_patA, b_patB, b_patC, b_patDigits, b_glyphs, b_glyphOf, b_bEnd, b_bNext, b_bHyphen, b_least, b_before, b_way, b_lFrom, b_lTo, b_lNumber, b_lParagraph, b_lPage, b_lHyphen, b_lLast, b_best) v1 v2 v3 v4 := by
  obtain ⟨rfl, rfl, rfl, rfl, ho, hq⟩ := hpe
  refine yw_pat0 (fun z => absurd hok z) (fun _ => ⟨gv_np e + 1, yw_find (q := q) P ho (fun i i1 i2 i3 => ?_) (gv_np e) _ 0 (by omega) (by omega) (fun p hp => by omega)⟩)
  have hi : i = gv_np e := by
    rcases Nat.lt_or_ge i (gv_np e) with w | w
    · exact absurd (i2 w) (hno i w)
    · omega
  exact br_t (by rw [P.1, hi]) (br_t (by rw [P.1, hn]; rfl) h)
theorem yw_pA {post : Int32 → SY → Prop} {v1 v2 v3 v4 : Int32} {x y z q : Nat} (P : ey_P e h_patterns b_patA b_patB b_patC b_patDigits) (hok : pt_ok v1 v2 v3 v4) (hpe : pt_eq v1 v2 v3 v4 x y z q) (hno : ∀ p, p < gv_np e → ¬ gv_key e p x y z) (hn : gv_np e ≤ 9) (hq1 : 1 ≤ q) (h : ∀ x1 x2 x3 x4 x5, ey_P (gv_padd e x y z q) x1 x2 x3 x4 x5 → post 1 (h_length, h_ligatures, x1, h_firstWide, h_restWide, h_firstLines, h_spaceWide, h_stretch, h_shrink, h_tolerance, h_cost, h_height, 0, h_glyphCount, h_breaks, h_natural, h_spaces, h_lineCount, h_paragraphs, b_text, b_wide, b_joined, b_kerns, x2, x3, x4, x5, b_glyphs, b_glyphOf, b_bEnd, b_bNext, b_bHyphen, b_least, b_before, b_way, b_lFrom, b_lTo, b_lNumber, b_lParagraph, b_lPage, b_lHyphen, b_lLast, b_best)) : wpY_pattern post (h_length, h_ligatures, h_patterns, h_firstWide, h_restWide, h_firstLines, h_spaceWide, h_stretch, h_shrink, h_tolerance, h_cost, h_height, h_ready, h_glyphCount, h_breaks, h_natural, h_spaces, h_lineCount, h_paragraphs, b_text, b_wide, b_joined, b_kerns, b_patA, b_patB, b_patC, b_patDigits, b_glyphs, b_glyphOf, b_bEnd, b_bNext, b_bHyphen, b_least, b_before, b_way, b_lFrom, b_lTo, b_lNumber, b_lParagraph, b_lPage, b_lHyphen, b_lLast, b_best) v1 v2 v3 v4 := by
  obtain ⟨rfl, rfl, rfl, rfl, ho, hq⟩ := hpe
  have O := P.2.2
  refine yw_pat0 (fun z => absurd hok z) (fun _ => ⟨gv_np e + 1, yw_find (q := q) P ho (fun i i1 i2 i3 => ?_) (gv_np e) _ 0 (by omega) (by omega) (fun p hp => by omega)⟩)
  have hi : i = gv_np e := by
    rcases Nat.lt_or_ge i (gv_np e) with w | w
    · exact absurd (i2 w) (hno i w)
    · omega
  subst hi
  refine br_t (by rw [P.1]) (br_f (by rw [P.1]; show ¬ nI (gv_np e) = nI 10; rw [nI_eq (by omega) (by omega)]; omega) (br_t (by rw [P.1]) (nm_r (e' := nI (gv_np e + 1)) (by rw [P.1, nI_1]) (yw_236p (h_patterns := nI (gv_np e + 1)) (h_ready := 0) (by omega) hq1 hq (h _ _ _ _ _ (eyP_upd P (okP_add O hn ho hq1 hq hno) (fun p hp hne => by omega)))))))
theorem yw_pS {post : Int32 → SY → Prop} {v1 v2 v3 v4 : Int32} {x y z q i : Nat} (P : ey_P e h_patterns b_patA b_patB b_patC b_patDigits) (hok : pt_ok v1 v2 v3 v4) (hpe : pt_eq v1 v2 v3 v4 x y z q) (hi : i < gv_np e) (hk : gv_key e i x y z) (hq1 : 1 ≤ q) (h : ∀ x2 x3 x4 x5, ey_P (gv_pset e i q) h_patterns x2 x3 x4 x5 → post 1 (h_length, h_ligatures, h_patterns, h_firstWide, h_restWide, h_firstLines, h_spaceWide, h_stretch, h_shrink, h_tolerance, h_cost, h_height, 0, h_glyphCount, h_breaks, h_natural, h_spaces, h_lineCount, h_paragraphs, b_text, b_wide, b_joined, b_kerns, x2, x3, x4, x5, b_glyphs, b_glyphOf, b_bEnd, b_bNext, b_bHyphen, b_least, b_before, b_way, b_lFrom, b_lTo, b_lNumber, b_lParagraph, b_lPage, b_lHyphen, b_lLast, b_best)) : wpY_pattern post (h_length, h_ligatures, h_patterns, h_firstWide, h_restWide, h_firstLines, h_spaceWide, h_stretch, h_shrink, h_tolerance, h_cost, h_height, h_ready, h_glyphCount, h_breaks, h_natural, h_spaces, h_lineCount, h_paragraphs, b_text, b_wide, b_joined, b_kerns, b_patA, b_patB, b_patC, b_patDigits, b_glyphs, b_glyphOf, b_bEnd, b_bNext, b_bHyphen, b_least, b_before, b_way, b_lFrom, b_lTo, b_lNumber, b_lParagraph, b_lPage, b_lHyphen, b_lLast, b_best) v1 v2 v3 v4 := by
  obtain ⟨rfl, rfl, rfl, rfl, ho, hq⟩ := hpe
  have O := P.2.2
  have hn := O.1
  refine yw_pat0 (fun z => absurd hok z) (fun _ => ⟨gv_np e + 1, yw_find (q := q) P ho (fun i' i1 i2 i3 => ?_) (gv_np e) _ 0 (by omega) (by omega) (fun p hp => by omega)⟩)
  have hlt : i' < gv_np e := by
    rcases Nat.lt_or_ge i' (gv_np e) with w | w
    · exact w
    · exact absurd hk (i3 (by omega) i hi)
  have hk' := i2 hlt
  have : i' = i := O.2.2 i' i hlt hi (by rw [hk'.1, hk.1]) (by rw [hk'.2.1, hk.2.1]) (by rw [hk'.2.2, hk.2.2])
  subst this
  have hne : ¬ nI i' = h_patterns := by rw [P.1, nI_eq (by omega) (by omega)]; omega
  refine br_f hne (br_f hne (yw_236p (h_ready := 0) (by omega) hq1 hq (h _ _ _ _ ⟨P.1, fun p hp => ?_, okP_set O hq1 hq⟩)))
  obtain ⟨p1, p2, p3, p4⟩ := P.2.1 p hp
  show upd b_patA i' (nI x) p = nI (gv_pa e p) ∧ upd b_patB i' (nI y - 1) p = nI (gv_pb e p) - 1 ∧ upd b_patC i' (nI z - 1) p = nI (gv_pc e p) - 1 ∧ upd b_patDigits i' (nI q) p = nI (dp_u (gv_pd e) i' q p)
  by_cases ep : p = i'
  · rw [ep, pk_us, pk_us, pk_us, pk_us, dp_us, hk'.1, hk'.2.1, hk'.2.2]; exact ⟨rfl, rfl, rfl, rfl⟩
  · rw [pk_un ep, pk_un ep, pk_un ep, pk_un ep, dp_un _ _ ep]; exact ⟨p1, p2, p3, p4⟩
theorem yw_pD {post : Int32 → SY → Prop} {v1 v2 v3 v4 : Int32} {x y z i : Nat} (P : ey_P e h_patterns b_patA b_patB b_patC b_patDigits) (hok : pt_ok v1 v2 v3 v4) (hpe : pt_eq v1 v2 v3 v4 x y z 0) (hi : i < gv_np e) (hk : gv_key e i x y z) (h : ∀ x1 x2 x3 x4 x5, ey_P (gv_pdel e i) x1 x2 x3 x4 x5 → post 1 (h_length, h_ligatures, x1, h_firstWide, h_restWide, h_firstLines, h_spaceWide, h_stretch, h_shrink, h_tolerance, h_cost, h_height, 0, h_glyphCount, h_breaks, h_natural, h_spaces, h_lineCount, h_paragraphs, b_text, b_wide, b_joined, b_kerns, x2, x3, x4, x5, b_glyphs, b_glyphOf, b_bEnd, b_bNext, b_bHyphen, b_least, b_before, b_way, b_lFrom, b_lTo, b_lNumber, b_lParagraph, b_lPage, b_lHyphen, b_lLast, b_best)) : wpY_pattern post (h_length, h_ligatures, h_patterns, h_firstWide, h_restWide, h_firstLines, h_spaceWide, h_stretch, h_shrink, h_tolerance, h_cost, h_height, h_ready, h_glyphCount, h_breaks, h_natural, h_spaces, h_lineCount, h_paragraphs, b_text, b_wide, b_joined, b_kerns, b_patA, b_patB, b_patC, b_patDigits, b_glyphs, b_glyphOf, b_bEnd, b_bNext, b_bHyphen, b_least, b_before, b_way, b_lFrom, b_lTo, b_lNumber, b_lParagraph, b_lPage, b_lHyphen, b_lLast, b_best) v1 v2 v3 v4 := by
  obtain ⟨rfl, rfl, rfl, rfl, ho, hq⟩ := hpe
  have O := P.2.2
  have hn := O.1
  refine yw_pat0 (fun z => absurd hok z) (fun _ => ⟨gv_np e + 1, yw_find (q := 0) P ho (fun i' i1 i2 i3 => ?_) (gv_np e) _ 0 (by omega) (by omega) (fun p hp => by omega)⟩)
  have hlt : i' < gv_np e := by
    rcases Nat.lt_or_ge i' (gv_np e) with w | w
    · exact w
    · exact absurd hk (i3 (by omega) i hi)
  have hk' := i2 hlt
  have : i' = i := O.2.2 i' i hlt hi (by rw [hk'.1, hk.1]) (by rw [hk'.2.1, hk.2.1]) (by rw [hk'.2.2, hk.2.2])
  subst this
  have hne : ¬ nI i' = h_patterns := by rw [P.1, nI_eq (by omega) (by omega)]; omega
  obtain ⟨m, hm⟩ : ∃ m, gv_np e = m + 1 := ⟨gv_np e - 1, by omega⟩
  refine br_f hne (br_f hne (yw_236z (h_ready := 0) (m := m) (by omega) (by omega) (by rw [P.1, hm]) (h _ _ _ _ _ ⟨by show nI m = nI (gv_np e - 1); rw [hm]; rfl, fun p hp => ?_, okP_del O hi⟩)))
  have hp' : p < gv_np e - 1 := hp
  have e1 : gv_np e - 1 = m := by omega
  show upd (upd b_patA i' (nI x)) i' (upd b_patA i' (nI x) m) p = nI (dp_u (gv_pa e) i' (gv_pa e (gv_np e - 1)) p) ∧ upd (upd b_patB i' (nI y - 1)) i' (upd b_patB i' (nI y - 1) m) p = nI (dp_u (gv_pb e) i' (gv_pb e (gv_np e - 1)) p) - 1 ∧ upd (upd b_patC i' (nI z - 1)) i' (upd b_patC i' (nI z - 1) m) p = nI (dp_u (gv_pc e) i' (gv_pc e (gv_np e - 1)) p) - 1 ∧ upd (upd b_patDigits i' (nI 0)) i' (upd b_patDigits i' (nI 0) m) p = nI (dp_u (gv_pd e) i' (gv_pd e (gv_np e - 1)) p)
  rw [e1]
  by_cases ep : p = i'
  · have hmi : m ≠ i' := by omega
    obtain ⟨p1, p2, p3, p4⟩ := P.2.1 m (by omega)
    rw [ep, pk_us, pk_us, pk_us, pk_us, dp_us, dp_us, dp_us, dp_us, pk_un hmi, pk_un hmi, pk_un hmi, pk_un hmi]
    exact ⟨p1, p2, p3, p4⟩
  · rw [pk_un ep, pk_un ep, pk_un ep, pk_un ep, pk_un ep, pk_un ep, pk_un ep, pk_un ep, dp_un _ _ ep, dp_un _ _ ep, dp_un _ _ ep, dp_un _ _ ep]
    exact P.2.1 p (by omega)
theorem yw_p0 {post : Int32 → SY → Prop} {v1 v2 v3 v4 : Int32} {x y z : Nat} (P : ey_P e h_patterns b_patA b_patB b_patC b_patDigits) (hok : pt_ok v1 v2 v3 v4) (hpe : pt_eq v1 v2 v3 v4 x y z 0) (hno : ∀ p, p < gv_np e → ¬ gv_key e p x y z) (hn : gv_np e ≤ 9) (h : ∀ x1 x2 x3 x4 x5, ey_P e x1 x2 x3 x4 x5 → post 1 (h_length, h_ligatures, x1, h_firstWide, h_restWide, h_firstLines, h_spaceWide, h_stretch, h_shrink, h_tolerance, h_cost, h_height, 0, h_glyphCount, h_breaks, h_natural, h_spaces, h_lineCount, h_paragraphs, b_text, b_wide, b_joined, b_kerns, x2, x3, x4, x5, b_glyphs, b_glyphOf, b_bEnd, b_bNext, b_bHyphen, b_least, b_before, b_way, b_lFrom, b_lTo, b_lNumber, b_lParagraph, b_lPage, b_lHyphen, b_lLast, b_best)) : wpY_pattern post (h_length, h_ligatures, h_patterns, h_firstWide, h_restWide, h_firstLines, h_spaceWide, h_stretch, h_shrink, h_tolerance, h_cost, h_height, h_ready, h_glyphCount, h_breaks, h_natural, h_spaces, h_lineCount, h_paragraphs, b_text, b_wide, b_joined, b_kerns, b_patA, b_patB, b_patC, b_patDigits, b_glyphs, b_glyphOf, b_bEnd, b_bNext, b_bHyphen, b_least, b_before, b_way, b_lFrom, b_lTo, b_lNumber, b_lParagraph, b_lPage, b_lHyphen, b_lLast, b_best) v1 v2 v3 v4 := by
  obtain ⟨rfl, rfl, rfl, rfl, ho, hq⟩ := hpe
  have O := P.2.2
  refine yw_pat0 (fun z => absurd hok z) (fun _ => ⟨gv_np e + 1, yw_find (q := 0) P ho (fun i i1 i2 i3 => ?_) (gv_np e) _ 0 (by omega) (by omega) (fun p hp => by omega)⟩)
  have hi : i = gv_np e := by
    rcases Nat.lt_or_ge i (gv_np e) with w | w
    · exact absurd (i2 w) (hno i w)
    · omega
  subst hi
  refine br_t (by rw [P.1]) (br_f (by rw [P.1]; show ¬ nI (gv_np e) = nI 10; rw [nI_eq (by omega) (by omega)]; omega) (br_t (by rw [P.1]) (nm_r (e' := nI (gv_np e + 1)) (by rw [P.1, nI_1]) (yw_236z (h_patterns := nI (gv_np e + 1)) (h_ready := 0) (m := gv_np e) (by omega) (by omega) rfl (h _ _ _ _ _ ⟨rfl, fun p hp => ?_, O⟩)))))
  have ep : p ≠ gv_np e := by omega
  rw [pk_un ep, pk_un ep, pk_un ep, pk_un ep, pk_un ep, pk_un ep, pk_un ep, pk_un ep]
  exact P.2.1 p hp
end
end
section
/-! the relation -/
def zz_J (k : Nat) (x y : Int32) : Prop := x = y ∧ -(k : Int) ≤ x.toInt ∧ x.toInt ≤ 8
/-- the relation at the head of a turn -/
def i_Rel (k : Nat) (u : SX) (v : SY) : Prop := match u with
  | (f_length, f_known, f_joins, f_patterns, f_first, f_rest, f_narrow, f_gap, f_stretch, f_shrink, f_tolerance, f_cost, f_height, f_breaks, f_lines, f_paragraphs, a_text, a_allowed, a_counts, a_wide, a_join, a_kerns, a_child, a_digits, a_uses, a_ends, a_begins, a_hyphened, a_least, a_before, a_natural, a_spaces, a_way, a_lineFrom, a_lineTo, a_linePart, a_linePage, a_lineWide, a_lineBad, a_lineHyphen, a_sums) => match v with
    | (h_length, h_ligatures, h_patterns, h_firstWide, h_restWide, h_firstLines, h_spaceWide, h_stretch, h_shrink, h_tolerance, h_cost, h_height, h_ready, h_glyphCount, h_breaks, h_natural, h_spaces, h_lineCount, h_paragraphs, b_text, b_wide, b_joined, b_kerns, b_patA, b_patB, b_patC, b_patDigits, b_glyphs, b_glyphOf, b_bEnd, b_bNext, b_bHyphen, b_least, b_before, b_way, b_lFrom, b_lTo, b_lNumber, b_lParagraph, b_lPage, b_lHyphen, b_lLast, b_best) => ∃ (e : gv_T) (kn rd : Bool), ex_F e f_length a_text a_wide a_join a_kerns ∧ ex_M e f_first f_rest f_narrow f_gap f_stretch f_shrink f_tolerance f_cost f_height ∧ ex_T e f_patterns a_child a_digits a_uses ∧ ey_F e h_length b_text b_wide b_joined b_kerns ∧ ey_M e h_firstWide h_restWide h_firstLines h_spaceWide h_stretch h_shrink h_tolerance h_cost h_height ∧ ey_P e h_patterns b_patA b_patB b_patC b_patDigits ∧ zz_J k f_joins h_ligatures ∧ f_known = bl_i kn ∧ (kn = true → ex_D e f_lines f_paragraphs a_lineFrom a_lineTo a_linePart a_linePage a_lineWide a_lineBad a_lineHyphen a_sums) ∧ h_ready = bl_i rd ∧ (rd = true → ey_D e h_lineCount h_paragraphs b_lFrom b_lTo b_lNumber b_lParagraph b_lPage b_lHyphen b_lLast b_best)
section
variable {e : gv_T} {f_length f_known f_joins f_patterns f_first f_rest f_narrow f_gap f_stretch f_shrink f_tolerance f_cost f_height f_breaks f_lines f_paragraphs : Int32} {a_text a_allowed a_counts a_wide a_join a_kerns a_child a_digits a_uses a_ends a_begins a_hyphened a_before a_natural a_spaces a_way a_lineFrom a_lineTo a_linePart a_linePage a_lineWide a_lineBad a_lineHyphen : Nat → Int32} {a_least a_sums : Nat → Int64} {h_length h_ligatures h_patterns h_firstWide h_restWide h_firstLines h_spaceWide h_stretch h_shrink h_tolerance h_cost h_height h_ready h_glyphCount h_breaks h_natural h_spaces h_lineCount h_paragraphs : Int32} {b_text b_wide b_joined b_kerns b_patA b_patB b_patC b_patDigits b_glyphs b_glyphOf b_bEnd b_bNext b_bHyphen b_before b_way b_lFrom b_lTo b_lNumber b_lParagraph b_lPage b_lHyphen b_lLast : Nat → Int32} {b_least b_best : Nat → Int64}
theorem zz_mk {k : Nat} (e : gv_T) (kn rd : Bool) (F : ex_F e f_length a_text a_wide a_join a_kerns) (M : ex_M e f_first f_rest f_narrow f_gap f_stretch f_shrink f_tolerance f_cost f_height) (T : ex_T e f_patterns a_child a_digits a_uses) (F' : ey_F e h_length b_text b_wide b_joined b_kerns) (M' : ey_M e h_firstWide h_restWide h_firstLines h_spaceWide h_stretch h_shrink h_tolerance h_cost h_height) (P : ey_P e h_patterns b_patA b_patB b_patC b_patDigits) (J : zz_J k f_joins h_ligatures) (hk : f_known = bl_i kn) (D : kn = true → ex_D e f_lines f_paragraphs a_lineFrom a_lineTo a_linePart a_linePage a_lineWide a_lineBad a_lineHyphen a_sums) (hr : h_ready = bl_i rd) (D' : rd = true → ey_D e h_lineCount h_paragraphs b_lFrom b_lTo b_lNumber b_lParagraph b_lPage b_lHyphen b_lLast b_best) : i_Rel k (f_length, f_known, f_joins, f_patterns, f_first, f_rest, f_narrow, f_gap, f_stretch, f_shrink, f_tolerance, f_cost, f_height, f_breaks, f_lines, f_paragraphs, a_text, a_allowed, a_counts, a_wide, a_join, a_kerns, a_child, a_digits, a_uses, a_ends, a_begins, a_hyphened, a_least, a_before, a_natural, a_spaces, a_way, a_lineFrom, a_lineTo, a_linePart, a_linePage, a_lineWide, a_lineBad, a_lineHyphen, a_sums) (h_length, h_ligatures, h_patterns, h_firstWide, h_restWide, h_firstLines, h_spaceWide, h_stretch, h_shrink, h_tolerance, h_cost, h_height, h_ready, h_glyphCount, h_breaks, h_natural, h_spaces, h_lineCount, h_paragraphs, b_text, b_wide, b_joined, b_kerns, b_patA, b_patB, b_patC, b_patDigits, b_glyphs, b_glyphOf, b_bEnd, b_bNext, b_bHyphen, b_least, b_before, b_way, b_lFrom, b_lTo, b_lNumber, b_lParagraph, b_lPage, b_lHyphen, b_lLast, b_best) :=
  show ∃ (e : gv_T) (kn rd : Bool), ex_F e f_length a_text a_wide a_join a_kerns ∧ ex_M e f_first f_rest f_narrow f_gap f_stretch f_shrink f_tolerance f_cost f_height ∧ ex_T e f_patterns a_child a_digits a_uses ∧ ey_F e h_length b_text b_wide b_joined b_kerns ∧ ey_M e h_firstWide h_restWide h_firstLines h_spaceWide h_stretch h_shrink h_tolerance h_cost h_height ∧ ey_P e h_patterns b_patA b_patB b_patC b_patDigits ∧ zz_J k f_joins h_ligatures ∧ f_known = bl_i kn ∧ (kn = true → ex_D e f_lines f_paragraphs a_lineFrom a_lineTo a_linePart a_linePage a_lineWide a_lineBad a_lineHyphen a_sums) ∧ h_ready = bl_i rd ∧ (rd = true → ey_D e h_lineCount h_paragraphs b_lFrom b_lTo b_lNumber b_lParagraph b_lPage b_lHyphen b_lLast b_best) from ⟨e, kn, rd, F, M, T, F', M', P, J, hk, D, hr, D'⟩
theorem zz_J5 {k : Nat} {x y : Int32} (J : zz_J k x y) : zz_J (k + 5) x y := ⟨J.1, by have := J.2.1; omega, J.2.2⟩
end
theorem zz_el {P : SX → SY → Prop} {k : Nat} {u : SX} {v : SY} (I : i_Rel k u v) (h : ∀ (e : gv_T) (kn rd : Bool) {f_length f_known f_joins f_patterns f_first f_rest f_narrow f_gap f_stretch f_shrink f_tolerance f_cost f_height f_breaks f_lines f_paragraphs : Int32} {a_text a_allowed a_counts a_wide a_join a_kerns a_child a_digits a_uses a_ends a_begins a_hyphened a_before a_natural a_spaces a_way a_lineFrom a_lineTo a_linePart a_linePage a_lineWide a_lineBad a_lineHyphen : Nat → Int32} {a_least a_sums : Nat → Int64} {h_length h_ligatures h_patterns h_firstWide h_restWide h_firstLines h_spaceWide h_stretch h_shrink h_tolerance h_cost h_height h_ready h_glyphCount h_breaks h_natural h_spaces h_lineCount h_paragraphs : Int32} {b_text b_wide b_joined b_kerns b_patA b_patB b_patC b_patDigits b_glyphs b_glyphOf b_bEnd b_bNext b_bHyphen b_before b_way b_lFrom b_lTo b_lNumber b_lParagraph b_lPage b_lHyphen b_lLast : Nat → Int32} {b_least b_best : Nat → Int64}, ex_F e f_length a_text a_wide a_join a_kerns → ex_M e f_first f_rest f_narrow f_gap f_stretch f_shrink f_tolerance f_cost f_height → ex_T e f_patterns a_child a_digits a_uses → ey_F e h_length b_text b_wide b_joined b_kerns → ey_M e h_firstWide h_restWide h_firstLines h_spaceWide h_stretch h_shrink h_tolerance h_cost h_height → ey_P e h_patterns b_patA b_patB b_patC b_patDigits → zz_J k f_joins h_ligatures → f_known = bl_i kn → (kn = true → ex_D e f_lines f_paragraphs a_lineFrom a_lineTo a_linePart a_linePage a_lineWide a_lineBad a_lineHyphen a_sums) → h_ready = bl_i rd → (rd = true → ey_D e h_lineCount h_paragraphs b_lFrom b_lTo b_lNumber b_lParagraph b_lPage b_lHyphen b_lLast b_best) → P (f_length, f_known, f_joins, f_patterns, f_first, f_rest, f_narrow, f_gap, f_stretch, f_shrink, f_tolerance, f_cost, f_height, f_breaks, f_lines, f_paragraphs, a_text, a_allowed, a_counts, a_wide, a_join, a_kerns, a_child, a_digits, a_uses, a_ends, a_begins, a_hyphened, a_least, a_before, a_natural, a_spaces, a_way, a_lineFrom, a_lineTo, a_linePart, a_linePage, a_lineWide, a_lineBad, a_lineHyphen, a_sums) (h_length, h_ligatures, h_patterns, h_firstWide, h_restWide, h_firstLines, h_spaceWide, h_stretch, h_shrink, h_tolerance, h_cost, h_height, h_ready, h_glyphCount, h_breaks, h_natural, h_spaces, h_lineCount, h_paragraphs, b_text, b_wide, b_joined, b_kerns, b_patA, b_patB, b_patC, b_patDigits, b_glyphs, b_glyphOf, b_bEnd, b_bNext, b_bHyphen, b_least, b_before, b_way, b_lFrom, b_lTo, b_lNumber, b_lParagraph, b_lPage, b_lHyphen, b_lLast, b_best)) : P u v := by
  obtain ⟨f_length, f_known, f_joins, f_patterns, f_first, f_rest, f_narrow, f_gap, f_stretch, f_shrink, f_tolerance, f_cost, f_height, f_breaks, f_lines, f_paragraphs, a_text, a_allowed, a_counts, a_wide, a_join, a_kerns, a_child, a_digits, a_uses, a_ends, a_begins, a_hyphened, a_least, a_before, a_natural, a_spaces, a_way, a_lineFrom, a_lineTo, a_linePart, a_linePage, a_lineWide, a_lineBad, a_lineHyphen, a_sums⟩ := u
  obtain ⟨h_length, h_ligatures, h_patterns, h_firstWide, h_restWide, h_firstLines, h_spaceWide, h_stretch, h_shrink, h_tolerance, h_cost, h_height, h_ready, h_glyphCount, h_breaks, h_natural, h_spaces, h_lineCount, h_paragraphs, b_text, b_wide, b_joined, b_kerns, b_patA, b_patB, b_patC, b_patDigits, b_glyphs, b_glyphOf, b_bEnd, b_bNext, b_bHyphen, b_least, b_before, b_way, b_lFrom, b_lTo, b_lNumber, b_lParagraph, b_lPage, b_lHyphen, b_lLast, b_best⟩ := v
  obtain ⟨e, kn, rd, F, M, T, F', M', Q, J, hk, D, hr, D'⟩ := I
  exact h e kn rd F M T F' M' Q J hk D hr D'
theorem i_up {k : Nat} {u : SX} {v : SY} (h : i_Rel k u v) : i_Rel (k + 5) u v :=
  zz_el (P := fun u v => i_Rel (k + 5) u v) h (fun e kn rd f_length f_known f_joins f_patterns f_first f_rest f_narrow f_gap f_stretch f_shrink f_tolerance f_cost f_height f_breaks f_lines f_paragraphs a_text a_allowed a_counts a_wide a_join a_kerns a_child a_digits a_uses a_ends a_begins a_hyphened a_before a_natural a_spaces a_way a_lineFrom a_lineTo a_linePart a_linePage a_lineWide a_lineBad a_lineHyphen a_least a_sums h_length h_ligatures h_patterns h_firstWide h_restWide h_firstLines h_spaceWide h_stretch h_shrink h_tolerance h_cost h_height h_ready h_glyphCount h_breaks h_natural h_spaces h_lineCount h_paragraphs b_text b_wide b_joined b_kerns b_patA b_patB b_patC b_patDigits b_glyphs b_glyphOf b_bEnd b_bNext b_bHyphen b_before b_way b_lFrom b_lTo b_lNumber b_lParagraph b_lPage b_lHyphen b_lLast b_least b_best F M T F' M' Q J hk D hr D' => zz_mk e kn rd F M T F' M' Q (zz_J5 J) hk D hr D')
end
section
/-! the constructors and the settings -/
def gv_0 : gv_T := ((0, fun _ => 0, fun _ => 10, fun _ => 5, fun _ => 0), (0, fun _ => 0, fun _ => 0, fun _ => 0, fun _ => 0), (100, 100, 0, 6, 3, 2, 200, 50, 6))
theorem gv_0F : gv_okF gv_0 := ⟨by decide, fun j => Nat.zero_le _, fun l _ => ⟨by show 6 ≤ 10; omega, by show 10 ≤ 30; omega⟩, fun k _ => by show 5 ≤ 10; omega, fun k _ => Nat.zero_le _⟩
theorem gv_0M : gv_okM gv_0 := by unfold gv_okM; decide
theorem gv_0P : gv_okP gv_0 := ⟨Nat.zero_le _, fun p hp => by have : p < 0 := hp; omega, fun p q hp => by have : p < 0 := hp; omega⟩
theorem ex_T0 : ex_T gv_0 0 (fun _ => 0) (fun _ => 0) (fun _ => 0) := by
  refine ⟨rfl, gv_0P, fun _ => 0, fun _ => 0, fun _ => 0, fun _ => 0, fun _ => 0, ⟨fun _ _ => rfl, fun _ _ => rfl, fun _ _ => rfl⟩, ⟨⟨rfl, rfl⟩, fun w _ => ⟨by show 0 < 32; omega, ⟨fun _ => rfl, fun _ => rfl⟩, fun z => absurd rfl z, fun z => absurd rfl z⟩, fun w w' _ _ _ z => absurd rfl z, fun v _ _ _ => ⟨rfl, rfl, fun _ _ => rfl⟩, fun _ _ _ _ => rfl, fun _ _ _ _ _ _ => rfl, fun w l _ _ _ z => absurd rfl z, by decide⟩, fun p hp => by have : p < 0 := hp; omega, fun w _ z => absurd rfl z⟩
theorem xw_init {post : SX → Prop} (h : ∀ wd, (∀ l, l < 10 → wd l = nI 10) → post (0, 0, 0, 0, 0, 100, 0, 6, 3, 2, 200, 50, 6, 0, 0, 0, (fun _ => 0), (fun _ => 0), (fun _ => 0), wd, (fun _ => 0), (fun _ => 0), (fun _ => 0), (fun _ => 0), (fun _ => 0), (fun _ => 0), (fun _ => 0), (fun _ => 0), (fun _ => 0), (fun _ => 0), (fun _ => 0), (fun _ => 0), (fun _ => 0), (fun _ => 0), (fun _ => 0), (fun _ => 0), (fun _ => 0), (fun _ => 0), (fun _ => 0), (fun _ => 0), (fun _ => 0))) : wpX_init post := by
  have loop : ∀ d n i wd, d < n → i + d = 10 → (∀ l, l < i → wd l = nI 10) → wX_init_209 post 0 0 0 0 0 0 0 0 0 0 0 0 0 0 0 0 n (nI i) (fun _ => 0) (fun _ => 0) (fun _ => 0) wd (fun _ => 0) (fun _ => 0) (fun _ => 0) (fun _ => 0) (fun _ => 0) (fun _ => 0) (fun _ => 0) (fun _ => 0) (fun _ => 0) (fun _ => 0) (fun _ => 0) (fun _ => 0) (fun _ => 0) (fun _ => 0) (fun _ => 0) (fun _ => 0) (fun _ => 0) (fun _ => 0) (fun _ => 0) (fun _ => 0) (fun _ => 0) := by
    intro d
    induction d with
    | zero =>
      intro n i wd hn hi hw
      obtain ⟨n, rfl⟩ : ∃ n', n = n' + 1 := ⟨n - 1, by omega⟩
      exact br_t (nI_le (a := 10) (by omega) (by omega)) (h wd (fun l hl => hw l (by omega)))
    | succ d ih =>
      intro n i wd hn hi hw
      obtain ⟨n, rfl⟩ : ∃ n', n = n' + 1 := ⟨n - 1, by omega⟩
      refine br_f (nI_ge (b := 10) (by omega) (by omega)) ⟨vp_in_nI (by omega) (by decide), nm_r (e' := upd wd i (nI 10)) (by rw [nI_clamp (by omega)]; rfl) (nm_r (nI_1 i) (ih n (i + 1) _ (by omega) (by omega) (fun l hl => ?_)))⟩
      by_cases el : l = i
      · rw [el, pk_us]
      · rw [pk_un el]; exact hw l (by omega)
  exact ⟨11, loop 10 11 0 _ (by omega) (by omega) (fun l hl => by omega)⟩
theorem yw_init {post : SY → Prop} (h : ∀ wd jn, (∀ l, l < 10 → wd l = nI 10) → (∀ l, l < 100 → jn l = -1) → post (0, 0, 0, 100, 100, 0, 6, 3, 2, 200, 50, 6, 0, 0, 0, 0, 0, 0, 0, (fun _ => 0), wd, jn, (fun _ => 0), (fun _ => 0), (fun _ => 0), (fun _ => 0), (fun _ => 0), (fun _ => 0), (fun _ => 0), (fun _ => 0), (fun _ => 0), (fun _ => 0), (fun _ => 0), (fun _ => 0), (fun _ => 0), (fun _ => 0), (fun _ => 0), (fun _ => 0), (fun _ => 0), (fun _ => 0), (fun _ => 0), (fun _ => 0), (fun _ => 0))) : wpY_init post := by
  have loop2 : ∀ wd, (∀ l, l < 10 → wd l = nI 10) → ∀ d n i jn, d < n → i + d = 100 → (∀ l, l < i → jn l = -1) → wY_init_269 post 0 0 0 100 100 0 6 3 2 200 50 6 0 0 0 0 0 0 0 n (nI i) (fun _ => 0) wd jn (fun _ => 0) (fun _ => 0) (fun _ => 0) (fun _ => 0) (fun _ => 0) (fun _ => 0) (fun _ => 0) (fun _ => 0) (fun _ => 0) (fun _ => 0) (fun _ => 0) (fun _ => 0) (fun _ => 0) (fun _ => 0) (fun _ => 0) (fun _ => 0) (fun _ => 0) (fun _ => 0) (fun _ => 0) (fun _ => 0) (fun _ => 0) := by
    intro wd hwd d
    induction d with
    | zero =>
      intro n i jn hn hi hw
      obtain ⟨n, rfl⟩ : ∃ n', n = n' + 1 := ⟨n - 1, by omega⟩
      exact br_t (nI_le (a := 100) (by omega) (by omega)) (h wd jn hwd (fun l hl => hw l (by omega)))
    | succ d ih =>
      intro n i jn hn hi hw
      obtain ⟨n, rfl⟩ : ∃ n', n = n' + 1 := ⟨n - 1, by omega⟩
      refine br_f (nI_ge (b := 100) (by omega) (by omega)) ⟨vp_in_nI (by omega) (by decide), nm_r (e' := upd jn i (-1)) (by rw [nI_clamp (by omega)]) (nm_r (nI_1 i) (ih n (i + 1) _ (by omega) (by omega) (fun l hl => ?_)))⟩
      by_cases el : l = i
      · rw [el, pk_us]
      · rw [pk_un el]; exact hw l (by omega)
  have loop : ∀ d n i wd, d < n → i + d = 10 → (∀ l, l < i → wd l = nI 10) → wY_init_247 post 0 0 0 100 100 0 6 3 2 200 50 6 0 0 0 0 0 0 0 n (nI i) (fun _ => 0) wd (fun _ => 0) (fun _ => 0) (fun _ => 0) (fun _ => 0) (fun _ => 0) (fun _ => 0) (fun _ => 0) (fun _ => 0) (fun _ => 0) (fun _ => 0) (fun _ => 0) (fun _ => 0) (fun _ => 0) (fun _ => 0) (fun _ => 0) (fun _ => 0) (fun _ => 0) (fun _ => 0) (fun _ => 0) (fun _ => 0) (fun _ => 0) (fun _ => 0) := by
    intro d
    induction d with
    | zero =>
      intro n i wd hn hi hw
      obtain ⟨n, rfl⟩ : ∃ n', n = n' + 1 := ⟨n - 1, by omega⟩
      exact br_t (nI_le (a := 10) (by omega) (by omega)) ⟨101, loop2 wd (fun l hl => hw l (by omega)) 100 101 0 _ (by omega) (by omega) (fun l hl => by omega)⟩
    | succ d ih =>
      intro n i wd hn hi hw
      obtain ⟨n, rfl⟩ : ∃ n', n = n' + 1 := ⟨n - 1, by omega⟩
      refine br_f (nI_ge (b := 10) (by omega) (by omega)) ⟨vp_in_nI (by omega) (by decide), nm_r (e' := upd wd i (nI 10)) (by rw [nI_clamp (by omega)]; rfl) (nm_r (nI_1 i) (ih n (i + 1) _ (by omega) (by omega) (fun l hl => ?_)))⟩
      by_cases el : l = i
      · rw [el, pk_us]
      · rw [pk_un el]; exact hw l (by omega)
  exact ⟨11, loop 10 11 0 _ (by omega) (by omega) (fun l hl => by omega)⟩
theorem i_vc0 : wpX_init (fun u => wpY_init (fun v => i_Rel 0 u v)) := by
  refine xw_init (fun wd hwd => yw_init (fun wd' jn hwd' hjn => ?_))
  refine zz_mk gv_0 false false ⟨rfl, fun _ => rfl, hwd, fun _ _ => rfl, fun _ _ => (by show (0 : Int32) = nI 5 - 5; decide), gv_0F⟩ ⟨⟨0, by omega, rfl, fun h => by have : 0 < 0 := h; omega⟩, rfl, rfl, rfl, rfl, rfl, rfl, rfl, rfl, gv_0M⟩ ex_T0 ⟨rfl, fun _ => rfl, hwd', fun l hl => ?_, fun _ _ => (by show (0 : Int32) = nI 5 - 5; decide), gv_0F⟩ ⟨rfl, rfl, rfl, rfl, rfl, rfl, rfl, rfl, rfl, gv_0M⟩ ⟨rfl, fun p hp => by have : p < 0 := hp; omega, gv_0P⟩ ⟨rfl, by decide, by decide⟩ rfl (fun h => by cases h) rfl (fun h => by cases h)
  rw [hjn l hl]; rfl
/-! text -/
def gv_F (e : gv_T) (ln : Nat) (tx wd kn jn : Nat → Nat) : gv_T := ((ln, tx, wd, kn, jn), e.2)
noncomputable def gv_add (e : gv_T) (c : Int32) : gv_T := @ite _ (c.toInt < 0 ∨ 11 < c.toInt ∨ gv_ln e = 48) (Classical.propDecidable _) e (gv_F e (gv_ln e + 1) (dp_u (gv_tx e) (gv_ln e) c.toInt.toNat) (gv_wd e) (gv_kn e) (gv_jn e))
theorem gv_add_n {e : gv_T} {c : Int32} (h : c.toInt < 0 ∨ 11 < c.toInt ∨ gv_ln e = 48) : gv_add e c = e := if_pos h
theorem gv_add_y {e : gv_T} {c : Int32} (h : ¬ (c.toInt < 0 ∨ 11 < c.toInt ∨ gv_ln e = 48)) : gv_add e c = gv_F e (gv_ln e + 1) (dp_u (gv_tx e) (gv_ln e) c.toInt.toNat) (gv_wd e) (gv_kn e) (gv_jn e) := if_neg h
theorem gv_add_2 (e : gv_T) (c : Int32) : (gv_add e c).2 = e.2 := by
  by_cases h : c.toInt < 0 ∨ 11 < c.toInt ∨ gv_ln e = 48
  · rw [gv_add_n h]
  · rw [gv_add_y h]; rfl
theorem iw_toN {c : Int32} (h : 0 ≤ c.toInt) : c = nI c.toInt.toNat := by
  apply Int32.toInt_inj.mp
  have := c.toInt_lt
  rw [nI_toInt (by omega)]
  omega
section
variable {e : gv_T} {f_length f_known f_joins f_patterns f_first f_rest f_narrow f_gap f_stretch f_shrink f_tolerance f_cost f_height f_breaks f_lines f_paragraphs : Int32} {a_text a_allowed a_counts a_wide a_join a_kerns a_child a_digits a_uses a_ends a_begins a_hyphened a_before a_natural a_spaces a_way a_lineFrom a_lineTo a_linePart a_linePage a_lineWide a_lineBad a_lineHyphen : Nat → Int32} {a_least a_sums : Nat → Int64} {h_length h_ligatures h_patterns h_firstWide h_restWide h_firstLines h_spaceWide h_stretch h_shrink h_tolerance h_cost h_height h_ready h_glyphCount h_breaks h_natural h_spaces h_lineCount h_paragraphs : Int32} {b_text b_wide b_joined b_kerns b_patA b_patB b_patC b_patDigits b_glyphs b_glyphOf b_bEnd b_bNext b_bHyphen b_before b_way b_lFrom b_lTo b_lNumber b_lParagraph b_lPage b_lHyphen b_lLast : Nat → Int32} {b_least b_best : Nat → Int64}
theorem xw_add {post : SX → Prop} {c : Int32} {kn : Bool} (F : ex_F e f_length a_text a_wide a_join a_kerns) (hk : f_known = bl_i kn) (h : ∀ fl kn' tx, ex_F (gv_add e c) fl tx a_wide a_join a_kerns → (kn' = true → kn = true ∧ gv_add e c = e) → post (fl, bl_i kn', f_joins, f_patterns, f_first, f_rest, f_narrow, f_gap, f_stretch, f_shrink, f_tolerance, f_cost, f_height, f_breaks, f_lines, f_paragraphs, tx, a_allowed, a_counts, a_wide, a_join, a_kerns, a_child, a_digits, a_uses, a_ends, a_begins, a_hyphened, a_least, a_before, a_natural, a_spaces, a_way, a_lineFrom, a_lineTo, a_linePart, a_linePage, a_lineWide, a_lineBad, a_lineHyphen, a_sums)) : wpX_add post (f_length, f_known, f_joins, f_patterns, f_first, f_rest, f_narrow, f_gap, f_stretch, f_shrink, f_tolerance, f_cost, f_height, f_breaks, f_lines, f_paragraphs, a_text, a_allowed, a_counts, a_wide, a_join, a_kerns, a_child, a_digits, a_uses, a_ends, a_begins, a_hyphened, a_least, a_before, a_natural, a_spaces, a_way, a_lineFrom, a_lineTo, a_linePart, a_linePage, a_lineWide, a_lineBad, a_lineHyphen, a_sums) c := by
  obtain ⟨F1, F2, F3, F4, F5, E⟩ := id F
  obtain ⟨E1, E2, E3, E4, E5⟩ := id E
  have t0 : (0 : Int32).toInt = 0 := rfl
  have t11 : (11 : Int32).toInt = 11 := rfl
  have same : (c.toInt < 0 ∨ 11 < c.toInt ∨ gv_ln e = 48) → post (f_length, f_known, f_joins, f_patterns, f_first, f_rest, f_narrow, f_gap, f_stretch, f_shrink, f_tolerance, f_cost, f_height, f_breaks, f_lines, f_paragraphs, a_text, a_allowed, a_counts, a_wide, a_join, a_kerns, a_child, a_digits, a_uses, a_ends, a_begins, a_hyphened, a_least, a_before, a_natural, a_spaces, a_way, a_lineFrom, a_lineTo, a_linePart, a_linePage, a_lineWide, a_lineBad, a_lineHyphen, a_sums) := by
    intro hc
    have := h f_length kn a_text (by rw [gv_add_n hc]; exact F) (fun z => ⟨z, gv_add_n hc⟩)
    rw [← hk] at this
    exact this
  refine ek_if (il_lt c 0) (fun g => same (Or.inl (by omega))) (fun g => ek_if (il_lt 11 c) (fun g1 => same (Or.inr (Or.inl (by omega)))) (fun g1 => pk_eq (gv_ln e) 48 (fun g2 => same (Or.inr (Or.inr g2))) (fun g2 => nm_r (e' := nI (gv_ln e + 1)) (by rw [F1, nI_1]) ⟨by rw [F1]; exact vp_in_nI (by omega) (by decide), nm_r (e' := upd a_text (gv_ln e) (nI c.toInt.toNat)) ?_ ?_⟩) F1 rfl))
  · rw [F1, nI_clamp (by omega)]
    conv => lhs; rw [iw_toN (c := c) (by omega)]
    rw [iw_bb (by omega)]
  · have hc : ¬ (c.toInt < 0 ∨ 11 < c.toInt ∨ gv_ln e = 48) := by omega
    refine h _ false _ ?_ (fun z => by cases z)
    rw [gv_add_y hc]
    refine ⟨rfl, fun j => ?_, F3, F4, F5, by show gv_ln e + 1 ≤ 48; omega, fun j => ?_, E3, E4, E5⟩
    · show upd a_text (gv_ln e) (nI c.toInt.toNat) j = nI (dp_u (gv_tx e) (gv_ln e) c.toInt.toNat j)
      by_cases ej : j = gv_ln e
      · rw [ej, pk_us, dp_us]
      · rw [pk_un ej, dp_un _ _ ej]; exact F2 j
    · show dp_u (gv_tx e) (gv_ln e) c.toInt.toNat j ≤ 11
      by_cases ej : j = gv_ln e
      · rw [ej, dp_us]; omega
      · rw [dp_un _ _ ej]; exact E2 j
theorem yw_add {post : SY → Prop} {c : Int32} {rd : Bool} (F : ey_F e h_length b_text b_wide b_joined b_kerns) (hk : h_ready = bl_i rd) (h : ∀ fl rd' tx, ey_F (gv_add e c) fl tx b_wide b_joined b_kerns → (rd' = true → rd = true ∧ gv_add e c = e) → post (fl, h_ligatures, h_patterns, h_firstWide, h_restWide, h_firstLines, h_spaceWide, h_stretch, h_shrink, h_tolerance, h_cost, h_height, bl_i rd', h_glyphCount, h_breaks, h_natural, h_spaces, h_lineCount, h_paragraphs, tx, b_wide, b_joined, b_kerns, b_patA, b_patB, b_patC, b_patDigits, b_glyphs, b_glyphOf, b_bEnd, b_bNext, b_bHyphen, b_least, b_before, b_way, b_lFrom, b_lTo, b_lNumber, b_lParagraph, b_lPage, b_lHyphen, b_lLast, b_best)) : wpY_add post (h_length, h_ligatures, h_patterns, h_firstWide, h_restWide, h_firstLines, h_spaceWide, h_stretch, h_shrink, h_tolerance, h_cost, h_height, h_ready, h_glyphCount, h_breaks, h_natural, h_spaces, h_lineCount, h_paragraphs, b_text, b_wide, b_joined, b_kerns, b_patA, b_patB, b_patC, b_patDigits, b_glyphs, b_glyphOf, b_bEnd, b_bNext, b_bHyphen, b_least, b_before, b_way, b_lFrom, b_lTo, b_lNumber, b_lParagraph, b_lPage, b_lHyphen, b_lLast, b_best) c := by
  obtain ⟨F1, F2, F3, F4, F5, E⟩ := id F
  obtain ⟨E1, E2, E3, E4, E5⟩ := id E
  have t0 : (0 : Int32).toInt = 0 := rfl
  have t11 : (11 : Int32).toInt = 11 := rfl
  have same : (c.toInt < 0 ∨ 11 < c.toInt ∨ gv_ln e = 48) → post (h_length, h_ligatures, h_patterns, h_firstWide, h_restWide, h_firstLines, h_spaceWide, h_stretch, h_shrink, h_tolerance, h_cost, h_height, h_ready, h_glyphCount, h_breaks, h_natural, h_spaces, h_lineCount, h_paragraphs, b_text, b_wide, b_joined, b_kerns, b_patA, b_patB, b_patC, b_patDigits, b_glyphs, b_glyphOf, b_bEnd, b_bNext, b_bHyphen, b_least, b_before, b_way, b_lFrom, b_lTo, b_lNumber, b_lParagraph, b_lPage, b_lHyphen, b_lLast, b_best) := by
    intro hc
    have := h h_length rd b_text (by rw [gv_add_n hc]; exact F) (fun z => ⟨z, gv_add_n hc⟩)
    rw [← hk] at this
    exact this
  refine ek_if (il_lt c 0) (fun g => same (Or.inl (by omega))) (fun g => ek_if (il_lt 11 c) (fun g1 => same (Or.inr (Or.inl (by omega)))) (fun g1 => pk_eq (gv_ln e) 48 (fun g2 => same (Or.inr (Or.inr g2))) (fun g2 => nm_r (e' := nI (gv_ln e + 1)) (by rw [F1, nI_1]) ⟨by rw [F1]; exact vp_in_nI (by omega) (by decide), nm_r (e' := upd b_text (gv_ln e) (nI c.toInt.toNat)) ?_ ?_⟩) F1 rfl))
  · rw [F1, nI_clamp (by omega)]
    conv => lhs; rw [iw_toN (c := c) (by omega)]
  · have hc : ¬ (c.toInt < 0 ∨ 11 < c.toInt ∨ gv_ln e = 48) := by omega
    refine h _ false _ ?_ (fun z => by cases z)
    rw [gv_add_y hc]
    refine ⟨rfl, fun j => ?_, F3, F4, F5, by show gv_ln e + 1 ≤ 48; omega, fun j => ?_, E3, E4, E5⟩
    · show upd b_text (gv_ln e) (nI c.toInt.toNat) j = nI (dp_u (gv_tx e) (gv_ln e) c.toInt.toNat j)
      by_cases ej : j = gv_ln e
      · rw [ej, pk_us, dp_us]
      · rw [pk_un ej, dp_un _ _ ej]; exact F2 j
    · show dp_u (gv_tx e) (gv_ln e) c.toInt.toNat j ≤ 11
      by_cases ej : j = gv_ln e
      · rw [ej, dp_us]; omega
      · rw [dp_un _ _ ej]; exact E2 j
theorem ex_M2 {e' : gv_T} (h : e'.2 = e.2) (M : ex_M e f_first f_rest f_narrow f_gap f_stretch f_shrink f_tolerance f_cost f_height) : ex_M e' f_first f_rest f_narrow f_gap f_stretch f_shrink f_tolerance f_cost f_height := by
  obtain ⟨a, b⟩ := e
  obtain ⟨a', b'⟩ := e'
  have : b' = b := h
  subst this
  exact M
theorem ex_T2 {e' : gv_T} (h : e'.2 = e.2) (T : ex_T e f_patterns a_child a_digits a_uses) : ex_T e' f_patterns a_child a_digits a_uses := by
  obtain ⟨a, b⟩ := e
  obtain ⟨a', b'⟩ := e'
  have : b' = b := h
  subst this
  exact T
theorem ey_M2 {e' : gv_T} (h : e'.2 = e.2) (M : ey_M e h_firstWide h_restWide h_firstLines h_spaceWide h_stretch h_shrink h_tolerance h_cost h_height) : ey_M e' h_firstWide h_restWide h_firstLines h_spaceWide h_stretch h_shrink h_tolerance h_cost h_height := by
  obtain ⟨a, b⟩ := e
  obtain ⟨a', b'⟩ := e'
  have : b' = b := h
  subst this
  exact M
theorem ey_P2 {e' : gv_T} (h : e'.2 = e.2) (P : ey_P e h_patterns b_patA b_patB b_patC b_patDigits) : ey_P e' h_patterns b_patA b_patB b_patC b_patDigits := by
  obtain ⟨a, b⟩ := e
  obtain ⟨a', b'⟩ := e'
  have : b' = b := h
  subst this
  exact P
end
theorem i_vc_put {k : Nat} {u : SX} {v : SY} (I : i_Rel k u v) (hk : k + 5 ≤ 2560) (v1 : Int32) (v2 : Int32) (v3 : Int32) (v4 : Int32) : wpX_put (fun r u' => wpY_put (fun r' v' => r' = r ∧ i_Rel (k + 5) u' v') v v1 v2 v3 v4) u v1 v2 v3 v4 := by
  refine zz_el (P := fun u v => wpX_put (fun r u' => wpY_put (fun r' v' => r' = r ∧ i_Rel (k + 5) u' v') v v1 v2 v3 v4) u v1 v2 v3 v4) I (fun e kn rd f_length f_known f_joins f_patterns f_first f_rest f_narrow f_gap f_stretch f_shrink f_tolerance f_cost f_height f_breaks f_lines f_paragraphs a_text a_allowed a_counts a_wide a_join a_kerns a_child a_digits a_uses a_ends a_begins a_hyphened a_before a_natural a_spaces a_way a_lineFrom a_lineTo a_linePart a_linePage a_lineWide a_lineBad a_lineHyphen a_least a_sums h_length h_ligatures h_patterns h_firstWide h_restWide h_firstLines h_spaceWide h_stretch h_shrink h_tolerance h_cost h_height h_ready h_glyphCount h_breaks h_natural h_spaces h_lineCount h_paragraphs b_text b_wide b_joined b_kerns b_patA b_patB b_patC b_patDigits b_glyphs b_glyphOf b_bEnd b_bNext b_bHyphen b_before b_way b_lFrom b_lTo b_lNumber b_lParagraph b_lPage b_lHyphen b_lLast b_least b_best F M T F' M' Q J hk D hr D' => ?_)
  unfold wpX_put
  refine xw_add F hk (fun l1 k1 t1 F1 c1 => xw_add (a_text := t1) F1 rfl (fun l2 k2 t2 F2 c2 => xw_add (a_text := t2) F2 rfl (fun l3 k3 t3 F3 c3 => xw_add (a_text := t3) F3 rfl (fun l4 k4 t4 F4 c4 => ?_))))
  unfold wpY_put
  refine yw_add F' hr (fun m1 r1 s1 G1 d1 => yw_add (b_text := s1) G1 rfl (fun m2 r2 s2 G2 d2 => yw_add (b_text := s2) G2 rfl (fun m3 r3 s3 G3 d3 => yw_add (b_text := s3) G3 rfl (fun m4 r4 s4 G4 d4 => ?_))))
  have e2 : (gv_add (gv_add (gv_add (gv_add e v1) v2) v3) v4).2 = e.2 := by rw [gv_add_2, gv_add_2, gv_add_2, gv_add_2]
  refine ⟨G4.1.trans F4.1.symm, zz_mk _ k4 r4 F4 (ex_M2 e2 M) (ex_T2 e2 T) G4 (ey_M2 e2 M') (ey_P2 e2 Q) (zz_J5 J) rfl (fun z => ?_) rfl (fun z => ?_)⟩
  · obtain ⟨z3, a4⟩ := c4 z
    obtain ⟨z2, a3⟩ := c3 z3
    obtain ⟨z1, a2⟩ := c2 z2
    obtain ⟨z0, a1⟩ := c1 z1
    rw [a4, a3, a2, a1]; exact D z0
  · obtain ⟨z3, a4⟩ := d4 z
    obtain ⟨z2, a3⟩ := d3 z3
    obtain ⟨z1, a2⟩ := d2 z2
    obtain ⟨z0, a1⟩ := d1 z1
    rw [a4, a3, a2, a1]; exact D' z0
theorem i_vc_wipe {k : Nat} {u : SX} {v : SY} (I : i_Rel k u v) (hk : k + 5 ≤ 2560) : wpX_wipe (fun r u' => wpY_wipe (fun r' v' => r' = r ∧ i_Rel (k + 5) u' v') v) u := by
  refine zz_el (P := fun u v => wpX_wipe (fun r u' => wpY_wipe (fun r' v' => r' = r ∧ i_Rel (k + 5) u' v') v) u) I (fun e kn rd f_length f_known f_joins f_patterns f_first f_rest f_narrow f_gap f_stretch f_shrink f_tolerance f_cost f_height f_breaks f_lines f_paragraphs a_text a_allowed a_counts a_wide a_join a_kerns a_child a_digits a_uses a_ends a_begins a_hyphened a_before a_natural a_spaces a_way a_lineFrom a_lineTo a_linePart a_linePage a_lineWide a_lineBad a_lineHyphen a_least a_sums h_length h_ligatures h_patterns h_firstWide h_restWide h_firstLines h_spaceWide h_stretch h_shrink h_tolerance h_cost h_height h_ready h_glyphCount h_breaks h_natural h_spaces h_lineCount h_paragraphs b_text b_wide b_joined b_kerns b_patA b_patB b_patC b_patDigits b_glyphs b_glyphOf b_bEnd b_bNext b_bHyphen b_before b_way b_lFrom b_lTo b_lNumber b_lParagraph b_lPage b_lHyphen b_lLast b_least b_best F M T F' M' Q J hk D hr D' => ?_)
  obtain ⟨F1, F2, F3, F4, F5, E1, E2, E3, E4, E5⟩ := F
  obtain ⟨G1, G2, G3, G4, G5, -⟩ := F'
  have E : gv_okF (gv_F e 0 (gv_tx e) (gv_wd e) (gv_kn e) (gv_jn e)) := ⟨by show 0 ≤ 48; omega, E2, E3, E4, E5⟩
  show _ ∧ _
  exact ⟨G1.trans F1.symm, zz_mk (gv_F e 0 (gv_tx e) (gv_wd e) (gv_kn e) (gv_jn e)) false false ⟨rfl, F2, F3, F4, F5, E⟩ M T ⟨rfl, G2, G3, G4, G5, E⟩ M' Q (zz_J5 J) rfl (fun z => by cases z) rfl (fun z => by cases z)⟩
end
section
/-! width, ligature, kern, pattern, measure, glue, rules -/
theorem iv_n {v : Int32} {n : Nat} (h0 : 0 ≤ v.toInt) (h : v.toInt < n) : ∃ x : Nat, x < n ∧ v = nI x := ⟨v.toInt.toNat, by omega, iw_toN h0⟩
theorem iw_i8g {v : Int32} (h1 : -128 ≤ v.toInt) (h2 : v.toInt < 128) : vp_nar .byte v.toInt8.toInt32 = v := by
  rw [lg_i2b_small h1 h2, vp_nar_byte, lg_i2b_small h1 h2]
theorem yw_letter {post : Int32 → Prop} {u : SY} {v : Int32} (h1 : 0 ≤ v.toInt → v.toInt < 10 → post 1) (h0 : ¬ (0 ≤ v.toInt ∧ v.toInt < 10) → post 0) : wpY_letter post u v := by
  have t0 : (0 : Int32).toInt = 0 := rfl
  have t10 : (10 : Int32).toInt = 10 := rfl
  exact ek_if (il_lt v 0) (fun g => h0 (by omega)) (fun g => ek_if (il_le 10 v) (fun g1 => h0 (by omega)) (fun g1 => h1 (by omega) (by omega)))
section
variable {e : gv_T} {f_length f_known f_joins f_patterns f_first f_rest f_narrow f_gap f_stretch f_shrink f_tolerance f_cost f_height f_breaks f_lines f_paragraphs : Int32} {a_text a_allowed a_counts a_wide a_join a_kerns a_child a_digits a_uses a_ends a_begins a_hyphened a_before a_natural a_spaces a_way a_lineFrom a_lineTo a_linePart a_linePage a_lineWide a_lineBad a_lineHyphen : Nat → Int32} {a_least a_sums : Nat → Int64} {h_length h_ligatures h_patterns h_firstWide h_restWide h_firstLines h_spaceWide h_stretch h_shrink h_tolerance h_cost h_height h_ready h_glyphCount h_breaks h_natural h_spaces h_lineCount h_paragraphs : Int32} {b_text b_wide b_joined b_kerns b_patA b_patB b_patC b_patDigits b_glyphs b_glyphOf b_bEnd b_bNext b_bHyphen b_before b_way b_lFrom b_lTo b_lNumber b_lParagraph b_lPage b_lHyphen b_lLast : Nat → Int32} {b_least b_best : Nat → Int64}
theorem xw_width {post : Int32 → SX → Prop} {v1 v2 : Int32} (hY : 0 ≤ v1.toInt ∧ v1.toInt < 10 ∧ 6 ≤ v2.toInt ∧ v2.toInt ≤ 30 → ∀ ac, ac = upd a_wide v1.toNatClampNeg v2 → post 1 (f_length, 0, f_joins, f_patterns, f_first, f_rest, f_narrow, f_gap, f_stretch, f_shrink, f_tolerance, f_cost, f_height, f_breaks, f_lines, f_paragraphs, a_text, a_allowed, a_counts, ac, a_join, a_kerns, a_child, a_digits, a_uses, a_ends, a_begins, a_hyphened, a_least, a_before, a_natural, a_spaces, a_way, a_lineFrom, a_lineTo, a_linePart, a_linePage, a_lineWide, a_lineBad, a_lineHyphen, a_sums)) (hN : ¬ (0 ≤ v1.toInt ∧ v1.toInt < 10 ∧ 6 ≤ v2.toInt ∧ v2.toInt ≤ 30) → post 0 (f_length, f_known, f_joins, f_patterns, f_first, f_rest, f_narrow, f_gap, f_stretch, f_shrink, f_tolerance, f_cost, f_height, f_breaks, f_lines, f_paragraphs, a_text, a_allowed, a_counts, a_wide, a_join, a_kerns, a_child, a_digits, a_uses, a_ends, a_begins, a_hyphened, a_least, a_before, a_natural, a_spaces, a_way, a_lineFrom, a_lineTo, a_linePart, a_linePage, a_lineWide, a_lineBad, a_lineHyphen, a_sums)) : wpX_width post (f_length, f_known, f_joins, f_patterns, f_first, f_rest, f_narrow, f_gap, f_stretch, f_shrink, f_tolerance, f_cost, f_height, f_breaks, f_lines, f_paragraphs, a_text, a_allowed, a_counts, a_wide, a_join, a_kerns, a_child, a_digits, a_uses, a_ends, a_begins, a_hyphened, a_least, a_before, a_natural, a_spaces, a_way, a_lineFrom, a_lineTo, a_linePart, a_linePage, a_lineWide, a_lineBad, a_lineHyphen, a_sums) v1 v2 := by
  have t6 : (6 : Int32).toInt = 6 := rfl
  have t30 : (30 : Int32).toInt = 30 := rfl
  unfold wpX_width
  refine xw_letter (fun a1 a2 => br_f (by decide) (xw_within (fun b1 b2 => br_f (by decide) ⟨vp_in_iff.mpr ⟨a1, by omega⟩, nm_r (e' := upd a_wide v1.toNatClampNeg v2) (by rw [iw_i8g (by omega) (by omega)]) ?_⟩) (fun g => br_t rfl (hN (by omega))))) (fun g => br_t rfl (hN (by omega)))
  show _ ∧ _
  exact ⟨rfl, hY ⟨a1, a2, by omega, by omega⟩ _ rfl⟩
theorem yw_width {post : Int32 → SY → Prop} {v1 v2 : Int32} (hY : 0 ≤ v1.toInt ∧ v1.toInt < 10 ∧ 6 ≤ v2.toInt ∧ v2.toInt ≤ 30 → ∀ ac, ac = upd b_wide v1.toNatClampNeg v2 → post 1 (h_length, h_ligatures, h_patterns, h_firstWide, h_restWide, h_firstLines, h_spaceWide, h_stretch, h_shrink, h_tolerance, h_cost, h_height, 0, h_glyphCount, h_breaks, h_natural, h_spaces, h_lineCount, h_paragraphs, b_text, ac, b_joined, b_kerns, b_patA, b_patB, b_patC, b_patDigits, b_glyphs, b_glyphOf, b_bEnd, b_bNext, b_bHyphen, b_least, b_before, b_way, b_lFrom, b_lTo, b_lNumber, b_lParagraph, b_lPage, b_lHyphen, b_lLast, b_best)) (hN : ¬ (0 ≤ v1.toInt ∧ v1.toInt < 10 ∧ 6 ≤ v2.toInt ∧ v2.toInt ≤ 30) → post 0 (h_length, h_ligatures, h_patterns, h_firstWide, h_restWide, h_firstLines, h_spaceWide, h_stretch, h_shrink, h_tolerance, h_cost, h_height, h_ready, h_glyphCount, h_breaks, h_natural, h_spaces, h_lineCount, h_paragraphs, b_text, b_wide, b_joined, b_kerns, b_patA, b_patB, b_patC, b_patDigits, b_glyphs, b_glyphOf, b_bEnd, b_bNext, b_bHyphen, b_least, b_before, b_way, b_lFrom, b_lTo, b_lNumber, b_lParagraph, b_lPage, b_lHyphen, b_lLast, b_best)) : wpY_width post (h_length, h_ligatures, h_patterns, h_firstWide, h_restWide, h_firstLines, h_spaceWide, h_stretch, h_shrink, h_tolerance, h_cost, h_height, h_ready, h_glyphCount, h_breaks, h_natural, h_spaces, h_lineCount, h_paragraphs, b_text, b_wide, b_joined, b_kerns, b_patA, b_patB, b_patC, b_patDigits, b_glyphs, b_glyphOf, b_bEnd, b_bNext, b_bHyphen, b_least, b_before, b_way, b_lFrom, b_lTo, b_lNumber, b_lParagraph, b_lPage, b_lHyphen, b_lLast, b_best) v1 v2 := by
  have t6 : (6 : Int32).toInt = 6 := rfl
  have t30 : (30 : Int32).toInt = 30 := rfl
  unfold wpY_width
  refine yw_letter (fun a1 a2 => br_f (by decide) (ek_if (il_lt v2 6) (fun g => hN (by omega)) (fun g => ek_if (il_le v2 30) (fun g1 => ⟨vp_in_iff.mpr ⟨a1, by omega⟩, hY ⟨a1, a2, by omega, by omega⟩⟩) (fun g1 => hN (by omega))))) (fun g => br_t rfl (hN (by omega)))
theorem xw_kern {post : Int32 → SX → Prop} {v1 v2 v3 : Int32} (hY : ∀ x y : Nat, v1 = nI x → v2 = nI y → x < 10 → y < 10 → -5 ≤ v3.toInt → v3.toInt ≤ 5 → post 1 (f_length, 0, f_joins, f_patterns, f_first, f_rest, f_narrow, f_gap, f_stretch, f_shrink, f_tolerance, f_cost, f_height, f_breaks, f_lines, f_paragraphs, a_text, a_allowed, a_counts, a_wide, a_join, upd a_kerns (10 * x + y) v3, a_child, a_digits, a_uses, a_ends, a_begins, a_hyphened, a_least, a_before, a_natural, a_spaces, a_way, a_lineFrom, a_lineTo, a_linePart, a_linePage, a_lineWide, a_lineBad, a_lineHyphen, a_sums)) (hN : ¬ (0 ≤ v1.toInt ∧ v1.toInt < 10 ∧ 0 ≤ v2.toInt ∧ v2.toInt < 10 ∧ -5 ≤ v3.toInt ∧ v3.toInt ≤ 5) → post 0 (f_length, f_known, f_joins, f_patterns, f_first, f_rest, f_narrow, f_gap, f_stretch, f_shrink, f_tolerance, f_cost, f_height, f_breaks, f_lines, f_paragraphs, a_text, a_allowed, a_counts, a_wide, a_join, a_kerns, a_child, a_digits, a_uses, a_ends, a_begins, a_hyphened, a_least, a_before, a_natural, a_spaces, a_way, a_lineFrom, a_lineTo, a_linePart, a_linePage, a_lineWide, a_lineBad, a_lineHyphen, a_sums)) : wpX_kern post (f_length, f_known, f_joins, f_patterns, f_first, f_rest, f_narrow, f_gap, f_stretch, f_shrink, f_tolerance, f_cost, f_height, f_breaks, f_lines, f_paragraphs, a_text, a_allowed, a_counts, a_wide, a_join, a_kerns, a_child, a_digits, a_uses, a_ends, a_begins, a_hyphened, a_least, a_before, a_natural, a_spaces, a_way, a_lineFrom, a_lineTo, a_linePart, a_linePage, a_lineWide, a_lineBad, a_lineHyphen, a_sums) v1 v2 v3 := by
  have t5 : (5 : Int32).toInt = 5 := rfl
  have tm5 : (-5 : Int32).toInt = -5 := by decide
  unfold wpX_kern
  refine xw_letter (fun a1 a2 => br_f (by decide) (xw_letter (fun b1 b2 => br_f (by decide) (xw_within (fun c1 c2 => br_f (by decide) ?_) (fun g => br_t rfl (hN (by omega))))) (fun g => br_t rfl (hN (by omega))))) (fun g => br_t rfl (hN (by omega)))
  obtain ⟨x, hx, rfl⟩ := iv_n (n := 10) a1 (by omega)
  obtain ⟨y, hy, rfl⟩ := iv_n (n := 10) b1 (by omega)
  rw [iw_ix, nI_clamp (n := 10 * x + y) (by omega), iw_i8g (by omega) (by omega)]
  refine ⟨vp_in_nI (by omega) (by decide), nm_e ?_⟩
  show _ ∧ _
  exact ⟨rfl, hY x y rfl rfl hx hy (by omega) (by omega)⟩
theorem yw_kern {post : Int32 → SY → Prop} {v1 v2 v3 : Int32} (hY : ∀ x y : Nat, v1 = nI x → v2 = nI y → x < 10 → y < 10 → -5 ≤ v3.toInt → v3.toInt ≤ 5 → post 1 (h_length, h_ligatures, h_patterns, h_firstWide, h_restWide, h_firstLines, h_spaceWide, h_stretch, h_shrink, h_tolerance, h_cost, h_height, 0, h_glyphCount, h_breaks, h_natural, h_spaces, h_lineCount, h_paragraphs, b_text, b_wide, b_joined, upd b_kerns (10 * x + y) v3, b_patA, b_patB, b_patC, b_patDigits, b_glyphs, b_glyphOf, b_bEnd, b_bNext, b_bHyphen, b_least, b_before, b_way, b_lFrom, b_lTo, b_lNumber, b_lParagraph, b_lPage, b_lHyphen, b_lLast, b_best)) (hN : ¬ (0 ≤ v1.toInt ∧ v1.toInt < 10 ∧ 0 ≤ v2.toInt ∧ v2.toInt < 10 ∧ -5 ≤ v3.toInt ∧ v3.toInt ≤ 5) → post 0 (h_length, h_ligatures, h_patterns, h_firstWide, h_restWide, h_firstLines, h_spaceWide, h_stretch, h_shrink, h_tolerance, h_cost, h_height, h_ready, h_glyphCount, h_breaks, h_natural, h_spaces, h_lineCount, h_paragraphs, b_text, b_wide, b_joined, b_kerns, b_patA, b_patB, b_patC, b_patDigits, b_glyphs, b_glyphOf, b_bEnd, b_bNext, b_bHyphen, b_least, b_before, b_way, b_lFrom, b_lTo, b_lNumber, b_lParagraph, b_lPage, b_lHyphen, b_lLast, b_best)) : wpY_kern post (h_length, h_ligatures, h_patterns, h_firstWide, h_restWide, h_firstLines, h_spaceWide, h_stretch, h_shrink, h_tolerance, h_cost, h_height, h_ready, h_glyphCount, h_breaks, h_natural, h_spaces, h_lineCount, h_paragraphs, b_text, b_wide, b_joined, b_kerns, b_patA, b_patB, b_patC, b_patDigits, b_glyphs, b_glyphOf, b_bEnd, b_bNext, b_bHyphen, b_least, b_before, b_way, b_lFrom, b_lTo, b_lNumber, b_lParagraph, b_lPage, b_lHyphen, b_lLast, b_best) v1 v2 v3 := by
  have t5 : (5 : Int32).toInt = 5 := rfl
  have tm5 : (-5 : Int32).toInt = -5 := by decide
  unfold wpY_kern
  refine yw_letter (fun a1 a2 => br_f (by decide) (yw_letter (fun b1 b2 => br_f (by decide) (ek_if (il_lt v3 (-5)) (fun g => hN (by omega)) (fun g => ek_if (il_le v3 5) (fun g1 => ?_) (fun g1 => hN (by omega))))) (fun g => br_t rfl (hN (by omega))))) (fun g => br_t rfl (hN (by omega)))
  obtain ⟨x, hx, rfl⟩ := iv_n (n := 10) a1 (by omega)
  obtain ⟨y, hy, rfl⟩ := iv_n (n := 10) b1 (by omega)
  rw [iw_ix, nI_clamp (n := 10 * x + y) (by omega)]
  exact ⟨vp_in_nI (by omega) (by decide), nm_e (hY x y rfl rfl hx hy (by omega) (by omega))⟩
theorem xw_lig {post : Int32 → SX → Prop} {v1 v2 v3 : Int32} (F : ex_F e f_length a_text a_wide a_join a_kerns) (hY : ∀ x y j : Nat, v1 = nI x → v2 = nI y → v3 = nI j - 1 → x < 10 → y < 10 → j ≤ 10 → (gv_jn e (10 * x + y) = 0 → ¬ f_joins = 8) → ∀ fj, (gv_jn e (10 * x + y) = 0 → j = 0 → fj = f_joins) → (gv_jn e (10 * x + y) = 0 → j ≠ 0 → fj = f_joins + 1) → (gv_jn e (10 * x + y) ≠ 0 → j = 0 → fj = f_joins - 1) → (gv_jn e (10 * x + y) ≠ 0 → j ≠ 0 → fj = f_joins) → post 1 (f_length, 0, fj, f_patterns, f_first, f_rest, f_narrow, f_gap, f_stretch, f_shrink, f_tolerance, f_cost, f_height, f_breaks, f_lines, f_paragraphs, a_text, a_allowed, a_counts, a_wide, upd a_join (10 * x + y) (nI j), a_kerns, a_child, a_digits, a_uses, a_ends, a_begins, a_hyphened, a_least, a_before, a_natural, a_spaces, a_way, a_lineFrom, a_lineTo, a_linePart, a_linePage, a_lineWide, a_lineBad, a_lineHyphen, a_sums)) (hF : ∀ x y j : Nat, v1 = nI x → v2 = nI y → v3 = nI j - 1 → x < 10 → y < 10 → j ≤ 10 → gv_jn e (10 * x + y) = 0 → f_joins = 8 → post 0 (f_length, f_known, f_joins, f_patterns, f_first, f_rest, f_narrow, f_gap, f_stretch, f_shrink, f_tolerance, f_cost, f_height, f_breaks, f_lines, f_paragraphs, a_text, a_allowed, a_counts, a_wide, a_join, a_kerns, a_child, a_digits, a_uses, a_ends, a_begins, a_hyphened, a_least, a_before, a_natural, a_spaces, a_way, a_lineFrom, a_lineTo, a_linePart, a_linePage, a_lineWide, a_lineBad, a_lineHyphen, a_sums)) (hN : ¬ (0 ≤ v1.toInt ∧ v1.toInt < 10 ∧ 0 ≤ v2.toInt ∧ v2.toInt < 10 ∧ -1 ≤ v3.toInt ∧ v3.toInt ≤ 9) → post 0 (f_length, f_known, f_joins, f_patterns, f_first, f_rest, f_narrow, f_gap, f_stretch, f_shrink, f_tolerance, f_cost, f_height, f_breaks, f_lines, f_paragraphs, a_text, a_allowed, a_counts, a_wide, a_join, a_kerns, a_child, a_digits, a_uses, a_ends, a_begins, a_hyphened, a_least, a_before, a_natural, a_spaces, a_way, a_lineFrom, a_lineTo, a_linePart, a_linePage, a_lineWide, a_lineBad, a_lineHyphen, a_sums)) : wpX_ligature post (f_length, f_known, f_joins, f_patterns, f_first, f_rest, f_narrow, f_gap, f_stretch, f_shrink, f_tolerance, f_cost, f_height, f_breaks, f_lines, f_paragraphs, a_text, a_allowed, a_counts, a_wide, a_join, a_kerns, a_child, a_digits, a_uses, a_ends, a_begins, a_hyphened, a_least, a_before, a_natural, a_spaces, a_way, a_lineFrom, a_lineTo, a_linePart, a_linePage, a_lineWide, a_lineBad, a_lineHyphen, a_sums) v1 v2 v3 := by
  have t9 : (9 : Int32).toInt = 9 := rfl
  have tm1 : (-1 : Int32).toInt = -1 := by decide
  unfold wpX_ligature
  refine xw_letter (fun a1 a2 => br_f (by decide) (xw_letter (fun b1 b2 => br_f (by decide) (xw_within (fun c1 c2 => br_f (by decide) ?_) (fun g => br_t rfl (hN (by omega))))) (fun g => br_t rfl (hN (by omega))))) (fun g => br_t rfl (hN (by omega)))
  obtain ⟨x, hx, rfl⟩ := iv_n (n := 10) a1 (by omega)
  obtain ⟨y, hy, rfl⟩ := iv_n (n := 10) b1 (by omega)
  obtain ⟨j, hj, rfl⟩ : ∃ j : Nat, j ≤ 10 ∧ v3 = nI j - 1 := by
    refine ⟨(v3.toInt + 1).toNat, by omega, ?_⟩
    apply Int32.toInt_inj.mp
    rw [s1_T (by omega)]; omega
  obtain ⟨F1, F2, F3, F4, F5, E⟩ := id F
  have hjb := E.2.2.2.2 (10 * x + y) (by omega)
  have hv : vp_in (nI (10 * x + y)) 100 := vp_in_nI (by omega) (by decide)
  have hcl : (nI (10 * x + y)).toNatClampNeg = 10 * x + y := nI_clamp (by omega)
  have hjv : a_join (10 * x + y) = nI (gv_jn e (10 * x + y)) := F4 _ (by omega)
  have k103 : ∀ fj, (gv_jn e (10 * x + y) = 0 → ¬ f_joins = 8) → (gv_jn e (10 * x + y) = 0 → j = 0 → fj = f_joins) → (gv_jn e (10 * x + y) = 0 → j ≠ 0 → fj = f_joins + 1) → (gv_jn e (10 * x + y) ≠ 0 → j = 0 → fj = f_joins - 1) → (gv_jn e (10 * x + y) ≠ 0 → j ≠ 0 → fj = f_joins) → wX_ligature_103 post (nI j - 1) (nI (10 * x + y)) f_length f_known fj f_patterns f_first f_rest f_narrow f_gap f_stretch f_shrink f_tolerance f_cost f_height f_breaks f_lines f_paragraphs a_text a_allowed a_counts a_wide a_join a_kerns a_child a_digits a_uses a_ends a_begins a_hyphened a_least a_before a_natural a_spaces a_way a_lineFrom a_lineTo a_linePart a_linePage a_lineWide a_lineBad a_lineHyphen a_sums := by
    intro fj g0 g1 g2 g3 g4
    refine ⟨hv, nm_r (e' := upd a_join (10 * x + y) (nI j)) (by rw [hcl, show nI j - 1 + 1 = nI j from by grind, iw_bb (by omega)]) ?_⟩
    show _ ∧ _
    exact ⟨rfl, hY x y j rfl rfl rfl hx hy hj g0 fj g1 g2 g3 g4⟩
  have k79 : ∀ fj, (gv_jn e (10 * x + y) = 0 → ¬ f_joins = 8) → (gv_jn e (10 * x + y) = 0 → j = 0 → fj = f_joins) → (gv_jn e (10 * x + y) = 0 → j ≠ 0 → fj = f_joins + 1) → (gv_jn e (10 * x + y) ≠ 0 → fj = f_joins) → wX_ligature_79 post (nI j - 1) (nI (10 * x + y)) f_length f_known fj f_patterns f_first f_rest f_narrow f_gap f_stretch f_shrink f_tolerance f_cost f_height f_breaks f_lines f_paragraphs a_text a_allowed a_counts a_wide a_join a_kerns a_child a_digits a_uses a_ends a_begins a_hyphened a_least a_before a_natural a_spaces a_way a_lineFrom a_lineTo a_linePart a_linePage a_lineWide a_lineBad a_lineHyphen a_sums := by
    intro fj g0 g1 g2 g3
    refine ⟨hv, ?_⟩
    rw [hcl, hjv]
    refine pk_eq (gv_jn e (10 * x + y)) 0 (fun y1 => k103 fj g0 g1 g2 (fun z => absurd y1 z) (fun z => absurd y1 z)) (fun y1 => ek_if (s1_0 (by omega)) (fun y2 => k103 fj g0 g1 g2 (fun _ z => absurd z y2) (fun _ _ => g3 y1)) (fun y2 => nm_e (k103 _ g0 (fun z => absurd z y1) (fun z => absurd z y1) (fun _ _ => by rw [g3 y1]) (fun _ z => absurd z y2))))
  have k55 : (gv_jn e (10 * x + y) = 0 → ¬ f_joins = 8) → wX_ligature_55 post (nI j - 1) (nI (10 * x + y)) f_length f_known f_joins f_patterns f_first f_rest f_narrow f_gap f_stretch f_shrink f_tolerance f_cost f_height f_breaks f_lines f_paragraphs a_text a_allowed a_counts a_wide a_join a_kerns a_child a_digits a_uses a_ends a_begins a_hyphened a_least a_before a_natural a_spaces a_way a_lineFrom a_lineTo a_linePart a_linePage a_lineWide a_lineBad a_lineHyphen a_sums := by
    intro g0
    refine ⟨hv, ?_⟩
    rw [hcl, hjv]
    have hlt : nI j - 1 < 0 ↔ j = 0 := by
      rw [il_lt, s1_T (by omega)]
      show _ < (0 : Int) ↔ _
      omega
    refine pk_eq (gv_jn e (10 * x + y)) 0 (fun y1 => ek_if hlt (fun y2 => k79 f_joins g0 (fun _ _ => rfl) (fun _ z => absurd y2 z) (fun z => absurd y1 z)) (fun y2 => nm_e (k79 _ g0 (fun _ z => absurd z y2) (fun _ _ => rfl) (fun z => absurd y1 z)))) (fun y1 => k79 f_joins g0 (fun z => absurd z y1) (fun z => absurd z y1) (fun _ => rfl))
  refine nm_r (iw_ix x y) ⟨hv, ?_⟩
  rw [hcl, hjv]
  exact pk_eq (gv_jn e (10 * x + y)) 0 (fun y1 => br_c (fun y2 => hF x y j rfl rfl rfl hx hy hj y1 y2) (fun y2 => k55 (fun _ => y2))) (fun y1 => k55 (fun z => absurd z y1))
theorem yw_ligN {post : Int32 → SY → Prop} {v1 v2 v3 : Int32} (h : ¬ (0 ≤ v1.toInt ∧ v1.toInt < 10 ∧ 0 ≤ v2.toInt ∧ v2.toInt < 10 ∧ -1 ≤ v3.toInt ∧ v3.toInt ≤ 9)) (hN : post 0 (h_length, h_ligatures, h_patterns, h_firstWide, h_restWide, h_firstLines, h_spaceWide, h_stretch, h_shrink, h_tolerance, h_cost, h_height, h_ready, h_glyphCount, h_breaks, h_natural, h_spaces, h_lineCount, h_paragraphs, b_text, b_wide, b_joined, b_kerns, b_patA, b_patB, b_patC, b_patDigits, b_glyphs, b_glyphOf, b_bEnd, b_bNext, b_bHyphen, b_least, b_before, b_way, b_lFrom, b_lTo, b_lNumber, b_lParagraph, b_lPage, b_lHyphen, b_lLast, b_best)) : wpY_ligature post (h_length, h_ligatures, h_patterns, h_firstWide, h_restWide, h_firstLines, h_spaceWide, h_stretch, h_shrink, h_tolerance, h_cost, h_height, h_ready, h_glyphCount, h_breaks, h_natural, h_spaces, h_lineCount, h_paragraphs, b_text, b_wide, b_joined, b_kerns, b_patA, b_patB, b_patC, b_patDigits, b_glyphs, b_glyphOf, b_bEnd, b_bNext, b_bHyphen, b_least, b_before, b_way, b_lFrom, b_lTo, b_lNumber, b_lParagraph, b_lPage, b_lHyphen, b_lLast, b_best) v1 v2 v3 := by
  have t9 : (9 : Int32).toInt = 9 := rfl
  have tm1 : (-1 : Int32).toInt = -1 := by decide
  unfold wpY_ligature
  refine yw_letter (fun a1 a2 => br_f (by decide) (yw_letter (fun b1 b2 => br_f (by decide) (ek_if (il_lt v3 (-1)) (fun g => hN) (fun g => ek_if (il_le v3 9) (fun g1 => absurd ⟨a1, a2, b1, b2, by omega, by omega⟩ h) (fun g1 => hN)))) (fun g => br_t rfl hN))) (fun g => br_t rfl hN)
theorem yw_lig {post : Int32 → SY → Prop} {x y j : Nat} (F : ey_F e h_length b_text b_wide b_joined b_kerns) (hx : x < 10) (hy : y < 10) (hj : j ≤ 10) (hF : ∀ z : Int32, z = h_ligatures - (if gv_jn e (10 * x + y) = 0 then 0 else 1) → z = 8 → post 0 (h_length, h_ligatures, h_patterns, h_firstWide, h_restWide, h_firstLines, h_spaceWide, h_stretch, h_shrink, h_tolerance, h_cost, h_height, h_ready, h_glyphCount, h_breaks, h_natural, h_spaces, h_lineCount, h_paragraphs, b_text, b_wide, b_joined, b_kerns, b_patA, b_patB, b_patC, b_patDigits, b_glyphs, b_glyphOf, b_bEnd, b_bNext, b_bHyphen, b_least, b_before, b_way, b_lFrom, b_lTo, b_lNumber, b_lParagraph, b_lPage, b_lHyphen, b_lLast, b_best)) (hY : ∀ z : Int32, z = h_ligatures - (if gv_jn e (10 * x + y) = 0 then 0 else 1) → ¬ z = 8 → post 1 (h_length, z + (if j = 0 then 0 else 1), h_patterns, h_firstWide, h_restWide, h_firstLines, h_spaceWide, h_stretch, h_shrink, h_tolerance, h_cost, h_height, 0, h_glyphCount, h_breaks, h_natural, h_spaces, h_lineCount, h_paragraphs, b_text, b_wide, upd b_joined (10 * x + y) (nI j - 1), b_kerns, b_patA, b_patB, b_patC, b_patDigits, b_glyphs, b_glyphOf, b_bEnd, b_bNext, b_bHyphen, b_least, b_before, b_way, b_lFrom, b_lTo, b_lNumber, b_lParagraph, b_lPage, b_lHyphen, b_lLast, b_best)) : wpY_ligature post (h_length, h_ligatures, h_patterns, h_firstWide, h_restWide, h_firstLines, h_spaceWide, h_stretch, h_shrink, h_tolerance, h_cost, h_height, h_ready, h_glyphCount, h_breaks, h_natural, h_spaces, h_lineCount, h_paragraphs, b_text, b_wide, b_joined, b_kerns, b_patA, b_patB, b_patC, b_patDigits, b_glyphs, b_glyphOf, b_bEnd, b_bNext, b_bHyphen, b_least, b_before, b_way, b_lFrom, b_lTo, b_lNumber, b_lParagraph, b_lPage, b_lHyphen, b_lLast, b_best) (nI x) (nI y) (nI j - 1) := by
  obtain ⟨F1, F2, F3, F4, F5, E⟩ := id F
  have hjb := E.2.2.2.2 (10 * x + y) (by omega)
  have t9 : (9 : Int32).toInt = 9 := rfl
  have tm1 : (-1 : Int32).toInt = -1 := by decide
  have tx : (nI x).toInt = x := nI_toInt (by omega)
  have ty : (nI y).toInt = y := nI_toInt (by omega)
  have tj : (nI j - 1).toInt = (j : Int) - 1 := s1_T (by omega)
  have hv : vp_in (nI (10 * x + y)) 100 := vp_in_nI (by omega) (by decide)
  have hcl : (nI (10 * x + y)).toNatClampNeg = 10 * x + y := nI_clamp (by omega)
  have hjv : b_joined (10 * x + y) = nI (gv_jn e (10 * x + y)) - 1 := F4 _ (by omega)
  unfold wpY_ligature
  refine yw_letter (fun _ _ => br_f (by decide) (yw_letter (fun _ _ => br_f (by decide) (br_f (by rw [il_lt]; omega) (br_t (by rw [il_le]; omega) ?_))) (fun g => absurd ⟨by omega, by omega⟩ g))) (fun g => absurd ⟨by omega, by omega⟩ g)
  have k52 : ∀ z0 : Int32, z0 = (if gv_jn e (10 * x + y) = 0 then 0 else 1) → wY_ligature_52 post (nI x) (nI y) (nI j - 1) z0 h_ligatures h_length h_ligatures h_patterns h_firstWide h_restWide h_firstLines h_spaceWide h_stretch h_shrink h_tolerance h_cost h_height h_ready h_glyphCount h_breaks h_natural h_spaces h_lineCount h_paragraphs b_text b_wide b_joined b_kerns b_patA b_patB b_patC b_patDigits b_glyphs b_glyphOf b_bEnd b_bNext b_bHyphen b_least b_before b_way b_lFrom b_lTo b_lNumber b_lParagraph b_lPage b_lHyphen b_lLast b_best := by
    intro z0 hz0
    refine nm_r (e' := h_ligatures - (if gv_jn e (10 * x + y) = 0 then 0 else 1)) (by rw [hz0]) (br_c (fun g => hF _ rfl g) (fun g => ⟨by rw [iw_ix]; exact hv, nm_r (e' := upd b_joined (10 * x + y) (nI j - 1)) (by rw [iw_ix, hcl]) ?_⟩))
    have := hY _ rfl g
    refine ek_if (s1_0 (by omega)) (fun y1 => nm_e ?_) (fun y1 => nm_e ?_)
    · rw [if_neg y1] at this; exact this
    · rw [if_pos (Classical.not_not.mp y1)] at this; exact this
  rw [iw_ix, hcl, hjv]
  refine ⟨hv, ek_if (s1_0 (by omega)) (fun y1 => k52 1 (by rw [if_neg y1])) (fun y1 => k52 0 (by rw [if_pos (Classical.not_not.mp y1)]))⟩
theorem xw_measure {post : Int32 → SX → Prop} {v1 v2 v3 : Int32} (hY : 20 ≤ v1.toInt ∧ v1.toInt ≤ 300 ∧ 20 ≤ v2.toInt ∧ v2.toInt ≤ 300 ∧ 0 ≤ v3.toInt ∧ v3.toInt ≤ 3 → post 1 (f_length, 0, f_joins, f_patterns, v1, v2, v3, f_gap, f_stretch, f_shrink, f_tolerance, f_cost, f_height, f_breaks, f_lines, f_paragraphs, a_text, a_allowed, a_counts, a_wide, a_join, a_kerns, a_child, a_digits, a_uses, a_ends, a_begins, a_hyphened, a_least, a_before, a_natural, a_spaces, a_way, a_lineFrom, a_lineTo, a_linePart, a_linePage, a_lineWide, a_lineBad, a_lineHyphen, a_sums)) (hN : ¬ (20 ≤ v1.toInt ∧ v1.toInt ≤ 300 ∧ 20 ≤ v2.toInt ∧ v2.toInt ≤ 300 ∧ 0 ≤ v3.toInt ∧ v3.toInt ≤ 3) → post 0 (f_length, f_known, f_joins, f_patterns, f_first, f_rest, f_narrow, f_gap, f_stretch, f_shrink, f_tolerance, f_cost, f_height, f_breaks, f_lines, f_paragraphs, a_text, a_allowed, a_counts, a_wide, a_join, a_kerns, a_child, a_digits, a_uses, a_ends, a_begins, a_hyphened, a_least, a_before, a_natural, a_spaces, a_way, a_lineFrom, a_lineTo, a_linePart, a_linePage, a_lineWide, a_lineBad, a_lineHyphen, a_sums)) : wpX_measure post (f_length, f_known, f_joins, f_patterns, f_first, f_rest, f_narrow, f_gap, f_stretch, f_shrink, f_tolerance, f_cost, f_height, f_breaks, f_lines, f_paragraphs, a_text, a_allowed, a_counts, a_wide, a_join, a_kerns, a_child, a_digits, a_uses, a_ends, a_begins, a_hyphened, a_least, a_before, a_natural, a_spaces, a_way, a_lineFrom, a_lineTo, a_linePart, a_linePage, a_lineWide, a_lineBad, a_lineHyphen, a_sums) v1 v2 v3 := by
  have t20 : (20 : Int32).toInt = 20 := rfl
  have t300 : (300 : Int32).toInt = 300 := rfl
  have t0 : (0 : Int32).toInt = 0 := rfl
  have t3 : (3 : Int32).toInt = 3 := rfl
  unfold wpX_measure
  refine xw_within (fun a1 a2 => br_f (by decide) (xw_within (fun b1 b2 => br_f (by decide) (xw_within (fun c1 c2 => br_f (by decide) ?_) (fun g => br_t rfl (hN (by omega))))) (fun g => br_t rfl (hN (by omega))))) (fun g => br_t rfl (hN (by omega)))
  show _ ∧ _
  exact ⟨rfl, hY (by omega)⟩
theorem yw_measure {post : Int32 → SY → Prop} {v1 v2 v3 : Int32} (hY : 20 ≤ v1.toInt ∧ v1.toInt ≤ 300 ∧ 20 ≤ v2.toInt ∧ v2.toInt ≤ 300 ∧ 0 ≤ v3.toInt ∧ v3.toInt ≤ 3 → post 1 (h_length, h_ligatures, h_patterns, v1, v2, v3, h_spaceWide, h_stretch, h_shrink, h_tolerance, h_cost, h_height, 0, h_glyphCount, h_breaks, h_natural, h_spaces, h_lineCount, h_paragraphs, b_text, b_wide, b_joined, b_kerns, b_patA, b_patB, b_patC, b_patDigits, b_glyphs, b_glyphOf, b_bEnd, b_bNext, b_bHyphen, b_least, b_before, b_way, b_lFrom, b_lTo, b_lNumber, b_lParagraph, b_lPage, b_lHyphen, b_lLast, b_best)) (hN : ¬ (20 ≤ v1.toInt ∧ v1.toInt ≤ 300 ∧ 20 ≤ v2.toInt ∧ v2.toInt ≤ 300 ∧ 0 ≤ v3.toInt ∧ v3.toInt ≤ 3) → post 0 (h_length, h_ligatures, h_patterns, h_firstWide, h_restWide, h_firstLines, h_spaceWide, h_stretch, h_shrink, h_tolerance, h_cost, h_height, h_ready, h_glyphCount, h_breaks, h_natural, h_spaces, h_lineCount, h_paragraphs, b_text, b_wide, b_joined, b_kerns, b_patA, b_patB, b_patC, b_patDigits, b_glyphs, b_glyphOf, b_bEnd, b_bNext, b_bHyphen, b_least, b_before, b_way, b_lFrom, b_lTo, b_lNumber, b_lParagraph, b_lPage, b_lHyphen, b_lLast, b_best)) : wpY_measure post (h_length, h_ligatures, h_patterns, h_firstWide, h_restWide, h_firstLines, h_spaceWide, h_stretch, h_shrink, h_tolerance, h_cost, h_height, h_ready, h_glyphCount, h_breaks, h_natural, h_spaces, h_lineCount, h_paragraphs, b_text, b_wide, b_joined, b_kerns, b_patA, b_patB, b_patC, b_patDigits, b_glyphs, b_glyphOf, b_bEnd, b_bNext, b_bHyphen, b_least, b_before, b_way, b_lFrom, b_lTo, b_lNumber, b_lParagraph, b_lPage, b_lHyphen, b_lLast, b_best) v1 v2 v3 := by
  have t20 : (20 : Int32).toInt = 20 := rfl
  have t300 : (300 : Int32).toInt = 300 := rfl
  have t0 : (0 : Int32).toInt = 0 := rfl
  have t3 : (3 : Int32).toInt = 3 := rfl
  exact ek_if (il_lt v1 20) (fun g => hN (by omega)) (fun g1 => ek_if (il_lt 300 v1) (fun g => hN (by omega)) (fun g2 => ek_if (il_lt v2 20) (fun g => hN (by omega)) (fun g3 => ek_if (il_lt 300 v2) (fun g => hN (by omega)) (fun g4 => ek_if (il_lt v3 0) (fun g => hN (by omega)) (fun g5 => ek_if (il_le v3 3) (fun g6 => hY (by omega)) (fun g => hN (by omega)))))))
theorem xw_glue {post : Int32 → SX → Prop} {v1 v2 v3 : Int32} (hY : 1 ≤ v1.toInt ∧ v1.toInt ≤ 20 ∧ 0 ≤ v2.toInt ∧ v2.toInt ≤ 20 ∧ 0 ≤ v3.toInt ∧ v3.toInt ≤ v1.toInt → post 1 (f_length, 0, f_joins, f_patterns, f_first, f_rest, f_narrow, v1, v2, v3, f_tolerance, f_cost, f_height, f_breaks, f_lines, f_paragraphs, a_text, a_allowed, a_counts, a_wide, a_join, a_kerns, a_child, a_digits, a_uses, a_ends, a_begins, a_hyphened, a_least, a_before, a_natural, a_spaces, a_way, a_lineFrom, a_lineTo, a_linePart, a_linePage, a_lineWide, a_lineBad, a_lineHyphen, a_sums)) (hN : ¬ (1 ≤ v1.toInt ∧ v1.toInt ≤ 20 ∧ 0 ≤ v2.toInt ∧ v2.toInt ≤ 20 ∧ 0 ≤ v3.toInt ∧ v3.toInt ≤ v1.toInt) → post 0 (f_length, f_known, f_joins, f_patterns, f_first, f_rest, f_narrow, f_gap, f_stretch, f_shrink, f_tolerance, f_cost, f_height, f_breaks, f_lines, f_paragraphs, a_text, a_allowed, a_counts, a_wide, a_join, a_kerns, a_child, a_digits, a_uses, a_ends, a_begins, a_hyphened, a_least, a_before, a_natural, a_spaces, a_way, a_lineFrom, a_lineTo, a_linePart, a_linePage, a_lineWide, a_lineBad, a_lineHyphen, a_sums)) : wpX_glue post (f_length, f_known, f_joins, f_patterns, f_first, f_rest, f_narrow, f_gap, f_stretch, f_shrink, f_tolerance, f_cost, f_height, f_breaks, f_lines, f_paragraphs, a_text, a_allowed, a_counts, a_wide, a_join, a_kerns, a_child, a_digits, a_uses, a_ends, a_begins, a_hyphened, a_least, a_before, a_natural, a_spaces, a_way, a_lineFrom, a_lineTo, a_linePart, a_linePage, a_lineWide, a_lineBad, a_lineHyphen, a_sums) v1 v2 v3 := by
  have t20 : (20 : Int32).toInt = 20 := rfl
  have t1 : (1 : Int32).toInt = 1 := rfl
  have t0 : (0 : Int32).toInt = 0 := rfl
  unfold wpX_glue
  refine xw_within (fun a1 a2 => br_f (by decide) (xw_within (fun b1 b2 => br_f (by decide) (xw_within (fun c1 c2 => br_f (by decide) ?_) (fun g => br_t rfl (hN (by omega))))) (fun g => br_t rfl (hN (by omega))))) (fun g => br_t rfl (hN (by omega)))
  show _ ∧ _
  exact ⟨rfl, hY (by omega)⟩
theorem yw_glue {post : Int32 → SY → Prop} {v1 v2 v3 : Int32} (hY : 1 ≤ v1.toInt ∧ v1.toInt ≤ 20 ∧ 0 ≤ v2.toInt ∧ v2.toInt ≤ 20 ∧ 0 ≤ v3.toInt ∧ v3.toInt ≤ v1.toInt → post 1 (h_length, h_ligatures, h_patterns, h_firstWide, h_restWide, h_firstLines, v1, v2, v3, h_tolerance, h_cost, h_height, 0, h_glyphCount, h_breaks, h_natural, h_spaces, h_lineCount, h_paragraphs, b_text, b_wide, b_joined, b_kerns, b_patA, b_patB, b_patC, b_patDigits, b_glyphs, b_glyphOf, b_bEnd, b_bNext, b_bHyphen, b_least, b_before, b_way, b_lFrom, b_lTo, b_lNumber, b_lParagraph, b_lPage, b_lHyphen, b_lLast, b_best)) (hN : ¬ (1 ≤ v1.toInt ∧ v1.toInt ≤ 20 ∧ 0 ≤ v2.toInt ∧ v2.toInt ≤ 20 ∧ 0 ≤ v3.toInt ∧ v3.toInt ≤ v1.toInt) → post 0 (h_length, h_ligatures, h_patterns, h_firstWide, h_restWide, h_firstLines, h_spaceWide, h_stretch, h_shrink, h_tolerance, h_cost, h_height, h_ready, h_glyphCount, h_breaks, h_natural, h_spaces, h_lineCount, h_paragraphs, b_text, b_wide, b_joined, b_kerns, b_patA, b_patB, b_patC, b_patDigits, b_glyphs, b_glyphOf, b_bEnd, b_bNext, b_bHyphen, b_least, b_before, b_way, b_lFrom, b_lTo, b_lNumber, b_lParagraph, b_lPage, b_lHyphen, b_lLast, b_best)) : wpY_glue post (h_length, h_ligatures, h_patterns, h_firstWide, h_restWide, h_firstLines, h_spaceWide, h_stretch, h_shrink, h_tolerance, h_cost, h_height, h_ready, h_glyphCount, h_breaks, h_natural, h_spaces, h_lineCount, h_paragraphs, b_text, b_wide, b_joined, b_kerns, b_patA, b_patB, b_patC, b_patDigits, b_glyphs, b_glyphOf, b_bEnd, b_bNext, b_bHyphen, b_least, b_before, b_way, b_lFrom, b_lTo, b_lNumber, b_lParagraph, b_lPage, b_lHyphen, b_lLast, b_best) v1 v2 v3 := by
  have t20 : (20 : Int32).toInt = 20 := rfl
  have t1 : (1 : Int32).toInt = 1 := rfl
  have t0 : (0 : Int32).toInt = 0 := rfl
  exact ek_if (il_lt v1 1) (fun g => hN (by omega)) (fun g1 => ek_if (il_lt 20 v1) (fun g => hN (by omega)) (fun g2 => ek_if (il_lt v2 0) (fun g => hN (by omega)) (fun g3 => ek_if (il_lt 20 v2) (fun g => hN (by omega)) (fun g4 => ek_if (il_lt v3 0) (fun g => hN (by omega)) (fun g5 => ek_if (il_le v3 v1) (fun g6 => hY (by omega)) (fun g => hN (by omega)))))))
theorem xw_rules {post : Int32 → SX → Prop} {v1 v2 v3 : Int32} (hY : 0 ≤ v1.toInt ∧ v1.toInt ≤ 10000 ∧ 0 ≤ v2.toInt ∧ v2.toInt ≤ 200 ∧ 1 ≤ v3.toInt ∧ v3.toInt ≤ 12 → post 1 (f_length, 0, f_joins, f_patterns, f_first, f_rest, f_narrow, f_gap, f_stretch, f_shrink, v1, v2, v3, f_breaks, f_lines, f_paragraphs, a_text, a_allowed, a_counts, a_wide, a_join, a_kerns, a_child, a_digits, a_uses, a_ends, a_begins, a_hyphened, a_least, a_before, a_natural, a_spaces, a_way, a_lineFrom, a_lineTo, a_linePart, a_linePage, a_lineWide, a_lineBad, a_lineHyphen, a_sums)) (hN : ¬ (0 ≤ v1.toInt ∧ v1.toInt ≤ 10000 ∧ 0 ≤ v2.toInt ∧ v2.toInt ≤ 200 ∧ 1 ≤ v3.toInt ∧ v3.toInt ≤ 12) → post 0 (f_length, f_known, f_joins, f_patterns, f_first, f_rest, f_narrow, f_gap, f_stretch, f_shrink, f_tolerance, f_cost, f_height, f_breaks, f_lines, f_paragraphs, a_text, a_allowed, a_counts, a_wide, a_join, a_kerns, a_child, a_digits, a_uses, a_ends, a_begins, a_hyphened, a_least, a_before, a_natural, a_spaces, a_way, a_lineFrom, a_lineTo, a_linePart, a_linePage, a_lineWide, a_lineBad, a_lineHyphen, a_sums)) : wpX_rules post (f_length, f_known, f_joins, f_patterns, f_first, f_rest, f_narrow, f_gap, f_stretch, f_shrink, f_tolerance, f_cost, f_height, f_breaks, f_lines, f_paragraphs, a_text, a_allowed, a_counts, a_wide, a_join, a_kerns, a_child, a_digits, a_uses, a_ends, a_begins, a_hyphened, a_least, a_before, a_natural, a_spaces, a_way, a_lineFrom, a_lineTo, a_linePart, a_linePage, a_lineWide, a_lineBad, a_lineHyphen, a_sums) v1 v2 v3 := by
  have t10000 : (10000 : Int32).toInt = 10000 := rfl
  have t200 : (200 : Int32).toInt = 200 := rfl
  have t0 : (0 : Int32).toInt = 0 := rfl
  have t1 : (1 : Int32).toInt = 1 := rfl
  have t12 : (12 : Int32).toInt = 12 := rfl
  unfold wpX_rules
  refine xw_within (fun a1 a2 => br_f (by decide) (xw_within (fun b1 b2 => br_f (by decide) (xw_within (fun c1 c2 => br_f (by decide) ?_) (fun g => br_t rfl (hN (by omega))))) (fun g => br_t rfl (hN (by omega))))) (fun g => br_t rfl (hN (by omega)))
  show _ ∧ _
  exact ⟨rfl, hY (by omega)⟩
theorem yw_rules {post : Int32 → SY → Prop} {v1 v2 v3 : Int32} (hY : 0 ≤ v1.toInt ∧ v1.toInt ≤ 10000 ∧ 0 ≤ v2.toInt ∧ v2.toInt ≤ 200 ∧ 1 ≤ v3.toInt ∧ v3.toInt ≤ 12 → post 1 (h_length, h_ligatures, h_patterns, h_firstWide, h_restWide, h_firstLines, h_spaceWide, h_stretch, h_shrink, v1, v2, v3, 0, h_glyphCount, h_breaks, h_natural, h_spaces, h_lineCount, h_paragraphs, b_text, b_wide, b_joined, b_kerns, b_patA, b_patB, b_patC, b_patDigits, b_glyphs, b_glyphOf, b_bEnd, b_bNext, b_bHyphen, b_least, b_before, b_way, b_lFrom, b_lTo, b_lNumber, b_lParagraph, b_lPage, b_lHyphen, b_lLast, b_best)) (hN : ¬ (0 ≤ v1.toInt ∧ v1.toInt ≤ 10000 ∧ 0 ≤ v2.toInt ∧ v2.toInt ≤ 200 ∧ 1 ≤ v3.toInt ∧ v3.toInt ≤ 12) → post 0 (h_length, h_ligatures, h_patterns, h_firstWide, h_restWide, h_firstLines, h_spaceWide, h_stretch, h_shrink, h_tolerance, h_cost, h_height, h_ready, h_glyphCount, h_breaks, h_natural, h_spaces, h_lineCount, h_paragraphs, b_text, b_wide, b_joined, b_kerns, b_patA, b_patB, b_patC, b_patDigits, b_glyphs, b_glyphOf, b_bEnd, b_bNext, b_bHyphen, b_least, b_before, b_way, b_lFrom, b_lTo, b_lNumber, b_lParagraph, b_lPage, b_lHyphen, b_lLast, b_best)) : wpY_rules post (h_length, h_ligatures, h_patterns, h_firstWide, h_restWide, h_firstLines, h_spaceWide, h_stretch, h_shrink, h_tolerance, h_cost, h_height, h_ready, h_glyphCount, h_breaks, h_natural, h_spaces, h_lineCount, h_paragraphs, b_text, b_wide, b_joined, b_kerns, b_patA, b_patB, b_patC, b_patDigits, b_glyphs, b_glyphOf, b_bEnd, b_bNext, b_bHyphen, b_least, b_before, b_way, b_lFrom, b_lTo, b_lNumber, b_lParagraph, b_lPage, b_lHyphen, b_lLast, b_best) v1 v2 v3 := by
  have t10000 : (10000 : Int32).toInt = 10000 := rfl
  have t200 : (200 : Int32).toInt = 200 := rfl
  have t0 : (0 : Int32).toInt = 0 := rfl
  have t1 : (1 : Int32).toInt = 1 := rfl
  have t12 : (12 : Int32).toInt = 12 := rfl
  exact ek_if (il_lt v1 0) (fun g => hN (by omega)) (fun g1 => ek_if (il_lt 10000 v1) (fun g => hN (by omega)) (fun g2 => ek_if (il_lt v2 0) (fun g => hN (by omega)) (fun g3 => ek_if (il_lt 200 v2) (fun g => hN (by omega)) (fun g4 => ek_if (il_lt v3 1) (fun g => hN (by omega)) (fun g5 => ek_if (il_le v3 12) (fun g6 => hY (by omega)) (fun g => hN (by omega)))))))
end
theorem i_vc_width {k : Nat} {u : SX} {v : SY} (I : i_Rel k u v) (hk : k + 5 ≤ 2560) (v1 : Int32) (v2 : Int32) : wpX_width (fun r u' => wpY_width (fun r' v' => r' = r ∧ i_Rel (k + 5) u' v') v v1 v2) u v1 v2 := by
  refine zz_el (P := fun u v => wpX_width (fun r u' => wpY_width (fun r' v' => r' = r ∧ i_Rel (k + 5) u' v') v v1 v2) u v1 v2) I (fun e kn rd f_length f_known f_joins f_patterns f_first f_rest f_narrow f_gap f_stretch f_shrink f_tolerance f_cost f_height f_breaks f_lines f_paragraphs a_text a_allowed a_counts a_wide a_join a_kerns a_child a_digits a_uses a_ends a_begins a_hyphened a_before a_natural a_spaces a_way a_lineFrom a_lineTo a_linePart a_linePage a_lineWide a_lineBad a_lineHyphen a_least a_sums h_length h_ligatures h_patterns h_firstWide h_restWide h_firstLines h_spaceWide h_stretch h_shrink h_tolerance h_cost h_height h_ready h_glyphCount h_breaks h_natural h_spaces h_lineCount h_paragraphs b_text b_wide b_joined b_kerns b_patA b_patB b_patC b_patDigits b_glyphs b_glyphOf b_bEnd b_bNext b_bHyphen b_before b_way b_lFrom b_lTo b_lNumber b_lParagraph b_lPage b_lHyphen b_lLast b_least b_best F M T F' M' Q J hk D hr D' => ?_)
  refine xw_width (fun h ac hac => yw_width (fun _ bc hbc => ⟨rfl, ?_⟩) (fun g => absurd h g)) (fun g => yw_width (fun h => absurd h g) (fun _ => ⟨rfl, zz_mk e kn rd F M T F' M' Q (zz_J5 J) hk D hr D'⟩))
  obtain ⟨x, hx, rfl⟩ := iv_n (n := 10) h.1 (by omega)
  obtain ⟨w, hw, rfl⟩ := iv_n (v := v2) (n := 31) (by omega) (by omega)
  have h6 : 6 ≤ w := by have := h.2.2.1; rw [nI_toInt (by omega)] at this; omega
  rw [nI_clamp (by omega)] at hac hbc
  obtain ⟨F1, F2, F3, F4, F5, E1, E2, E3, E4, E5⟩ := F
  obtain ⟨G1, G2, G3, G4, G5, -⟩ := F'
  have up : ∀ f : Nat → Int32, (∀ l, l < 10 → f l = nI (gv_wd e l)) → ∀ l, l < 10 → upd f x (nI w) l = nI (dp_u (gv_wd e) x w l) := by
    intro f hf l hl
    by_cases el : l = x
    · rw [el, pk_us, dp_us]
    · rw [pk_un el, dp_un _ _ el]; exact hf l hl
  have E : gv_okF (gv_F e (gv_ln e) (gv_tx e) (dp_u (gv_wd e) x w) (gv_kn e) (gv_jn e)) := by
    refine ⟨E1, E2, fun l hl => ?_, E4, E5⟩
    show 6 ≤ dp_u (gv_wd e) x w l ∧ dp_u (gv_wd e) x w l ≤ 30
    by_cases el : l = x
    · rw [el, dp_us]; omega
    · rw [dp_un _ _ el]; exact E3 l hl
  subst hac hbc
  exact zz_mk (gv_F e (gv_ln e) (gv_tx e) (dp_u (gv_wd e) x w) (gv_kn e) (gv_jn e)) false false ⟨F1, F2, up _ F3, F4, F5, E⟩ M T ⟨G1, G2, up _ G3, G4, G5, E⟩ M' Q (zz_J5 J) rfl (fun z => by cases z) rfl (fun z => by cases z)
theorem i_vc_kern {k : Nat} {u : SX} {v : SY} (I : i_Rel k u v) (hk : k + 5 ≤ 2560) (v1 : Int32) (v2 : Int32) (v3 : Int32) : wpX_kern (fun r u' => wpY_kern (fun r' v' => r' = r ∧ i_Rel (k + 5) u' v') v v1 v2 v3) u v1 v2 v3 := by
  refine zz_el (P := fun u v => wpX_kern (fun r u' => wpY_kern (fun r' v' => r' = r ∧ i_Rel (k + 5) u' v') v v1 v2 v3) u v1 v2 v3) I (fun e kn rd f_length f_known f_joins f_patterns f_first f_rest f_narrow f_gap f_stretch f_shrink f_tolerance f_cost f_height f_breaks f_lines f_paragraphs a_text a_allowed a_counts a_wide a_join a_kerns a_child a_digits a_uses a_ends a_begins a_hyphened a_before a_natural a_spaces a_way a_lineFrom a_lineTo a_linePart a_linePage a_lineWide a_lineBad a_lineHyphen a_least a_sums h_length h_ligatures h_patterns h_firstWide h_restWide h_firstLines h_spaceWide h_stretch h_shrink h_tolerance h_cost h_height h_ready h_glyphCount h_breaks h_natural h_spaces h_lineCount h_paragraphs b_text b_wide b_joined b_kerns b_patA b_patB b_patC b_patDigits b_glyphs b_glyphOf b_bEnd b_bNext b_bHyphen b_before b_way b_lFrom b_lTo b_lNumber b_lParagraph b_lPage b_lHyphen b_lLast b_least b_best F M T F' M' Q J hk D hr D' => ?_)
  have vt : ∀ x y : Nat, v1 = nI x → v2 = nI y → x < 10 → y < 10 → -5 ≤ v3.toInt → v3.toInt ≤ 5 → 0 ≤ v1.toInt ∧ v1.toInt < 10 ∧ 0 ≤ v2.toInt ∧ v2.toInt < 10 ∧ -5 ≤ v3.toInt ∧ v3.toInt ≤ 5 := by
    intro x y e1 e2 hx hy h1 h2
    rw [e1, e2, nI_toInt (by omega), nI_toInt (by omega)]
    omega
  refine xw_kern (fun x y e1 e2 hx hy h1 h2 => yw_kern (fun x' y' e1' e2' hx' hy' _ _ => ⟨rfl, ?_⟩) (fun g => absurd (vt x y e1 e2 hx hy h1 h2) g)) (fun g => yw_kern (fun x y e1 e2 hx hy h1 h2 => absurd (vt x y e1 e2 hx hy h1 h2) g) (fun _ => ⟨rfl, zz_mk e kn rd F M T F' M' Q (zz_J5 J) hk D hr D'⟩))
  have ex : x' = x := (nI_eq (by omega) (by omega)).mp (e1'.symm.trans e1)
  have ey : y' = y := (nI_eq (by omega) (by omega)).mp (e2'.symm.trans e2)
  subst ex ey
  obtain ⟨m, hm, rfl⟩ : ∃ m : Nat, m ≤ 10 ∧ v3 = nI m - 5 := by
    refine ⟨(v3.toInt + 5).toNat, by omega, ?_⟩
    apply Int32.toInt_inj.mp
    rw [show (5 : Int32) = nI 5 from rfl, pk_sub_toInt (by omega) (by omega)]
    omega
  obtain ⟨F1, F2, F3, F4, F5, E1, E2, E3, E4, E5⟩ := F
  obtain ⟨G1, G2, G3, G4, G5, -⟩ := F'
  have up : ∀ f : Nat → Int32, (∀ l, l < 100 → f l = nI (gv_kn e l) - 5) → ∀ l, l < 100 → upd f (10 * x' + y') (nI m - 5) l = nI (dp_u (gv_kn e) (10 * x' + y') m l) - 5 := by
    intro f hf l hl
    by_cases el : l = 10 * x' + y'
    · rw [el, pk_us, dp_us]
    · rw [pk_un el, dp_un _ _ el]; exact hf l hl
  have E : gv_okF (gv_F e (gv_ln e) (gv_tx e) (gv_wd e) (dp_u (gv_kn e) (10 * x' + y') m) (gv_jn e)) := by
    refine ⟨E1, E2, E3, fun l hl => ?_, E5⟩
    show dp_u (gv_kn e) (10 * x' + y') m l ≤ 10
    by_cases el : l = 10 * x' + y'
    · rw [el, dp_us]; omega
    · rw [dp_un _ _ el]; exact E4 l hl
  exact zz_mk (gv_F e (gv_ln e) (gv_tx e) (gv_wd e) (dp_u (gv_kn e) (10 * x' + y') m) (gv_jn e)) false false ⟨F1, F2, F3, F4, up _ F5, E⟩ M T ⟨G1, G2, G3, G4, up _ G5, E⟩ M' Q (zz_J5 J) rfl (fun z => by cases z) rfl (fun z => by cases z)
end
section
/-! ligature, measure, glue, rules, pattern: the owed statements -/
def gv_M (e : gv_T) (fi rs nr gp st sk tl cs ht : Nat) : gv_T := (e.1, e.2.1, (fi, rs, nr, gp, st, sk, tl, cs, ht))
theorem iw_add1 {x : Int32} (h1 : -3000 ≤ x.toInt) (h2 : x.toInt ≤ 3000) : (x + 1).toInt = x.toInt + 1 := by
  rw [Int32.toInt_add, show (1 : Int32).toInt = 1 from rfl]
  exact Int.bmod_eq_of_le (by omega) (by omega)
theorem iw_sub1 {x : Int32} (h1 : -3000 ≤ x.toInt) (h2 : x.toInt ≤ 3000) : (x - 1).toInt = x.toInt - 1 := by
  rw [Int32.toInt_sub, show (1 : Int32).toInt = 1 from rfl]
  exact Int.bmod_eq_of_le (by omega) (by omega)
theorem i_vc_ligature {k : Nat} {u : SX} {v : SY} (I : i_Rel k u v) (hk : k + 5 ≤ 2560) (v1 : Int32) (v2 : Int32) (v3 : Int32) : wpX_ligature (fun r u' => wpY_ligature (fun r' v' => r' = r ∧ i_Rel (k + 5) u' v') v v1 v2 v3) u v1 v2 v3 := by
  refine zz_el (P := fun u v => wpX_ligature (fun r u' => wpY_ligature (fun r' v' => r' = r ∧ i_Rel (k + 5) u' v') v v1 v2 v3) u v1 v2 v3) I (fun e kn rd f_length f_known f_joins f_patterns f_first f_rest f_narrow f_gap f_stretch f_shrink f_tolerance f_cost f_height f_breaks f_lines f_paragraphs a_text a_allowed a_counts a_wide a_join a_kerns a_child a_digits a_uses a_ends a_begins a_hyphened a_before a_natural a_spaces a_way a_lineFrom a_lineTo a_linePart a_linePage a_lineWide a_lineBad a_lineHyphen a_least a_sums h_length h_ligatures h_patterns h_firstWide h_restWide h_firstLines h_spaceWide h_stretch h_shrink h_tolerance h_cost h_height h_ready h_glyphCount h_breaks h_natural h_spaces h_lineCount h_paragraphs b_text b_wide b_joined b_kerns b_patA b_patB b_patC b_patDigits b_glyphs b_glyphOf b_bEnd b_bNext b_bHyphen b_before b_way b_lFrom b_lTo b_lNumber b_lParagraph b_lPage b_lHyphen b_lLast b_least b_best F M T F' M' Q J hk' D hr D' => ?_)
  obtain ⟨J1, J2, J3⟩ := id J
  have t8 : (8 : Int32).toInt = 8 := rfl
  refine xw_lig F (fun x y j e1 e2 e3 hx hy hj g0 fj g1 g2 g3 g4 => ?_) (fun x y j e1 e2 e3 hx hy hj g1 g2 => ?_) (fun g => yw_ligN g ⟨rfl, zz_mk e kn rd F M T F' M' Q (zz_J5 J) hk' D hr D'⟩)
  · subst e1 e2 e3
    refine yw_lig F' hx hy hj (fun z hz h8 => ?_) (fun z hz h8 => ⟨rfl, ?_⟩)
    · exfalso
      by_cases c : gv_jn e (10 * x + y) = 0
      · rw [if_pos c] at hz
        apply g0 c
        rw [J1, ← h8, hz]; grind
      · rw [if_neg c] at hz
        have : h_ligatures = 9 := by rw [h8] at hz; have := congrArg (· + 1) hz; grind
        rw [J1, this] at J3
        exact absurd J3 (by decide)
    · have hJ : zz_J (k + 5) fj (z + (if j = 0 then 0 else 1)) := by
        by_cases c : gv_jn e (10 * x + y) = 0
        · rw [if_pos c] at hz
          by_cases c2 : j = 0
          · rw [if_pos c2, g1 c c2, hz, J1]
            exact ⟨by grind, by rw [← J1]; omega, by rw [← J1]; exact J3⟩
          · have hne : f_joins.toInt ≠ 8 := fun w => g0 c (by rw [il_eq, w]; rfl)
            rw [if_neg c2, g2 c c2, hz]
            refine ⟨by rw [J1]; grind, ?_, ?_⟩
            · rw [iw_add1 (by omega) (by omega)]; omega
            · rw [iw_add1 (by omega) (by omega)]; omega
        · rw [if_neg c] at hz
          by_cases c2 : j = 0
          · rw [if_pos c2, g3 c c2, hz]
            refine ⟨by rw [J1]; grind, ?_, ?_⟩
            · rw [iw_sub1 (by omega) (by omega)]; omega
            · rw [iw_sub1 (by omega) (by omega)]; omega
          · rw [if_neg c2, g4 c c2, hz]
            exact ⟨by rw [J1]; grind, by omega, J3⟩
      obtain ⟨F1, F2, F3, F4, F5, E1, E2, E3, E4, E5⟩ := F
      obtain ⟨G1, G2, G3, G4, G5, -⟩ := F'
      have E : gv_okF (gv_F e (gv_ln e) (gv_tx e) (gv_wd e) (gv_kn e) (dp_u (gv_jn e) (10 * x + y) j)) := by
        refine ⟨E1, E2, E3, E4, fun l hl => ?_⟩
        show dp_u (gv_jn e) (10 * x + y) j l ≤ 10
        by_cases el : l = 10 * x + y
        · rw [el, dp_us]; exact hj
        · rw [dp_un _ _ el]; exact E5 l hl
      refine zz_mk (gv_F e (gv_ln e) (gv_tx e) (gv_wd e) (gv_kn e) (dp_u (gv_jn e) (10 * x + y) j)) false false ⟨F1, F2, F3, fun l hl => ?_, F5, E⟩ M T ⟨G1, G2, G3, fun l hl => ?_, G5, E⟩ M' Q hJ rfl (fun z => by cases z) rfl (fun z => by cases z)
      · show upd a_join (10 * x + y) (nI j) l = nI (dp_u (gv_jn e) (10 * x + y) j l)
        by_cases el : l = 10 * x + y
        · rw [el, pk_us, dp_us]
        · rw [pk_un el, dp_un _ _ el]; exact F4 l hl
      · show upd b_joined (10 * x + y) (nI j - 1) l = nI (dp_u (gv_jn e) (10 * x + y) j l) - 1
        by_cases el : l = 10 * x + y
        · rw [el, pk_us, dp_us]
        · rw [pk_un el, dp_un _ _ el]; exact G4 l hl
  · subst e1 e2 e3
    refine yw_lig F' hx hy hj (fun z hz h8 => ⟨rfl, zz_mk e kn rd F M T F' M' Q (zz_J5 J) hk' D hr D'⟩) (fun z hz h8 => ?_)
    exfalso
    rw [if_pos g1, ← J1, g2] at hz
    exact h8 (by rw [hz]; decide)
theorem i_vc_measure {k : Nat} {u : SX} {v : SY} (I : i_Rel k u v) (hk : k + 5 ≤ 2560) (v1 : Int32) (v2 : Int32) (v3 : Int32) : wpX_measure (fun r u' => wpY_measure (fun r' v' => r' = r ∧ i_Rel (k + 5) u' v') v v1 v2 v3) u v1 v2 v3 := by
  refine zz_el (P := fun u v => wpX_measure (fun r u' => wpY_measure (fun r' v' => r' = r ∧ i_Rel (k + 5) u' v') v v1 v2 v3) u v1 v2 v3) I (fun e kn rd f_length f_known f_joins f_patterns f_first f_rest f_narrow f_gap f_stretch f_shrink f_tolerance f_cost f_height f_breaks f_lines f_paragraphs a_text a_allowed a_counts a_wide a_join a_kerns a_child a_digits a_uses a_ends a_begins a_hyphened a_before a_natural a_spaces a_way a_lineFrom a_lineTo a_linePart a_linePage a_lineWide a_lineBad a_lineHyphen a_least a_sums h_length h_ligatures h_patterns h_firstWide h_restWide h_firstLines h_spaceWide h_stretch h_shrink h_tolerance h_cost h_height h_ready h_glyphCount h_breaks h_natural h_spaces h_lineCount h_paragraphs b_text b_wide b_joined b_kerns b_patA b_patB b_patC b_patDigits b_glyphs b_glyphOf b_bEnd b_bNext b_bHyphen b_before b_way b_lFrom b_lTo b_lNumber b_lParagraph b_lPage b_lHyphen b_lLast b_least b_best F M T F' M' Q J hk' D hr D' => ?_)
  refine xw_measure (fun h => yw_measure (fun _ => ⟨rfl, ?_⟩) (fun g => absurd h g)) (fun g => yw_measure (fun h => absurd h g) (fun _ => ⟨rfl, zz_mk e kn rd F M T F' M' Q (zz_J5 J) hk' D hr D'⟩))
  obtain ⟨x, hx, rfl⟩ := iv_n (v := v1) (n := 301) (by omega) (by omega)
  obtain ⟨y, hy, rfl⟩ := iv_n (v := v2) (n := 301) (by omega) (by omega)
  obtain ⟨z, hz, rfl⟩ := iv_n (v := v3) (n := 4) (by omega) (by omega)
  obtain ⟨M0, M2, M3, M4, M5, M6, M7, M8, M9, K1, K2, K3, K4, K5, K6, K7, K8, K9, K10⟩ := M
  obtain ⟨N1, N2, N3, N4, N5, N6, N7, N8, N9, -⟩ := M'
  have K : gv_okM (gv_M e x y z (gv_gp e) (gv_st e) (gv_sk e) (gv_tl e) (gv_cs e) (gv_ht e)) := ⟨by show x ≤ 300; omega, by show y ≤ 300; omega, by show z ≤ 3; omega, K4, K5, K6, K7, K8, K9, K10⟩
  exact zz_mk (gv_M e x y z (gv_gp e) (gv_st e) (gv_sk e) (gv_tl e) (gv_cs e) (gv_ht e)) false false F ⟨⟨x, by omega, rfl, fun _ => rfl⟩, rfl, rfl, M4, M5, M6, M7, M8, M9, K⟩ T F' ⟨rfl, rfl, rfl, N4, N5, N6, N7, N8, N9, K⟩ Q (zz_J5 J) rfl (fun z => by cases z) rfl (fun z => by cases z)
theorem i_vc_glue {k : Nat} {u : SX} {v : SY} (I : i_Rel k u v) (hk : k + 5 ≤ 2560) (v1 : Int32) (v2 : Int32) (v3 : Int32) : wpX_glue (fun r u' => wpY_glue (fun r' v' => r' = r ∧ i_Rel (k + 5) u' v') v v1 v2 v3) u v1 v2 v3 := by
  refine zz_el (P := fun u v => wpX_glue (fun r u' => wpY_glue (fun r' v' => r' = r ∧ i_Rel (k + 5) u' v') v v1 v2 v3) u v1 v2 v3) I (fun e kn rd f_length f_known f_joins f_patterns f_first f_rest f_narrow f_gap f_stretch f_shrink f_tolerance f_cost f_height f_breaks f_lines f_paragraphs a_text a_allowed a_counts a_wide a_join a_kerns a_child a_digits a_uses a_ends a_begins a_hyphened a_before a_natural a_spaces a_way a_lineFrom a_lineTo a_linePart a_linePage a_lineWide a_lineBad a_lineHyphen a_least a_sums h_length h_ligatures h_patterns h_firstWide h_restWide h_firstLines h_spaceWide h_stretch h_shrink h_tolerance h_cost h_height h_ready h_glyphCount h_breaks h_natural h_spaces h_lineCount h_paragraphs b_text b_wide b_joined b_kerns b_patA b_patB b_patC b_patDigits b_glyphs b_glyphOf b_bEnd b_bNext b_bHyphen b_before b_way b_lFrom b_lTo b_lNumber b_lParagraph b_lPage b_lHyphen b_lLast b_least b_best F M T F' M' Q J hk' D hr D' => ?_)
  refine xw_glue (fun h => yw_glue (fun _ => ⟨rfl, ?_⟩) (fun g => absurd h g)) (fun g => yw_glue (fun h => absurd h g) (fun _ => ⟨rfl, zz_mk e kn rd F M T F' M' Q (zz_J5 J) hk' D hr D'⟩))
  obtain ⟨x, hx, rfl⟩ := iv_n (v := v1) (n := 21) (by omega) (by omega)
  obtain ⟨y, hy, rfl⟩ := iv_n (v := v2) (n := 21) (by omega) (by omega)
  obtain ⟨z, hz, rfl⟩ := iv_n (v := v3) (n := 21) (by omega) (by omega)
  have hzx : z ≤ x := by have := h.2.2.2.2.2; rw [nI_toInt (by omega), nI_toInt (by omega)] at this; omega
  obtain ⟨M0, M2, M3, M4, M5, M6, M7, M8, M9, K1, K2, K3, K4, K5, K6, K7, K8, K9, K10⟩ := M
  obtain ⟨N1, N2, N3, N4, N5, N6, N7, N8, N9, -⟩ := M'
  have K : gv_okM (gv_M e (gv_fi e) (gv_rs e) (gv_nr e) x y z (gv_tl e) (gv_cs e) (gv_ht e)) := ⟨K1, K2, K3, by show x ≤ 20; omega, by show y ≤ 20; omega, hzx, K7, K8, K9, K10⟩
  exact zz_mk (gv_M e (gv_fi e) (gv_rs e) (gv_nr e) x y z (gv_tl e) (gv_cs e) (gv_ht e)) false false F ⟨M0, M2, M3, rfl, rfl, rfl, M7, M8, M9, K⟩ T F' ⟨N1, N2, N3, rfl, rfl, rfl, N7, N8, N9, K⟩ Q (zz_J5 J) rfl (fun z => by cases z) rfl (fun z => by cases z)
theorem i_vc_rules {k : Nat} {u : SX} {v : SY} (I : i_Rel k u v) (hk : k + 5 ≤ 2560) (v1 : Int32) (v2 : Int32) (v3 : Int32) : wpX_rules (fun r u' => wpY_rules (fun r' v' => r' = r ∧ i_Rel (k + 5) u' v') v v1 v2 v3) u v1 v2 v3 := by
  refine zz_el (P := fun u v => wpX_rules (fun r u' => wpY_rules (fun r' v' => r' = r ∧ i_Rel (k + 5) u' v') v v1 v2 v3) u v1 v2 v3) I (fun e kn rd f_length f_known f_joins f_patterns f_first f_rest f_narrow f_gap f_stretch f_shrink f_tolerance f_cost f_height f_breaks f_lines f_paragraphs a_text a_allowed a_counts a_wide a_join a_kerns a_child a_digits a_uses a_ends a_begins a_hyphened a_before a_natural a_spaces a_way a_lineFrom a_lineTo a_linePart a_linePage a_lineWide a_lineBad a_lineHyphen a_least a_sums h_length h_ligatures h_patterns h_firstWide h_restWide h_firstLines h_spaceWide h_stretch h_shrink h_tolerance h_cost h_height h_ready h_glyphCount h_breaks h_natural h_spaces h_lineCount h_paragraphs b_text b_wide b_joined b_kerns b_patA b_patB b_patC b_patDigits b_glyphs b_glyphOf b_bEnd b_bNext b_bHyphen b_before b_way b_lFrom b_lTo b_lNumber b_lParagraph b_lPage b_lHyphen b_lLast b_least b_best F M T F' M' Q J hk' D hr D' => ?_)
  refine xw_rules (fun h => yw_rules (fun _ => ⟨rfl, ?_⟩) (fun g => absurd h g)) (fun g => yw_rules (fun h => absurd h g) (fun _ => ⟨rfl, zz_mk e kn rd F M T F' M' Q (zz_J5 J) hk' D hr D'⟩))
  obtain ⟨x, hx, rfl⟩ := iv_n (v := v1) (n := 10001) (by omega) (by omega)
  obtain ⟨y, hy, rfl⟩ := iv_n (v := v2) (n := 201) (by omega) (by omega)
  obtain ⟨z, hz, rfl⟩ := iv_n (v := v3) (n := 13) (by omega) (by omega)
  have hz1 : 1 ≤ z := by have := h.2.2.2.2.1; rw [nI_toInt (by omega)] at this; omega
  obtain ⟨M0, M2, M3, M4, M5, M6, M7, M8, M9, K1, K2, K3, K4, K5, K6, K7, K8, K9, K10⟩ := M
  obtain ⟨N1, N2, N3, N4, N5, N6, N7, N8, N9, -⟩ := M'
  have K : gv_okM (gv_M e (gv_fi e) (gv_rs e) (gv_nr e) (gv_gp e) (gv_st e) (gv_sk e) x y z) := ⟨K1, K2, K3, K4, K5, K6, by show x ≤ 10000; omega, by show y ≤ 200; omega, hz1, by show z ≤ 12; omega⟩
  exact zz_mk (gv_M e (gv_fi e) (gv_rs e) (gv_nr e) (gv_gp e) (gv_st e) (gv_sk e) x y z) false false F ⟨M0, M2, M3, M4, M5, M6, rfl, rfl, rfl, K⟩ T F' ⟨N1, N2, N3, N4, N5, N6, rfl, rfl, rfl, K⟩ Q (zz_J5 J) rfl (fun z => by cases z) rfl (fun z => by cases z)
theorem i_vc_pattern {k : Nat} {u : SX} {v : SY} (I : i_Rel k u v) (hk : k + 5 ≤ 2560) (v1 : Int32) (v2 : Int32) (v3 : Int32) (v4 : Int32) : wpX_pattern (fun r u' => wpY_pattern (fun r' v' => r' = r ∧ i_Rel (k + 5) u' v') v v1 v2 v3 v4) u v1 v2 v3 v4 := by
  refine zz_el (P := fun u v => wpX_pattern (fun r u' => wpY_pattern (fun r' v' => r' = r ∧ i_Rel (k + 5) u' v') v v1 v2 v3 v4) u v1 v2 v3 v4) I (fun e kn rd f_length f_known f_joins f_patterns f_first f_rest f_narrow f_gap f_stretch f_shrink f_tolerance f_cost f_height f_breaks f_lines f_paragraphs a_text a_allowed a_counts a_wide a_join a_kerns a_child a_digits a_uses a_ends a_begins a_hyphened a_before a_natural a_spaces a_way a_lineFrom a_lineTo a_linePart a_linePage a_lineWide a_lineBad a_lineHyphen a_least a_sums h_length h_ligatures h_patterns h_firstWide h_restWide h_firstLines h_spaceWide h_stretch h_shrink h_tolerance h_cost h_height h_ready h_glyphCount h_breaks h_natural h_spaces h_lineCount h_paragraphs b_text b_wide b_joined b_kerns b_patA b_patB b_patC b_patDigits b_glyphs b_glyphOf b_bEnd b_bNext b_bHyphen b_before b_way b_lFrom b_lTo b_lNumber b_lParagraph b_lPage b_lHyphen b_lLast b_least b_best F M T F' M' Q J hk' D hr D' => ?_)
  have same : i_Rel (k + 5) (f_length, f_known, f_joins, f_patterns, f_first, f_rest, f_narrow, f_gap, f_stretch, f_shrink, f_tolerance, f_cost, f_height, f_breaks, f_lines, f_paragraphs, a_text, a_allowed, a_counts, a_wide, a_join, a_kerns, a_child, a_digits, a_uses, a_ends, a_begins, a_hyphened, a_least, a_before, a_natural, a_spaces, a_way, a_lineFrom, a_lineTo, a_linePart, a_linePage, a_lineWide, a_lineBad, a_lineHyphen, a_sums) (h_length, h_ligatures, h_patterns, h_firstWide, h_restWide, h_firstLines, h_spaceWide, h_stretch, h_shrink, h_tolerance, h_cost, h_height, h_ready, h_glyphCount, h_breaks, h_natural, h_spaces, h_lineCount, h_paragraphs, b_text, b_wide, b_joined, b_kerns, b_patA, b_patB, b_patC, b_patDigits, b_glyphs, b_glyphOf, b_bEnd, b_bNext, b_bHyphen, b_least, b_before, b_way, b_lFrom, b_lTo, b_lNumber, b_lParagraph, b_lPage, b_lHyphen, b_lLast, b_best) := zz_mk e kn rd F M T F' M' Q (zz_J5 J) hk' D hr D'
  refine xw_pattern T (fun h => yw_pN h ⟨rfl, same⟩) (fun x y z q hok hpe hno hn => yw_pF Q hok hpe hno hn ⟨rfl, same⟩) (fun x y z hok hpe hno hn => yw_p0 Q hok hpe hno hn (fun x1 x2 x3 x4 x5 Q' => ⟨rfl, zz_mk e false false F M T F' M' Q' (zz_J5 J) rfl (fun z => by cases z) rfl (fun z => by cases z)⟩)) (fun x y z i fp ac ad au hok hpe hi hkey T' => yw_pD Q hok hpe hi hkey (fun x1 x2 x3 x4 x5 Q' => ⟨rfl, zz_mk (gv_pdel e i) false false F M T' F' M' Q' (zz_J5 J) rfl (fun z => by cases z) rfl (fun z => by cases z)⟩)) (fun x y z q i ad hok hpe hq hi hkey T' => yw_pS Q hok hpe hi hkey hq (fun x2 x3 x4 x5 Q' => ⟨rfl, zz_mk (gv_pset e i q) false false F M T' F' M' Q' (zz_J5 J) rfl (fun z => by cases z) rfl (fun z => by cases z)⟩)) (fun x y z q fp ac ad au hok hpe hq hno hn T' => yw_pA Q hok hpe hno hn hq (fun x1 x2 x3 x4 x5 Q' => ⟨rfl, zz_mk (gv_padd e x y z q) false false F M T' F' M' Q' (zz_J5 J) rfl (fun z => by cases z) rfl (fun z => by cases z)⟩))
end
section
/-! the questions, each side -/
/-- the part of the text is letters -/
def sp_ok (e : gv_T) (v1 v2 : Int32) (f t : Nat) : Prop := v1 = nI f ∧ v2 = nI t ∧ f < t ∧ t ≤ gv_ln e ∧ ∀ j, f ≤ j → j < t → gv_isL e j
section
variable {e : gv_T} {f_length f_known f_joins f_patterns f_first f_rest f_narrow f_gap f_stretch f_shrink f_tolerance f_cost f_height f_breaks f_lines f_paragraphs : Int32} {a_text a_allowed a_counts a_wide a_join a_kerns a_child a_digits a_uses a_ends a_begins a_hyphened a_before a_natural a_spaces a_way a_lineFrom a_lineTo a_linePart a_linePage a_lineWide a_lineBad a_lineHyphen : Nat → Int32} {a_least a_sums : Nat → Int64} {h_length h_ligatures h_patterns h_firstWide h_restWide h_firstLines h_spaceWide h_stretch h_shrink h_tolerance h_cost h_height h_ready h_glyphCount h_breaks h_natural h_spaces h_lineCount h_paragraphs : Int32} {b_text b_wide b_joined b_kerns b_patA b_patB b_patC b_patDigits b_glyphs b_glyphOf b_bEnd b_bNext b_bHyphen b_before b_way b_lFrom b_lTo b_lNumber b_lParagraph b_lPage b_lHyphen b_lLast : Nat → Int32} {b_least b_best : Nat → Int64}
theorem xw_span {post : Int32 → Prop} {v1 v2 : Int32} (F : ex_F e f_length a_text a_wide a_join a_kerns) (h1 : ∀ f t, sp_ok e v1 v2 f t → post (nI (sh_wd e (sh_gl e f (t - f))))) (h0 : (∀ f t, ¬ sp_ok e v1 v2 f t) → post (-1)) : wpX_span post (f_length, f_known, f_joins, f_patterns, f_first, f_rest, f_narrow, f_gap, f_stretch, f_shrink, f_tolerance, f_cost, f_height, f_breaks, f_lines, f_paragraphs, a_text, a_allowed, a_counts, a_wide, a_join, a_kerns, a_child, a_digits, a_uses, a_ends, a_begins, a_hyphened, a_least, a_before, a_natural, a_spaces, a_way, a_lineFrom, a_lineTo, a_linePart, a_linePage, a_lineWide, a_lineBad, a_lineHyphen, a_sums) v1 v2 := by
  obtain ⟨F1, F2, F3, F4, F5, E⟩ := id F
  have h48 := E.1
  refine br_c (fun g => h0 (fun f t h => ?_)) (fun g => br_c (fun g1 => h0 (fun f t h => ?_)) (fun g1 => br_c (fun g2 => ?_) (fun g2 => h0 (fun f t h => ?_))))
  · rw [h.1] at g
    have := h.2.2.1; have := h.2.2.2.1
    exact nI_pos (by omega) g
  · rw [F1, h.2.1] at g1
    have := h.2.2.2.1
    exact nI_nlt this (by omega) g1
  · obtain ⟨f, hf, rfl⟩ := nI_of g
    have g3 : ¬ v2 < 0 := by
      rw [il_lt] at g2 ⊢
      rw [nI_toInt hf] at g2
      show ¬ _ < (0 : Int)
      omega
    obtain ⟨t, ht, rfl⟩ := nI_of g3
    rw [nI_ltI hf ht] at g2
    rw [F1, nI_ltI (by omega) ht] at g1
    have htl : t ≤ gv_ln e := by omega
    have loop : ∀ d n q, d < n → q + d = t → f ≤ q → (∀ j, f ≤ j → j < q → gv_isL e j) → wX_span_30 post (nI t) f_length f_known f_joins f_patterns f_first f_rest f_narrow f_gap f_stretch f_shrink f_tolerance f_cost f_height f_breaks f_lines f_paragraphs a_text a_allowed a_counts a_wide a_join a_kerns a_child a_digits a_uses a_ends a_begins a_hyphened a_least a_before a_natural a_spaces a_way a_lineFrom a_lineTo a_linePart a_linePage a_lineWide a_lineBad a_lineHyphen a_sums n (nI (sh_wd e (sh_gl e f (q - f)).tail)) (sh_hd (sh_gl e f (q - f))) (sh_hd (sh_gl e f (q - f)).tail) (nI q) := by
      intro d
      induction d with
      | zero =>
        intro n q hn hq hfq hl
        obtain ⟨n, rfl⟩ : ∃ n', n = n' + 1 := ⟨n - 1, by omega⟩
        have : q = t := by omega
        subst this
        have hok := sh_gl_ok E f (q - f) (fun j j1 j2 => (hl j j1 (by omega)).2)
        have hne : sh_gl e f (q - f) ≠ [] := by
          rw [show q - f = (q - f - 1) + 1 from by omega]
          exact sh_push_ne e _ _
        have hsp := h1 f q ⟨rfl, rfl, g2, htl, hl⟩
        refine br_t (nI_le (Nat.le_refl _) (by omega)) (xw_adv F hok hne ?_)
        rw [sh_wd_t e (sh_gl e f (q - f)), Nat.add_comm, ← nI_add] at hsp
        exact hsp
      | succ d ih =>
        intro n q hn hq hfq hl
        obtain ⟨n, rfl⟩ : ∃ n', n = n' + 1 := ⟨n - 1, by omega⟩
        refine br_f (nI_ge (by omega) (by omega)) (xw_lt F (by omega) (fun y => br_f (by decide) ⟨vp_in_nI (by omega) (by decide), nm_r (e' := nI (gv_tx e q)) (by rw [nI_clamp (by omega), F2]) ?_⟩) (fun y => br_t rfl (h0 (fun f' t' h => y ?_))))
        · have hok := sh_gl_ok E f (q - f) (fun j j1 j2 => (hl j j1 (by omega)).2)
          have hgl : sh_gl e f (q + 1 - f) = sh_push e (sh_gl e f (q - f)) (gv_tx e q) := by
            rw [show q + 1 - f = (q - f) + 1 from by omega]
            show sh_push e (sh_gl e f (q - f)) (gv_tx e (f + (q - f))) = _
            rw [show f + (q - f) = q from by omega]
          have nx := ih n (q + 1) (by omega) (by omega) (by omega) (fun j j1 j2 => by
            by_cases ej : j = q
            · rw [ej]; exact y
            · exact hl j j1 (by omega))
          rw [hgl] at nx
          revert nx hok
          generalize sh_gl e f (q - f) = L
          intro hok nx
          have hl10 := y.2
          cases L with
          | nil =>
            refine br_f (by show ¬ (0 : Int32) ≤ -1; decide) (br_t (by decide) (br_t (by show (-1 : Int32) < 0; decide) (nm_r (nI_1 q) nx)))
          | cons g r =>
            have hg := (sh_ok_c hok).1
            have hj := E.2.2.2.2 (10 * g + gv_tx e q) (by omega)
            have eix := iw_ix g (gv_tx e q)
            refine br_t (nI_pos' (by omega)) ⟨by rw [show sh_hd (g :: r) = nI g from rfl, eix]; exact vp_in_nI (by omega) (by decide), ?_⟩
            rw [show sh_hd (g :: r) = nI g from rfl, eix, nI_clamp (n := 10 * g + gv_tx e q) (by omega), F4 (10 * g + gv_tx e q) (by omega)]
            by_cases hj0 : gv_jn e (10 * g + gv_tx e q) = 0
            · have ep : sh_push e (g :: r) (gv_tx e q) = gv_tx e q :: g :: r := if_pos hj0
              rw [ep] at nx
              rw [hj0]
              refine br_t (by decide) (br_f (nI_pos (by omega)) ?_)
              refine xw_adv (L := g :: r) F hok (fun z => by cases z) (nm_r (e' := nI (sh_wd e (g :: r))) ?_ (nm_r (nI_1 q) nx))
              rw [nI_add]
              exact congrArg nI (by rw [sh_wd_t e (g :: r)]; omega)
            · have ep : sh_push e (g :: r) (gv_tx e q) = (gv_jn e (10 * g + gv_tx e q) - 1) :: r := if_neg hj0
              rw [ep] at nx
              exact br_f (nI_nle (by omega) (by omega)) (nm_r (nI_m1 (by omega)) (nm_r (nI_1 q) nx))
        · obtain ⟨a1, a2, a3, a4, a5⟩ := h
          have e1 : f = f' := (nI_eq hf (by omega)).mp a1
          have e2 : t = t' := (nI_eq ht (by omega)).mp a2
          exact a5 q (by omega) (by omega)
    have := loop (t - f) (t + 1) f (by omega) (by omega) (Nat.le_refl _) (fun j j1 j2 => by omega)
    rw [Nat.sub_self] at this
    exact ⟨t + 1, this⟩
  · obtain ⟨a1, a2, a3, a4, a5⟩ := h
    rw [a1, a2] at g2
    exact g2 (nI_lt a3 (by omega))
theorem yw_span {post : Int32 → SY → Prop} {v1 v2 : Int32} (F : ey_F e h_length b_text b_wide b_joined b_kerns) (h1 : ∀ f t gc gs go, sp_ok e v1 v2 f t → post (nI (sh_wd e (sh_gl e f (t - f)))) (h_length, h_ligatures, h_patterns, h_firstWide, h_restWide, h_firstLines, h_spaceWide, h_stretch, h_shrink, h_tolerance, h_cost, h_height, h_ready, gc, h_breaks, h_natural, h_spaces, h_lineCount, h_paragraphs, b_text, b_wide, b_joined, b_kerns, b_patA, b_patB, b_patC, b_patDigits, gs, go, b_bEnd, b_bNext, b_bHyphen, b_least, b_before, b_way, b_lFrom, b_lTo, b_lNumber, b_lParagraph, b_lPage, b_lHyphen, b_lLast, b_best)) (h0 : (∀ f t, ¬ sp_ok e v1 v2 f t) → post (-1) (h_length, h_ligatures, h_patterns, h_firstWide, h_restWide, h_firstLines, h_spaceWide, h_stretch, h_shrink, h_tolerance, h_cost, h_height, h_ready, h_glyphCount, h_breaks, h_natural, h_spaces, h_lineCount, h_paragraphs, b_text, b_wide, b_joined, b_kerns, b_patA, b_patB, b_patC, b_patDigits, b_glyphs, b_glyphOf, b_bEnd, b_bNext, b_bHyphen, b_least, b_before, b_way, b_lFrom, b_lTo, b_lNumber, b_lParagraph, b_lPage, b_lHyphen, b_lLast, b_best)) : wpY_span post (h_length, h_ligatures, h_patterns, h_firstWide, h_restWide, h_firstLines, h_spaceWide, h_stretch, h_shrink, h_tolerance, h_cost, h_height, h_ready, h_glyphCount, h_breaks, h_natural, h_spaces, h_lineCount, h_paragraphs, b_text, b_wide, b_joined, b_kerns, b_patA, b_patB, b_patC, b_patDigits, b_glyphs, b_glyphOf, b_bEnd, b_bNext, b_bHyphen, b_least, b_before, b_way, b_lFrom, b_lTo, b_lNumber, b_lParagraph, b_lPage, b_lHyphen, b_lLast, b_best) v1 v2 := by
  obtain ⟨F1, F2, F3, F4, F5, E⟩ := id F
  have h48 := E.1
  refine br_c (fun g => h0 (fun f t h => ?_)) (fun g => br_c (fun g1 => h0 (fun f t h => ?_)) (fun g1 => br_c (fun g2 => ?_) (fun g2 => h0 (fun f t h => ?_))))
  · rw [h.1] at g
    have := h.2.2.1; have := h.2.2.2.1
    exact nI_pos (by omega) g
  · rw [h.1, h.2.1] at g1
    have := h.2.2.2.1
    exact nI_ge h.2.2.1 (by omega) g1
  · obtain ⟨f, hf, rfl⟩ := nI_of g
    have g3 : ¬ v2 < 0 := by
      rw [il_le] at g1
      rw [il_lt]
      rw [nI_toInt hf] at g1
      show ¬ _ < (0 : Int)
      omega
    obtain ⟨t, ht, rfl⟩ := nI_of g3
    rw [nI_leI ht hf] at g1
    rw [F1, nI_leI ht (by omega)] at g2
    have loop : ∀ d n q, d < n → q + d = t → f ≤ q → (∀ j, f ≤ j → j < q → gv_isL e j) → wY_span_21 post (nI f) (nI t) h_length h_ligatures h_patterns h_firstWide h_restWide h_firstLines h_spaceWide h_stretch h_shrink h_tolerance h_cost h_height h_ready h_glyphCount h_breaks h_natural h_spaces h_lineCount h_paragraphs b_text b_wide b_joined b_kerns b_patA b_patB b_patC b_patDigits b_glyphs b_glyphOf b_bEnd b_bNext b_bHyphen b_least b_before b_way b_lFrom b_lTo b_lNumber b_lParagraph b_lPage b_lHyphen b_lLast b_best n (nI q) := by
      intro d
      induction d with
      | zero =>
        intro n q hn hq hfq hl
        obtain ⟨n, rfl⟩ : ∃ n', n = n' + 1 := ⟨n - 1, by omega⟩
        have : q = t := by omega
        subst this
        exact br_t (nI_le (Nat.le_refl _) (by omega)) (yw_shape F (by omega) g2 hl (fun gs go _ _ => h1 f q _ gs go ⟨rfl, rfl, by omega, g2, hl⟩))
      | succ d ih =>
        intro n q hn hq hfq hl
        obtain ⟨n, rfl⟩ : ∃ n', n = n' + 1 := ⟨n - 1, by omega⟩
        refine br_f (nI_ge (by omega) (by omega)) (yw_lt F (by omega) (fun y => br_f (by decide) (nm_r (nI_1 q) (ih n (q + 1) (by omega) (by omega) (by omega) (fun j j1 j2 => ?_)))) (fun y => br_t rfl (h0 (fun f' t' h => y ?_))))
        · by_cases ej : j = q
          · rw [ej]; exact y
          · exact hl j j1 (by omega)
        · obtain ⟨a1, a2, a3, a4, a5⟩ := h
          have e1 : f = f' := (nI_eq hf (by omega)).mp a1
          have e2 : t = t' := (nI_eq ht (by omega)).mp a2
          exact a5 q (by omega) (by omega)
    exact ⟨t + 1, loop (t - f) _ f (by omega) (by omega) (Nat.le_refl _) (fun j j1 j2 => by omega)⟩
  · obtain ⟨a1, a2, a3, a4, a5⟩ := h
    rw [a2, F1] at g2
    exact g2 (nI_le a4 (by omega))
theorem xw_hyphen {post : Int32 → SX → Prop} {v1 : Int32} (F : ex_F e f_length a_text a_wide a_join a_kerns) (T : tr_if e a_child a_digits) (h0 : (∀ i, v1 = nI i → i < 2 ^ 31 → ¬ gv_isL e i) → post 0 (f_length, f_known, f_joins, f_patterns, f_first, f_rest, f_narrow, f_gap, f_stretch, f_shrink, f_tolerance, f_cost, f_height, f_breaks, f_lines, f_paragraphs, a_text, a_allowed, a_counts, a_wide, a_join, a_kerns, a_child, a_digits, a_uses, a_ends, a_begins, a_hyphened, a_least, a_before, a_natural, a_spaces, a_way, a_lineFrom, a_lineTo, a_linePart, a_linePage, a_lineWide, a_lineBad, a_lineHyphen, a_sums)) (h1 : ∀ i al co, v1 = nI i → gv_isL e i → post (bl_i (hy_b e i)) (f_length, f_known, f_joins, f_patterns, f_first, f_rest, f_narrow, f_gap, f_stretch, f_shrink, f_tolerance, f_cost, f_height, f_breaks, f_lines, f_paragraphs, a_text, al, co, a_wide, a_join, a_kerns, a_child, a_digits, a_uses, a_ends, a_begins, a_hyphened, a_least, a_before, a_natural, a_spaces, a_way, a_lineFrom, a_lineTo, a_linePart, a_linePage, a_lineWide, a_lineBad, a_lineHyphen, a_sums)) : wpX_hyphen post (f_length, f_known, f_joins, f_patterns, f_first, f_rest, f_narrow, f_gap, f_stretch, f_shrink, f_tolerance, f_cost, f_height, f_breaks, f_lines, f_paragraphs, a_text, a_allowed, a_counts, a_wide, a_join, a_kerns, a_child, a_digits, a_uses, a_ends, a_begins, a_hyphened, a_least, a_before, a_natural, a_spaces, a_way, a_lineFrom, a_lineTo, a_linePart, a_linePage, a_lineWide, a_lineBad, a_lineHyphen, a_sums) v1 := by
  have E := F.2.2.2.2.2
  have h48 := E.1
  unfold wpX_hyphen
  rcases iw_cases v1 with hneg | ⟨i, hi, rfl⟩
  · refine xw_ltn hneg (br_t rfl (h0 (fun i h hi2 => ?_)))
    rw [h] at hneg
    exact fun _ => nI_pos hi2 hneg
  · refine xw_lt F hi (fun y => br_f (by decide) ?_) (fun y => br_t rfl (h0 (fun i' h hi2 => ?_)))
    · have y1 := y.1
      have fin : ∀ s t, wo_w e s t → s ≤ i → i < t → t ≤ gv_ln e → wpX_hyphenate (fun u => match u with | (f_length', f_known', f_joins', f_patterns', f_first', f_rest', f_narrow', f_gap', f_stretch', f_shrink', f_tolerance', f_cost', f_height', f_breaks', f_lines', f_paragraphs', a_text', a_allowed', a_counts', a_wide', a_join', a_kerns', a_child', a_digits', a_uses', a_ends', a_begins', a_hyphened', a_least', a_before', a_natural', a_spaces', a_way', a_lineFrom', a_lineTo', a_linePart', a_linePage', a_lineWide', a_lineBad', a_lineHyphen', a_sums') => (vp_in (nI i) 49 ∧ (narrow .boolean (.int (a_allowed' (nI i).toNatClampNeg)) = .int (a_allowed' (nI i).toNatClampNeg) ∧ (post (a_allowed' (nI i).toNatClampNeg) (f_length', f_known', f_joins', f_patterns', f_first', f_rest', f_narrow', f_gap', f_stretch', f_shrink', f_tolerance', f_cost', f_height', f_breaks', f_lines', f_paragraphs', a_text', a_allowed', a_counts', a_wide', a_join', a_kerns', a_child', a_digits', a_uses', a_ends', a_begins', a_hyphened', a_least', a_before', a_natural', a_spaces', a_way', a_lineFrom', a_lineTo', a_linePart', a_linePage', a_lineWide', a_lineBad', a_lineHyphen', a_sums'))))) (f_length, f_known, f_joins, f_patterns, f_first, f_rest, f_narrow, f_gap, f_stretch, f_shrink, f_tolerance, f_cost, f_height, f_breaks, f_lines, f_paragraphs, a_text, a_allowed, a_counts, a_wide, a_join, a_kerns, a_child, a_digits, a_uses, a_ends, a_begins, a_hyphened, a_least, a_before, a_natural, a_spaces, a_way, a_lineFrom, a_lineTo, a_linePart, a_linePage, a_lineWide, a_lineBad, a_lineHyphen, a_sums) (nI s) (nI t) := by
        intro s t W s1 t1 t2
        refine xw_hyphenate F T W t2 (fun A C hA => ?_)
        show vp_in (nI i) 49 ∧ narrow .boolean (.int (A (nI i).toNatClampNeg)) = .int (A (nI i).toNatClampNeg) ∧ post (A (nI i).toNatClampNeg) (f_length, f_known, f_joins, f_patterns, f_first, f_rest, f_narrow, f_gap, f_stretch, f_shrink, f_tolerance, f_cost, f_height, f_breaks, f_lines, f_paragraphs, a_text, A, C, a_wide, a_join, a_kerns, a_child, a_digits, a_uses, a_ends, a_begins, a_hyphened, a_least, a_before, a_natural, a_spaces, a_way, a_lineFrom, a_lineTo, a_linePart, a_linePage, a_lineWide, a_lineBad, a_lineHyphen, a_sums)
        rw [nI_clamp (by omega), hA i s1 t1]
        exact ⟨vp_in_nI (by omega) (by decide), bl_nw _, h1 i A C rfl y⟩
      have l30 : ∀ s, s ≤ i → (∀ j, s ≤ j → j ≤ i → gv_isL e j) → (∀ j, s = j + 1 → ¬ gv_isL e j) → ∀ d n t, d < n → gv_ln e ≤ t + d → i ≤ t → t ≤ gv_ln e → (∀ j, i ≤ j → j < t → gv_isL e j) → wX_hyphen_30 post (nI i) (nI s) f_length f_known f_joins f_patterns f_first f_rest f_narrow f_gap f_stretch f_shrink f_tolerance f_cost f_height f_breaks f_lines f_paragraphs a_text a_allowed a_counts a_wide a_join a_kerns a_child a_digits a_uses a_ends a_begins a_hyphened a_least a_before a_natural a_spaces a_way a_lineFrom a_lineTo a_linePart a_linePage a_lineWide a_lineBad a_lineHyphen a_sums n (nI t) := by
        intro s s1 s2 s3 d
        induction d with
        | zero =>
          intro n t hn ht hit htl hl
          obtain ⟨n, rfl⟩ : ∃ n', n = n' + 1 := ⟨n - 1, by omega⟩
          rw [wX_hyphen_30]
          refine xw_lt F (by omega) (fun z => by have := z.1; omega) (fun z => br_t rfl (fin s t ⟨by omega, fun j j1 j2 => ?_, s3, z⟩ s1 ?_ htl))
          · rcases Nat.lt_or_ge j i with w | w
            · exact s2 j j1 (by omega)
            · exact hl j w j2
          · rcases Nat.lt_or_ge i t with w | w
            · exact w
            · exact absurd y (by rw [show i = t from by omega]; exact z)
        | succ d ih =>
          intro n t hn ht hit htl hl
          obtain ⟨n, rfl⟩ : ∃ n', n = n' + 1 := ⟨n - 1, by omega⟩
          rw [wX_hyphen_30]
          refine xw_lt F (by omega) (fun z => br_f (by decide) (nm_r (nI_1 t) (ih n (t + 1) (by omega) (by omega) (by omega) (by have := z.1; omega) (fun j j1 j2 => ?_)))) (fun z => br_t rfl (fin s t ⟨?_, fun j j1 j2 => ?_, s3, z⟩ s1 ?_ htl))
          · by_cases ej : j = t
            · rw [ej]; exact z
            · exact hl j j1 (by omega)
          · rcases Nat.lt_or_ge i t with w | w
            · omega
            · exact absurd y (by rw [show i = t from by omega]; exact z)
          · rcases Nat.lt_or_ge j i with w | w
            · exact s2 j j1 (by omega)
            · exact hl j w j2
          · rcases Nat.lt_or_ge i t with w | w
            · exact w
            · exact absurd y (by rw [show i = t from by omega]; exact z)
      have l14 : ∀ s n, s < n → s ≤ i → (∀ j, s ≤ j → j ≤ i → gv_isL e j) → wX_hyphen_14 post (nI i) (nI i) f_length f_known f_joins f_patterns f_first f_rest f_narrow f_gap f_stretch f_shrink f_tolerance f_cost f_height f_breaks f_lines f_paragraphs a_text a_allowed a_counts a_wide a_join a_kerns a_child a_digits a_uses a_ends a_begins a_hyphened a_least a_before a_natural a_spaces a_way a_lineFrom a_lineTo a_linePart a_linePage a_lineWide a_lineBad a_lineHyphen a_sums n (nI s) := by
        intro s
        induction s with
        | zero =>
          intro n hn hsi hl
          obtain ⟨n, rfl⟩ : ∃ n', n = n' + 1 := ⟨n - 1, by omega⟩
          rw [wX_hyphen_14]
          exact xw_ltn (by decide) (br_t rfl ⟨gv_ln e + 1, l30 0 (by omega) hl (fun j hj => by omega) (gv_ln e) _ i (by omega) (by omega) (Nat.le_refl _) (by omega) (fun j j1 j2 => by omega)⟩)
        | succ s ih =>
          intro n hn hsi hl
          obtain ⟨n, rfl⟩ : ∃ n', n = n' + 1 := ⟨n - 1, by omega⟩
          rw [wX_hyphen_14]
          dsimp only
          rw [nI_pred]
          refine xw_lt F (by omega) (fun z => br_f (by decide) (nm_r (pk_m1 s) (ih n (by omega) (by omega) (fun j j1 j2 => ?_)))) (fun z => br_t rfl ⟨gv_ln e + 1, l30 (s + 1) hsi hl (fun j hj => by rw [show j = s from by omega]; exact z) (gv_ln e) _ i (by omega) (by omega) (Nat.le_refl _) (by omega) (fun j j1 j2 => by omega)⟩)
          by_cases ej : j = s
          · rw [ej]; exact z
          · exact hl j (by omega) j2
      exact ⟨i + 1, l14 i _ (by omega) (Nat.le_refl _) (fun j j1 j2 => by rw [show j = i from by omega]; exact y)⟩
    · have : i = i' := (nI_eq hi hi2).mp h
      rw [← this]; exact y
end
end
section
/-! the questions that need the lines, and the owed statements -/

noncomputable def qv_V (e : gv_T) (p w : Nat) : Int32 := if w = 0 then nI (li_f (al_g e p)) else if w = 1 then nI (li_t (al_g e p)) else if w = 2 then nI (li_w (al_g e p)) else if w = 3 then bq_i (li_b (al_g e p)) else if w = 4 then bl_i (li_h (al_g e p)) else if w = 5 then nI (li_p (al_g e p)) else nI (al_pg e p)
/-- a line is asked for that is there -/
def qv_ok (e : gv_T) (v1 v2 : Int32) (p w : Nat) : Prop := v1 = nI p ∧ p < al_n e ∧ v2 = nI w ∧ w ≤ 6
section
variable {e : gv_T} {f_length f_known f_joins f_patterns f_first f_rest f_narrow f_gap f_stretch f_shrink f_tolerance f_cost f_height f_breaks f_lines f_paragraphs : Int32} {a_text a_allowed a_counts a_wide a_join a_kerns a_child a_digits a_uses a_ends a_begins a_hyphened a_before a_natural a_spaces a_way a_lineFrom a_lineTo a_linePart a_linePage a_lineWide a_lineBad a_lineHyphen : Nat → Int32} {a_least a_sums : Nat → Int64} {h_length h_ligatures h_patterns h_firstWide h_restWide h_firstLines h_spaceWide h_stretch h_shrink h_tolerance h_cost h_height h_ready h_glyphCount h_breaks h_natural h_spaces h_lineCount h_paragraphs : Int32} {b_text b_wide b_joined b_kerns b_patA b_patB b_patC b_patDigits b_glyphs b_glyphOf b_bEnd b_bNext b_bHyphen b_before b_way b_lFrom b_lTo b_lNumber b_lParagraph b_lPage b_lHyphen b_lLast : Nat → Int32} {b_least b_best : Nat → Int64}
theorem bl_ans {b : Bool} {x : Int32} {P : Int32 → Prop} (hx : x = bl_i b) (h : P (bl_i b)) : (x = 0 → P 0) ∧ (¬ x = 0 → P 1) := by
  refine bl_br hx (fun y => ?_) (fun y => ?_)
  · rw [y] at h; exact h
  · rw [y] at h; exact h
theorem xw_line {post : Int32 → SX → Prop} {v1 v2 : Int32} {kn : Bool} (F : ex_F e f_length a_text a_wide a_join a_kerns) (M : ex_M e f_first f_rest f_narrow f_gap f_stretch f_shrink f_tolerance f_cost f_height) (T : tr_if e a_child a_digits) (hk : f_known = bl_i kn) (hD : kn = true → ex_D e f_lines f_paragraphs a_lineFrom a_lineTo a_linePart a_linePage a_lineWide a_lineBad a_lineHyphen a_sums)
    (h0 : ∀ x2 x3 x4 y1 y2 y3 y4 y5 y6 y7 y8 y9 y10 z1 z2 z3 z4 z5 z6 z7 z8, (∀ p w, ¬ qv_ok e v1 v2 p w) → ex_D e x3 x4 z1 z2 z3 z4 z5 z6 z7 z8 → post (-1) (f_length, bl_i true, f_joins, f_patterns, f_first, f_rest, f_narrow, f_gap, f_stretch, f_shrink, f_tolerance, f_cost, f_height, x2, x3, x4, a_text, y1, y2, a_wide, a_join, a_kerns, a_child, a_digits, a_uses, y3, y4, y5, y6, y7, y8, y9, y10, z1, z2, z3, z4, z5, z6, z7, z8))
    (h1 : ∀ p w x2 x3 x4 y1 y2 y3 y4 y5 y6 y7 y8 y9 y10 z1 z2 z3 z4 z5 z6 z7 z8, qv_ok e v1 v2 p w → ex_D e x3 x4 z1 z2 z3 z4 z5 z6 z7 z8 → post (qv_V e p w) (f_length, bl_i true, f_joins, f_patterns, f_first, f_rest, f_narrow, f_gap, f_stretch, f_shrink, f_tolerance, f_cost, f_height, x2, x3, x4, a_text, y1, y2, a_wide, a_join, a_kerns, a_child, a_digits, a_uses, y3, y4, y5, y6, y7, y8, y9, y10, z1, z2, z3, z4, z5, z6, z7, z8)) : wpX_line post (f_length, f_known, f_joins, f_patterns, f_first, f_rest, f_narrow, f_gap, f_stretch, f_shrink, f_tolerance, f_cost, f_height, f_breaks, f_lines, f_paragraphs, a_text, a_allowed, a_counts, a_wide, a_join, a_kerns, a_child, a_digits, a_uses, a_ends, a_begins, a_hyphened, a_least, a_before, a_natural, a_spaces, a_way, a_lineFrom, a_lineTo, a_linePart, a_linePage, a_lineWide, a_lineBad, a_lineHyphen, a_sums) v1 v2 := by
  have E := F.2.2.2.2.2
  obtain ⟨H, hn, hnp⟩ := al_end E
  unfold wpX_line
  refine xw_know F M T hk hD (fun x2 x3 x4 y1 y2 y3 y4 y5 y6 y7 y8 y9 y10 z1 z2 z3 z4 z5 z6 z7 z8 D => ?_)
  have n0 := h0 x2 x3 x4 y1 y2 y3 y4 y5 y6 y7 y8 y9 y10 z1 z2 z3 z4 z5 z6 z7 z8
  refine br_c (fun g => n0 (fun p w h => ?_) D) (fun g => br_c (fun g1 => br_c (fun g2 => n0 (fun p w h => ?_) D) (fun g2 => br_c (fun g3 => n0 (fun p w h => ?_) D) (fun g3 => ?_))) (fun g1 => n0 (fun p w h => ?_) D))
  · rw [h.1] at g
    have := h.2.1
    exact nI_pos (by omega) g
  · rw [h.2.2.1] at g2
    have := h.2.2.2
    exact nI_pos (by omega) g2
  · rw [h.2.2.1] at g3
    have := h.2.2.2
    exact nI_nlt (b := w) (a := 6) this (by omega) g3
  · obtain ⟨p, hp, rfl⟩ := nI_of g
    obtain ⟨⟨L1, L2⟩, D2, D3, D4⟩ := id D
    have L1' : x3 = nI (al_n e) := L1
    rw [L1', nI_ltI hp (by omega)] at g1
    obtain ⟨w, hw, rfl⟩ := nI_of g2
    have hw6 : w ≤ 6 := by
      rcases Nat.lt_or_ge 6 w with y | y
      · exact absurd (nI_lt (a := 6) y hw) g3
      · exact y
    have hv : vp_in (nI p) 48 := vp_in_nI (by omega) (by decide)
    have hcl : (nI p).toNatClampNeg = p := nI_clamp (by omega)
    obtain ⟨l1, l2, l3, l4, l5, l6⟩ := L2 p g1
    have ans := h1 p w x2 x3 x4 y1 y2 y3 y4 y5 y6 y7 y8 y9 y10 z1 z2 z3 z4 z5 z6 z7 z8 ⟨rfl, g1, rfl, hw6⟩ D
    rcases (show w = 0 ∨ w = 1 ∨ w = 2 ∨ w = 3 ∨ w = 4 ∨ w = 5 ∨ w = 6 by omega) with rfl | rfl | rfl | rfl | rfl | rfl | rfl
    · refine br_t rfl ⟨hv, ?_⟩
      rw [hcl, l1]; exact ans
    · refine br_f (by decide) (br_t rfl ⟨hv, ?_⟩)
      rw [hcl, l2]; exact ans
    · refine br_f (by decide) (br_f (by decide) (br_t rfl ⟨hv, ?_⟩))
      rw [hcl, l4]; exact ans
    · refine br_f (by decide) (br_f (by decide) (br_f (by decide) (br_t rfl ⟨hv, ?_⟩)))
      rw [hcl, l5]; exact ans
    · refine br_f (by decide) (br_f (by decide) (br_f (by decide) (br_f (by decide) (br_t rfl ⟨hv, ?_⟩))))
      rw [hcl]
      exact bl_ans (P := fun x => post x (f_length, bl_i true, f_joins, f_patterns, f_first, f_rest, f_narrow, f_gap, f_stretch, f_shrink, f_tolerance, f_cost, f_height, x2, x3, x4, a_text, y1, y2, a_wide, a_join, a_kerns, a_child, a_digits, a_uses, y3, y4, y5, y6, y7, y8, y9, y10, z1, z2, z3, z4, z5, z6, z7, z8)) l6 ans
    · refine br_f (by decide) (br_f (by decide) (br_f (by decide) (br_f (by decide) (br_f (by decide) (br_t rfl ⟨hv, ?_⟩)))))
      rw [hcl, l3]; exact ans
    · refine br_f (by decide) (br_f (by decide) (br_f (by decide) (br_f (by decide) (br_f (by decide) (br_f (by decide) (br_t rfl ⟨hv, ?_⟩))))))
      rw [hcl, D2 p g1]; exact ans
  · obtain ⟨⟨L1, -⟩, -⟩ := D
    have L1' : x3 = nI (al_n e) := L1
    rw [h.1, L1'] at g1
    have := h.2.1
    exact g1 (nI_lt this (by omega))
theorem yw_line {post : Int32 → SY → Prop} {v1 v2 : Int32} {rd : Bool} (F : ey_F e h_length b_text b_wide b_joined b_kerns) (M : ey_M e h_firstWide h_restWide h_firstLines h_spaceWide h_stretch h_shrink h_tolerance h_cost h_height) (P : ey_P e h_patterns b_patA b_patB b_patC b_patDigits) (hk : h_ready = bl_i rd) (hD : rd = true → ey_D e h_lineCount h_paragraphs b_lFrom b_lTo b_lNumber b_lParagraph b_lPage b_lHyphen b_lLast b_best)
    (h0 : ∀ x1 x2 x3 x4 x5 x6 x7 y1 y2 y3 y4 y5 y6 y7 y8 y9 y10 y11 y12 z1 z2 z3, (∀ p w, ¬ qv_ok e v1 v2 p w) → ey_D e x1 z1 x2 x3 x4 x5 z2 x6 x7 z3 → post (-1) (h_length, h_ligatures, h_patterns, h_firstWide, h_restWide, h_firstLines, h_spaceWide, h_stretch, h_shrink, h_tolerance, h_cost, h_height, bl_i true, y5, y9, y3, y4, x1, z1, b_text, b_wide, b_joined, b_kerns, b_patA, b_patB, b_patC, b_patDigits, y6, y7, y10, y11, y12, y1, y2, y8, x2, x3, x4, x5, z2, x6, x7, z3))
    (h1 : ∀ p w x1 x2 x3 x4 x5 x6 x7 y1 y2 y3 y4 y5 y6 y7 y8 y9 y10 y11 y12 z1 z2 z3, qv_ok e v1 v2 p w → ey_D e x1 z1 x2 x3 x4 x5 z2 x6 x7 z3 → post (qv_V e p w) (h_length, h_ligatures, h_patterns, h_firstWide, h_restWide, h_firstLines, h_spaceWide, h_stretch, h_shrink, h_tolerance, h_cost, h_height, bl_i true, y5, y9, y3, y4, x1, z1, b_text, b_wide, b_joined, b_kerns, b_patA, b_patB, b_patC, b_patDigits, y6, y7, y10, y11, y12, y1, y2, y8, x2, x3, x4, x5, z2, x6, x7, z3)) : wpY_line post (h_length, h_ligatures, h_patterns, h_firstWide, h_restWide, h_firstLines, h_spaceWide, h_stretch, h_shrink, h_tolerance, h_cost, h_height, h_ready, h_glyphCount, h_breaks, h_natural, h_spaces, h_lineCount, h_paragraphs, b_text, b_wide, b_joined, b_kerns, b_patA, b_patB, b_patC, b_patDigits, b_glyphs, b_glyphOf, b_bEnd, b_bNext, b_bHyphen, b_least, b_before, b_way, b_lFrom, b_lTo, b_lNumber, b_lParagraph, b_lPage, b_lHyphen, b_lLast, b_best) v1 v2 := by
  have E := F.2.2.2.2.2
  have K := M.2.2.2.2.2.2.2.2.2
  obtain ⟨H, hn, hnp⟩ := al_end E
  unfold wpY_line
  refine yw_set F M P hk hD (fun x1 x2 x3 x4 x5 x6 x7 y1 y2 y3 y4 y5 y6 y7 y8 y9 y10 y11 y12 z1 z2 z3 D => ?_)
  have n0 := h0 x1 x2 x3 x4 x5 x6 x7 y1 y2 y3 y4 y5 y6 y7 y8 y9 y10 y11 y12 z1 z2 z3
  refine br_c (fun g => n0 (fun p w h => ?_) D) (fun g => br_c (fun g1 => n0 (fun p w h => ?_) D) (fun g1 => br_c (fun g2 => n0 (fun p w h => ?_) D) (fun g2 => br_c (fun g3 => ?_) (fun g3 => n0 (fun p w h => ?_) D))))
  · rw [h.1] at g
    have := h.2.1
    exact nI_pos (by omega) g
  · obtain ⟨⟨L1, -⟩, -⟩ := D
    have L1' : x1 = nI (al_n e) := L1
    rw [h.1, L1'] at g1
    exact nI_ge h.2.1 (by omega) g1
  · rw [h.2.2.1] at g2
    have := h.2.2.2
    exact nI_pos (by omega) g2
  · obtain ⟨p, hp, rfl⟩ := nI_of g
    obtain ⟨⟨L1, L2⟩, D2, D3, D4⟩ := id D
    have L1' : x1 = nI (al_n e) := L1
    rw [L1', nI_leI (by omega) hp] at g1
    have g1 : p < al_n e := by omega
    obtain ⟨w, hw, rfl⟩ := nI_of g2
    have hw6 : w ≤ 6 := (nI_leI (b := 6) hw (by omega)).mp g3
    have hv : vp_in (nI p) 48 := vp_in_nI (by omega) (by decide)
    have hcl : (nI p).toNatClampNeg = p := nI_clamp (by omega)
    obtain ⟨l1, l2, l3, l4, l5, l6⟩ := L2 p g1
    have hwb := li_wb E K.2.2.2.1 (H.1 p g1).1
    refine yw_difference (h_lineCount := x1) (b_lFrom := x2) (b_lTo := x3) (b_lNumber := x4) (b_lParagraph := x5) (b_lHyphen := x6) (b_lLast := x7) (g := al_g e) F M H hn D.1 g1 (fun gc gs go => ?_)
    have ans := h1 p w x1 x2 x3 x4 x5 x6 x7 y1 y2 (nI (li_w (al_g e p))) (nI (sh_ns e (li_f (al_g e p)) (li_t (al_g e p)))) gc gs go y8 y9 y10 y11 y12 z1 z2 z3 ⟨rfl, g1, rfl, hw6⟩ D
    rcases (show w = 0 ∨ w = 1 ∨ w = 2 ∨ w = 3 ∨ w = 4 ∨ w = 5 ∨ w = 6 by omega) with rfl | rfl | rfl | rfl | rfl | rfl | rfl
    · refine br_f (by decide) (br_f (by decide) (br_t rfl ⟨hv, ?_⟩))
      rw [hcl, l1]; exact ans
    · refine br_f (by decide) (br_f (by decide) (br_f (by decide) (br_t rfl ⟨hv, ?_⟩)))
      rw [hcl, l2]; exact ans
    · exact br_f (by decide) (br_f (by decide) (br_f (by decide) (br_f (by decide) (br_t rfl ans))))
    · refine br_f (by decide) (br_f (by decide) (br_f (by decide) (br_f (by decide) (br_f (by decide) (br_t rfl ⟨hv, ?_⟩)))))
      rw [hcl]
      refine yw_bd (h_spaces := nI (sh_ns e (li_f (al_g e p)) (li_t (al_g e p)))) M rfl l6 rfl hwb.1 hwb.2 (bq_tgb K _) ?_
      have hb := (H.1 p g1).1.2.2.2.2.2.2
      show post (bq_i (bq_c e (bq_tg e (li_n (al_g e p))) (li_w (al_g e p)) (sh_ns e (li_f (al_g e p)) (li_t (al_g e p))) (li_l (al_g e p)))) _
      rw [← hb]
      exact ans
    · refine br_f (by decide) (br_f (by decide) (br_f (by decide) (br_f (by decide) (br_f (by decide) (br_f (by decide) (br_t rfl ⟨hv, ?_⟩))))))
      rw [hcl]
      exact bl_ans (P := fun x => post x (h_length, h_ligatures, h_patterns, h_firstWide, h_restWide, h_firstLines, h_spaceWide, h_stretch, h_shrink, h_tolerance, h_cost, h_height, bl_i true, gc, y9, nI (li_w (al_g e p)), nI (sh_ns e (li_f (al_g e p)) (li_t (al_g e p))), x1, z1, b_text, b_wide, b_joined, b_kerns, b_patA, b_patB, b_patC, b_patDigits, gs, go, y10, y11, y12, y1, y2, y8, x2, x3, x4, x5, z2, x6, x7, z3)) l5 ans
    · refine br_f (by decide) (br_f (by decide) (br_f (by decide) (br_f (by decide) (br_f (by decide) (br_f (by decide) (br_f (by decide) (br_t rfl ⟨hv, ?_⟩)))))))
      rw [hcl, l4]; exact ans
    · refine br_f (by decide) (br_t (by decide) ⟨hv, ?_⟩)
      rw [hcl, D2 p g1]; exact ans
  · rw [h.2.2.1] at g3
    exact g3 (nI_le (b := 6) h.2.2.2 (by omega))
theorem al_line (E : gv_okF e) {i : Nat} (h : gv_isL e i) : ∃ p w t, p < al_n e ∧ li_f (al_g e p) ≤ i ∧ i < li_t (al_g e p) ∧ wp_ok e (li_f (al_g e p)) (li_t (al_g e p)) i w t := by
  obtain ⟨H, hn, hnp⟩ := al_end E
  obtain ⟨p, p1, p2, p3⟩ := H.2.2.2 i (by have := h.1; omega) h
  obtain ⟨w, t, W⟩ := wp_ex p2 p3 h.2
  exact ⟨p, w, t, p1, p2, p3, W⟩
theorem xw_lineOf {post : Int32 → SX → Prop} {v1 : Int32} {kn : Bool} (F : ex_F e f_length a_text a_wide a_join a_kerns) (M : ex_M e f_first f_rest f_narrow f_gap f_stretch f_shrink f_tolerance f_cost f_height) (T : tr_if e a_child a_digits) (hk : f_known = bl_i kn) (hD : kn = true → ex_D e f_lines f_paragraphs a_lineFrom a_lineTo a_linePart a_linePage a_lineWide a_lineBad a_lineHyphen a_sums)
    (h0 : (∀ i, v1 = nI i → i < 2 ^ 31 → ¬ gv_isL e i) → post (-1) (f_length, f_known, f_joins, f_patterns, f_first, f_rest, f_narrow, f_gap, f_stretch, f_shrink, f_tolerance, f_cost, f_height, f_breaks, f_lines, f_paragraphs, a_text, a_allowed, a_counts, a_wide, a_join, a_kerns, a_child, a_digits, a_uses, a_ends, a_begins, a_hyphened, a_least, a_before, a_natural, a_spaces, a_way, a_lineFrom, a_lineTo, a_linePart, a_linePage, a_lineWide, a_lineBad, a_lineHyphen, a_sums))
    (h1 : ∀ i p w t x2 x3 x4 y1 y2 y3 y4 y5 y6 y7 y8 y9 y10 z1 z2 z3 z4 z5 z6 z7 z8, v1 = nI i → gv_isL e i → p < al_n e → li_f (al_g e p) ≤ i → i < li_t (al_g e p) → wp_ok e (li_f (al_g e p)) (li_t (al_g e p)) i w t → ex_D e x3 x4 z1 z2 z3 z4 z5 z6 z7 z8 → post (nI p) (f_length, bl_i true, f_joins, f_patterns, f_first, f_rest, f_narrow, f_gap, f_stretch, f_shrink, f_tolerance, f_cost, f_height, x2, x3, x4, a_text, y1, y2, a_wide, a_join, a_kerns, a_child, a_digits, a_uses, y3, y4, y5, y6, y7, y8, y9, y10, z1, z2, z3, z4, z5, z6, z7, z8)) : wpX_lineOf post (f_length, f_known, f_joins, f_patterns, f_first, f_rest, f_narrow, f_gap, f_stretch, f_shrink, f_tolerance, f_cost, f_height, f_breaks, f_lines, f_paragraphs, a_text, a_allowed, a_counts, a_wide, a_join, a_kerns, a_child, a_digits, a_uses, a_ends, a_begins, a_hyphened, a_least, a_before, a_natural, a_spaces, a_way, a_lineFrom, a_lineTo, a_linePart, a_linePage, a_lineWide, a_lineBad, a_lineHyphen, a_sums) v1 := by
  have E := F.2.2.2.2.2
  have h48 := E.1
  obtain ⟨H, hn, hnp⟩ := al_end E
  unfold wpX_lineOf
  rcases iw_cases v1 with hneg | ⟨i, hi, rfl⟩
  · refine xw_ltn hneg (br_t rfl (h0 (fun i h hi2 => ?_)))
    rw [h] at hneg
    exact fun _ => nI_pos hi2 hneg
  · refine xw_lt F hi (fun y => br_f (by decide) ?_) (fun y => br_t rfl (h0 (fun i' h hi2 => ?_)))
    · obtain ⟨p, w, t, p1, p2, p3, W⟩ := al_line E y
      refine xw_know F M T hk hD (fun x2 x3 x4 y1 y2 y3 y4 y5 y6 y7 y8 y9 y10 z1 z2 z3 z4 z5 z6 z7 z8 D => ⟨p + 1, ?_⟩)
      exact xw_lo16 (f_lines := x3) (a_lineFrom := z1) (a_lineTo := z2) (a_linePart := z3) (a_lineWide := z5) (a_lineBad := z6) (a_lineHyphen := z7) (g := al_g e) H hn h48 (by have := y.1; omega) D.1 p1 p2 p3 (h1 i p w t x2 x3 x4 y1 y2 y3 y4 y5 y6 y7 y8 y9 y10 z1 z2 z3 z4 z5 z6 z7 z8 rfl y p1 p2 p3 W D) p _ 0 (by omega) (by omega)
    · have : i = i' := (nI_eq hi hi2).mp h
      rw [← this]; exact y
/-- the line and the part of the word that a letter lies in are determined -/
theorem al_uni (E : gv_okF e) {i p p' w t w' t' : Nat} (h1 : p < al_n e) (h2 : li_f (al_g e p) ≤ i) (h3 : i < li_t (al_g e p)) (g1 : p' < al_n e) (g2 : li_f (al_g e p') ≤ i) (g3 : i < li_t (al_g e p')) : p = p' := by
  obtain ⟨H, hn, hnp⟩ := al_end E
  rcases Nat.lt_trichotomy p p' with y | y | y
  · have := li_mono H (p' - (p + 1)) p (by omega)
    rw [show p + 1 + (p' - (p + 1)) = p' from by omega] at this
    omega
  · exact y
  · have := li_mono H (p - (p' + 1)) p' (by omega)
    rw [show p' + 1 + (p - (p' + 1)) = p from by omega] at this
    omega
theorem yw_glyph {post : Int32 → SY → Prop} {v1 : Int32} {rd : Bool} (F : ey_F e h_length b_text b_wide b_joined b_kerns) (M : ey_M e h_firstWide h_restWide h_firstLines h_spaceWide h_stretch h_shrink h_tolerance h_cost h_height) (P : ey_P e h_patterns b_patA b_patB b_patC b_patDigits) (hk : h_ready = bl_i rd) (hD : rd = true → ey_D e h_lineCount h_paragraphs b_lFrom b_lTo b_lNumber b_lParagraph b_lPage b_lHyphen b_lLast b_best)
    (h0 : ∀ x1 x2 x3 x4 x5 x6 x7 y1 y2 y3 y4 y5 y6 y7 y8 y9 y10 y11 y12 z1 z2 z3, (∀ i, v1 = nI i → i < 2 ^ 31 → ¬ gv_isL e i) → ey_D e x1 z1 x2 x3 x4 x5 z2 x6 x7 z3 → post (-1) (h_length, h_ligatures, h_patterns, h_firstWide, h_restWide, h_firstLines, h_spaceWide, h_stretch, h_shrink, h_tolerance, h_cost, h_height, bl_i true, y5, y9, y3, y4, x1, z1, b_text, b_wide, b_joined, b_kerns, b_patA, b_patB, b_patC, b_patDigits, y6, y7, y10, y11, y12, y1, y2, y8, x2, x3, x4, x5, z2, x6, x7, z3))
    (h1 : ∀ i p w t x1 x2 x3 x4 x5 x6 x7 y1 y2 y3 y4 y5 y6 y7 y8 y9 y10 y11 y12 z1 z2 z3, v1 = nI i → gv_isL e i → p < al_n e → wp_ok e (li_f (al_g e p)) (li_t (al_g e p)) i w t → ey_D e x1 z1 x2 x3 x4 x5 z2 x6 x7 z3 → post (sh_hd (wp_C e i w t)) (h_length, h_ligatures, h_patterns, h_firstWide, h_restWide, h_firstLines, h_spaceWide, h_stretch, h_shrink, h_tolerance, h_cost, h_height, bl_i true, y5, y9, y3, y4, x1, z1, b_text, b_wide, b_joined, b_kerns, b_patA, b_patB, b_patC, b_patDigits, y6, y7, y10, y11, y12, y1, y2, y8, x2, x3, x4, x5, z2, x6, x7, z3)) : wpY_glyph post (h_length, h_ligatures, h_patterns, h_firstWide, h_restWide, h_firstLines, h_spaceWide, h_stretch, h_shrink, h_tolerance, h_cost, h_height, h_ready, h_glyphCount, h_breaks, h_natural, h_spaces, h_lineCount, h_paragraphs, b_text, b_wide, b_joined, b_kerns, b_patA, b_patB, b_patC, b_patDigits, b_glyphs, b_glyphOf, b_bEnd, b_bNext, b_bHyphen, b_least, b_before, b_way, b_lFrom, b_lTo, b_lNumber, b_lParagraph, b_lPage, b_lHyphen, b_lLast, b_best) v1 := by
  have E := F.2.2.2.2.2
  have h48 := E.1
  obtain ⟨H, hn, hnp⟩ := al_end E
  unfold wpY_glyph
  refine yw_set F M P hk hD (fun x1 x2 x3 x4 x5 x6 x7 y1 y2 y3 y4 y5 y6 y7 y8 y9 y10 y11 y12 z1 z2 z3 D => ?_)
  rcases iw_cases v1 with hneg | ⟨i, hi, rfl⟩
  · refine yw_ltn hneg (br_t rfl (h0 x1 x2 x3 x4 x5 x6 x7 y1 y2 y3 y4 y5 y6 y7 y8 y9 y10 y11 y12 z1 z2 z3 (fun i h hi2 => ?_) D))
    rw [h] at hneg
    exact fun _ => nI_pos hi2 hneg
  · refine yw_lt F hi (fun y => br_f (by decide) ?_) (fun y => br_t rfl (h0 x1 x2 x3 x4 x5 x6 x7 y1 y2 y3 y4 y5 y6 y7 y8 y9 y10 y11 y12 z1 z2 z3 (fun i' h hi2 => ?_) D))
    · obtain ⟨p, w, t, p1, p2, p3, W⟩ := al_line E y
      have yl := y.1
      refine yw_lineOf (h_lineCount := x1) (b_lFrom := x2) (b_lTo := x3) (b_lNumber := x4) (b_lParagraph := x5) (b_lHyphen := x6) (b_lLast := x7) (g := al_g e) H hn h48 (by omega) D.1 p1 p2 p3 ?_
      refine yw_shapeAt (h_lineCount := x1) (b_lFrom := x2) (b_lTo := x3) (b_lNumber := x4) (b_lParagraph := x5) (b_lHyphen := x6) (b_lLast := x7) (g := al_g e) F H hn D.1 p1 W (fun gs go g1 g2 => ?_)
      obtain ⟨A, g0, r0, a1, a2, a3, a4, a5⟩ := wp_arr (k := p) E W g1 g2
      have hlen := wp_len W
      rw [a1] at hlen
      obtain ⟨o1, o2, -⟩ := (H.1 p p1).1
      obtain ⟨w1, w2, w3, w4, -⟩ := id W
      have hlr : r0.length < 48 := by simp at hlen; omega
      dsimp only
      rw [nI_clamp (n := i) (by omega), a3, nI_clamp (n := r0.length) (by omega), a4]
      refine ⟨vp_in_nI (by omega) (by decide), vp_in_nI hlr (by decide), ?_⟩
      have := h1 i p w t x1 x2 x3 x4 x5 x6 x7 y1 y2 y3 y4 (nI (sh_gl e w (t - w)).length) gs go y8 y9 y10 y11 y12 z1 z2 z3 rfl y p1 W D
      rw [a2] at this
      exact this
    · have : i = i' := (nI_eq hi hi2).mp h
      rw [← this]; exact y
theorem wp_uni {f l i w t w' t' : Nat} (W : wp_ok e f l i w t) (W' : wp_ok e f l i w' t') : w = w' ∧ t = t' := by
  obtain ⟨a1, a2, a3, a4, a5, a6, a7⟩ := W
  obtain ⟨b1, b2, b3, b4, b5, b6, b7⟩ := W'
  constructor
  · rcases Nat.lt_trichotomy w w' with y | y | y
    · rcases b6 with b6 | ⟨j, j1, j2⟩
      · omega
      · exact absurd (a5 j (by omega) (by omega)) j2
    · exact y
    · rcases a6 with a6 | ⟨j, j1, j2⟩
      · omega
      · exact absurd (b5 j (by omega) (by omega)) j2
  · rcases Nat.lt_trichotomy t t' with y | y | y
    · rcases a7 with a7 | a7
      · omega
      · exact absurd (b5 t (by omega) y) a7
    · exact y
    · rcases b7 with b7 | b7
      · omega
      · exact absurd (a5 t' (by omega) y) b7
/-- all determined -/
theorem wp_all (E : gv_okF e) {i p p' w t w' t' : Nat} (h1 : p < al_n e) (W : wp_ok e (li_f (al_g e p)) (li_t (al_g e p)) i w t) (g1 : p' < al_n e) (W' : wp_ok e (li_f (al_g e p')) (li_t (al_g e p')) i w' t') : p = p' ∧ w = w' ∧ t = t' := by
  have e1 : p = p' := al_uni (w := w) (t := t) (w' := w') (t' := t') E h1 (Nat.le_trans W.1 W.2.1) (Nat.lt_of_lt_of_le W.2.2.1 W.2.2.2.1) g1 (Nat.le_trans W'.1 W'.2.1) (Nat.lt_of_lt_of_le W'.2.2.1 W'.2.2.2.1)
  subst e1
  exact ⟨rfl, wp_uni W W'⟩
noncomputable def qv_P (e : gv_T) (i p w t : Nat) : Int32 := nI (sh_at e (li_f (al_g e p)) w).1 + sh_pv e (wp_C e i w t) + sh_ex (sh_xt (bq_tg e (li_n (al_g e p))) (li_w (al_g e p)) (sh_ns e (li_f (al_g e p)) (li_t (al_g e p))) (gv_sk e) (li_l (al_g e p))) (sh_ns e (li_f (al_g e p)) (li_t (al_g e p))) (sh_at e (li_f (al_g e p)) w).2.1
theorem yw_position {post : Int32 → SY → Prop} {v1 : Int32} {rd : Bool} (F : ey_F e h_length b_text b_wide b_joined b_kerns) (M : ey_M e h_firstWide h_restWide h_firstLines h_spaceWide h_stretch h_shrink h_tolerance h_cost h_height) (P : ey_P e h_patterns b_patA b_patB b_patC b_patDigits) (hk : h_ready = bl_i rd) (hD : rd = true → ey_D e h_lineCount h_paragraphs b_lFrom b_lTo b_lNumber b_lParagraph b_lPage b_lHyphen b_lLast b_best)
    (h0 : ∀ x1 x2 x3 x4 x5 x6 x7 y1 y2 y3 y4 y5 y6 y7 y8 y9 y10 y11 y12 z1 z2 z3, (∀ i, v1 = nI i → i < 2 ^ 31 → ¬ gv_isL e i) → ey_D e x1 z1 x2 x3 x4 x5 z2 x6 x7 z3 → post (-1) (h_length, h_ligatures, h_patterns, h_firstWide, h_restWide, h_firstLines, h_spaceWide, h_stretch, h_shrink, h_tolerance, h_cost, h_height, bl_i true, y5, y9, y3, y4, x1, z1, b_text, b_wide, b_joined, b_kerns, b_patA, b_patB, b_patC, b_patDigits, y6, y7, y10, y11, y12, y1, y2, y8, x2, x3, x4, x5, z2, x6, x7, z3))
    (h1 : ∀ i p w t x1 x2 x3 x4 x5 x6 x7 y1 y2 y3 y4 y5 y6 y7 y8 y9 y10 y11 y12 z1 z2 z3, v1 = nI i → gv_isL e i → p < al_n e → wp_ok e (li_f (al_g e p)) (li_t (al_g e p)) i w t → ey_D e x1 z1 x2 x3 x4 x5 z2 x6 x7 z3 → post (qv_P e i p w t) (h_length, h_ligatures, h_patterns, h_firstWide, h_restWide, h_firstLines, h_spaceWide, h_stretch, h_shrink, h_tolerance, h_cost, h_height, bl_i true, y5, y9, y3, y4, x1, z1, b_text, b_wide, b_joined, b_kerns, b_patA, b_patB, b_patC, b_patDigits, y6, y7, y10, y11, y12, y1, y2, y8, x2, x3, x4, x5, z2, x6, x7, z3)) : wpY_position post (h_length, h_ligatures, h_patterns, h_firstWide, h_restWide, h_firstLines, h_spaceWide, h_stretch, h_shrink, h_tolerance, h_cost, h_height, h_ready, h_glyphCount, h_breaks, h_natural, h_spaces, h_lineCount, h_paragraphs, b_text, b_wide, b_joined, b_kerns, b_patA, b_patB, b_patC, b_patDigits, b_glyphs, b_glyphOf, b_bEnd, b_bNext, b_bHyphen, b_least, b_before, b_way, b_lFrom, b_lTo, b_lNumber, b_lParagraph, b_lPage, b_lHyphen, b_lLast, b_best) v1 := by
  have E := F.2.2.2.2.2
  have K := M.2.2.2.2.2.2.2.2.2
  have h48 := E.1
  obtain ⟨H, hn, hnp⟩ := al_end E
  unfold wpY_position
  refine yw_set F M P hk hD (fun x1 x2 x3 x4 x5 x6 x7 y1 y2 y3 y4 y5 y6 y7 y8 y9 y10 y11 y12 z1 z2 z3 D => ?_)
  rcases iw_cases v1 with hneg | ⟨i, hi, rfl⟩
  · refine yw_ltn hneg (br_t rfl (h0 x1 x2 x3 x4 x5 x6 x7 y1 y2 y3 y4 y5 y6 y7 y8 y9 y10 y11 y12 z1 z2 z3 (fun i h hi2 => ?_) D))
    rw [h] at hneg
    exact fun _ => nI_pos hi2 hneg
  · refine yw_lt F hi (fun y => br_f (by decide) ?_) (fun y => br_t rfl (h0 x1 x2 x3 x4 x5 x6 x7 y1 y2 y3 y4 y5 y6 y7 y8 y9 y10 y11 y12 z1 z2 z3 (fun i' h hi2 => ?_) D))
    · obtain ⟨p, w, t, p1, p2, p3, W⟩ := al_line E y
      have yl := y.1
      have hwb := li_wb E K.2.2.2.1 (H.1 p p1).1
      have htg := bq_tgb K (li_n (al_g e p))
      have hlast : x7 p = bl_i (li_l (al_g e p)) := (D.1.2 p p1).2.2.2.2.2
      have hsk : sh_ns e (li_f (al_g e p)) (li_t (al_g e p)) * gv_sk e ≤ 48 * 20 := Nat.mul_le_mul hwb.2 (by have := K.2.2.2.2.2.1; have := K.2.2.2.1; omega)
      refine yw_lineOf (h_lineCount := x1) (b_lFrom := x2) (b_lTo := x3) (b_lNumber := x4) (b_lParagraph := x5) (b_lHyphen := x6) (b_lLast := x7) (g := al_g e) H hn h48 (by omega) D.1 p1 p2 p3 ?_
      refine yw_difference (h_lineCount := x1) (b_lFrom := x2) (b_lTo := x3) (b_lNumber := x4) (b_lParagraph := x5) (b_lHyphen := x6) (b_lLast := x7) (g := al_g e) F M H hn D.1 p1 (fun gc gs go => ?_)
      have k77 : ∀ z0 : Int32, z0 = sh_xt (bq_tg e (li_n (al_g e p))) (li_w (al_g e p)) (sh_ns e (li_f (al_g e p)) (li_t (al_g e p))) (gv_sk e) (li_l (al_g e p)) → wY_position_77 post (nI i) (nI p) (nI (sh_ns e (li_f (al_g e p)) (li_t (al_g e p)))) z0 h_length h_ligatures h_patterns h_firstWide h_restWide h_firstLines h_spaceWide h_stretch h_shrink h_tolerance h_cost h_height (bl_i true) gc y9 (nI (li_w (al_g e p))) (nI (sh_ns e (li_f (al_g e p)) (li_t (al_g e p)))) x1 z1 b_text b_wide b_joined b_kerns b_patA b_patB b_patC b_patDigits gs go y10 y11 y12 y1 y2 y8 x2 x3 x4 x5 z2 x6 x7 z3 := by
        intro z0 hz0
        subst hz0
        refine yw_posv (h_lineCount := x1) (b_lFrom := x2) (b_lTo := x3) (b_lNumber := x4) (b_lParagraph := x5) (b_lHyphen := x6) (b_lLast := x7) (g := al_g e) F M H hn D.1 p1 W (fun nat' spc' gc2 gs2 go2 => ?_)
        exact h1 i p w t x1 x2 x3 x4 x5 x6 x7 y1 y2 nat' spc' gc2 gs2 go2 y8 y9 y10 y11 y12 z1 z2 z3 rfl y p1 W D
      dsimp only
      have hneg : (-(nI (sh_ns e (li_f (al_g e p)) (li_t (al_g e p))))) * h_shrink = -(nI (sh_ns e (li_f (al_g e p)) (li_t (al_g e p)) * gv_sk e)) := by
        rw [M.2.2.2.2.2.1, ← pk_mul]; grind
      rcases Nat.lt_or_ge (li_w (al_g e p)) (bq_tg e (li_n (al_g e p))) with c | c
      · have ed : nI (bq_tg e (li_n (al_g e p))) - nI (li_w (al_g e p)) = nI (bq_tg e (li_n (al_g e p)) - li_w (al_g e p)) := pk_sub (Nat.le_of_lt c)
        rw [ed]
        refine br_f (nI_nle (by omega) (by omega)) ⟨vp_in_nI (by omega) (by decide), ?_⟩
        rw [nI_clamp (n := p) (by omega)]
        refine bl_br hlast (fun y1 => k77 _ ?_) (fun y1 => k77 _ ?_)
        · unfold sh_xt; rw [if_pos c, y1]; rfl
        · unfold sh_xt; rw [if_pos c, y1]; rfl
      · have ed := nI_neg c
        rw [ed, hneg]
        refine br_t ?_ (ek_if (sb_nle (by omega) (by omega)) (fun y1 => k77 _ ?_) (fun y1 => k77 _ ?_))
        · rw [il_le, sb_negT (by omega)]
          show _ ≤ (0 : Int)
          omega
        · unfold sh_xt
          rw [if_neg (by omega)]
          by_cases c2 : li_w (al_g e p) - bq_tg e (li_n (al_g e p)) ≤ sh_ns e (li_f (al_g e p)) (li_t (al_g e p)) * gv_sk e
          · rw [if_pos c2, show li_w (al_g e p) - bq_tg e (li_n (al_g e p)) = sh_ns e (li_f (al_g e p)) (li_t (al_g e p)) * gv_sk e from by omega]
          · rw [if_neg c2]
        · unfold sh_xt
          rw [if_neg (by omega), if_pos (by omega)]
    · have : i = i' := (nI_eq hi hi2).mp h
      rw [← this]; exact y
end
end
section
/-! the owed statements on the questions -/

theorem i_vc_span {k : Nat} {u : SX} {v : SY} (I : i_Rel k u v) (hk : k + 5 ≤ 2560) (v1 : Int32) (v2 : Int32) : wpX_span (fun r => wpY_span (fun r' v' => r' = r ∧ i_Rel (k + 5) u v') v v1 v2) u v1 v2 := by
  refine zz_el (P := fun u v => wpX_span (fun r => wpY_span (fun r' v' => r' = r ∧ i_Rel (k + 5) u v') v v1 v2) u v1 v2) I (fun e kn rd f_length f_known f_joins f_patterns f_first f_rest f_narrow f_gap f_stretch f_shrink f_tolerance f_cost f_height f_breaks f_lines f_paragraphs a_text a_allowed a_counts a_wide a_join a_kerns a_child a_digits a_uses a_ends a_begins a_hyphened a_before a_natural a_spaces a_way a_lineFrom a_lineTo a_linePart a_linePage a_lineWide a_lineBad a_lineHyphen a_least a_sums h_length h_ligatures h_patterns h_firstWide h_restWide h_firstLines h_spaceWide h_stretch h_shrink h_tolerance h_cost h_height h_ready h_glyphCount h_breaks h_natural h_spaces h_lineCount h_paragraphs b_text b_wide b_joined b_kerns b_patA b_patB b_patC b_patDigits b_glyphs b_glyphOf b_bEnd b_bNext b_bHyphen b_before b_way b_lFrom b_lTo b_lNumber b_lParagraph b_lPage b_lHyphen b_lLast b_least b_best F M T F' M' Q J hk' D hr D' => ?_)
  refine xw_span F (fun f t h => yw_span F' (fun f' t' gc gs go h' => ⟨?_, zz_mk e kn rd F M T F' M' Q (zz_J5 J) hk' D hr D'⟩) (fun g => absurd h (g f t))) (fun g => yw_span F' (fun f t gc gs go h => absurd h (g f t)) (fun _ => ⟨rfl, zz_mk e kn rd F M T F' M' Q (zz_J5 J) hk' D hr D'⟩))
  have h48 := F.2.2.2.2.2.1
  obtain ⟨a1, a2, a3, a4, -⟩ := h
  obtain ⟨b1, b2, b3, b4, -⟩ := h'
  have e1 : f' = f := (nI_eq (by omega) (by omega)).mp (b1.symm.trans a1)
  have e2 : t' = t := (nI_eq (by omega) (by omega)).mp (b2.symm.trans a2)
  rw [e1, e2]
theorem i_vc_hyphen {k : Nat} {u : SX} {v : SY} (I : i_Rel k u v) (hk : k + 5 ≤ 2560) (v1 : Int32) : wpX_hyphen (fun r u' => wpY_hyphen (fun r' => r' = r ∧ i_Rel (k + 5) u' v) v v1) u v1 := by
  refine zz_el (P := fun u v => wpX_hyphen (fun r u' => wpY_hyphen (fun r' => r' = r ∧ i_Rel (k + 5) u' v) v v1) u v1) I (fun e kn rd f_length f_known f_joins f_patterns f_first f_rest f_narrow f_gap f_stretch f_shrink f_tolerance f_cost f_height f_breaks f_lines f_paragraphs a_text a_allowed a_counts a_wide a_join a_kerns a_child a_digits a_uses a_ends a_begins a_hyphened a_before a_natural a_spaces a_way a_lineFrom a_lineTo a_linePart a_linePage a_lineWide a_lineBad a_lineHyphen a_least a_sums h_length h_ligatures h_patterns h_firstWide h_restWide h_firstLines h_spaceWide h_stretch h_shrink h_tolerance h_cost h_height h_ready h_glyphCount h_breaks h_natural h_spaces h_lineCount h_paragraphs b_text b_wide b_joined b_kerns b_patA b_patB b_patC b_patDigits b_glyphs b_glyphOf b_bEnd b_bNext b_bHyphen b_before b_way b_lFrom b_lTo b_lNumber b_lParagraph b_lPage b_lHyphen b_lLast b_least b_best F M T F' M' Q J hk' D hr D' => ?_)
  refine xw_hyphen F (tr_iff T) (fun g => ?_) (fun i al co e1 hl => ?_)
  · have same : i_Rel (k + 5) (f_length, f_known, f_joins, f_patterns, f_first, f_rest, f_narrow, f_gap, f_stretch, f_shrink, f_tolerance, f_cost, f_height, f_breaks, f_lines, f_paragraphs, a_text, a_allowed, a_counts, a_wide, a_join, a_kerns, a_child, a_digits, a_uses, a_ends, a_begins, a_hyphened, a_least, a_before, a_natural, a_spaces, a_way, a_lineFrom, a_lineTo, a_linePart, a_linePage, a_lineWide, a_lineBad, a_lineHyphen, a_sums) (h_length, h_ligatures, h_patterns, h_firstWide, h_restWide, h_firstLines, h_spaceWide, h_stretch, h_shrink, h_tolerance, h_cost, h_height, h_ready, h_glyphCount, h_breaks, h_natural, h_spaces, h_lineCount, h_paragraphs, b_text, b_wide, b_joined, b_kerns, b_patA, b_patB, b_patC, b_patDigits, b_glyphs, b_glyphOf, b_bEnd, b_bNext, b_bHyphen, b_least, b_before, b_way, b_lFrom, b_lTo, b_lNumber, b_lParagraph, b_lPage, b_lHyphen, b_lLast, b_best) := zz_mk e kn rd F M T F' M' Q (zz_J5 J) hk' D hr D'
    rcases iw_cases v1 with hneg | ⟨i, hi, rfl⟩
    · unfold wpY_hyphen
      exact yw_ltn hneg (br_t rfl ⟨rfl, same⟩)
    · have := g i rfl hi
      refine yw_hyphen F' Q hi ⟨?_, same⟩
      rw [hy_b_f.mpr (fun z => this (hy_at_l z).1)]; rfl
  · subst e1
    have h48 := F.2.2.2.2.2.1
    have hl1 := hl.1
    exact yw_hyphen F' Q (by omega) ⟨rfl, zz_mk e kn rd F M T F' M' Q (zz_J5 J) hk' D hr D'⟩
theorem i_vc_lines {k : Nat} {u : SX} {v : SY} (I : i_Rel k u v) (hk : k + 5 ≤ 2560) : wpX_lines (fun r u' => wpY_lines (fun r' v' => r' = r ∧ i_Rel (k + 5) u' v') v) u := by
  refine zz_el (P := fun u v => wpX_lines (fun r u' => wpY_lines (fun r' v' => r' = r ∧ i_Rel (k + 5) u' v') v) u) I (fun e kn rd f_length f_known f_joins f_patterns f_first f_rest f_narrow f_gap f_stretch f_shrink f_tolerance f_cost f_height f_breaks f_lines f_paragraphs a_text a_allowed a_counts a_wide a_join a_kerns a_child a_digits a_uses a_ends a_begins a_hyphened a_before a_natural a_spaces a_way a_lineFrom a_lineTo a_linePart a_linePage a_lineWide a_lineBad a_lineHyphen a_least a_sums h_length h_ligatures h_patterns h_firstWide h_restWide h_firstLines h_spaceWide h_stretch h_shrink h_tolerance h_cost h_height h_ready h_glyphCount h_breaks h_natural h_spaces h_lineCount h_paragraphs b_text b_wide b_joined b_kerns b_patA b_patB b_patC b_patDigits b_glyphs b_glyphOf b_bEnd b_bNext b_bHyphen b_before b_way b_lFrom b_lTo b_lNumber b_lParagraph b_lPage b_lHyphen b_lLast b_least b_best F M T F' M' Q J hk' D hr D' => ?_)
  unfold wpX_lines
  refine xw_know F M (tr_iff T) hk' D (fun x2 x3 x4 y1 y2 y3 y4 y5 y6 y7 y8 y9 y10 z1 z2 z3 z4 z5 z6 z7 z8 D1 => ?_)
  unfold wpY_lines
  refine yw_set F' M' Q hr D' (fun x1' x2' x3' x4' x5' x6' x7' y1' y2' y3' y4' y5' y6' y7' y8' y9' y10' y11' y12' z1' z2' z3' D2 => ?_)
  exact ⟨D2.1.1.trans D1.1.1.symm, zz_mk e true true F M T F' M' Q (zz_J5 J) rfl (fun _ => D1) rfl (fun _ => D2)⟩
theorem i_vc_line {k : Nat} {u : SX} {v : SY} (I : i_Rel k u v) (hk : k + 5 ≤ 2560) (v1 : Int32) (v2 : Int32) : wpX_line (fun r u' => wpY_line (fun r' v' => r' = r ∧ i_Rel (k + 5) u' v') v v1 v2) u v1 v2 := by
  refine zz_el (P := fun u v => wpX_line (fun r u' => wpY_line (fun r' v' => r' = r ∧ i_Rel (k + 5) u' v') v v1 v2) u v1 v2) I (fun e kn rd f_length f_known f_joins f_patterns f_first f_rest f_narrow f_gap f_stretch f_shrink f_tolerance f_cost f_height f_breaks f_lines f_paragraphs a_text a_allowed a_counts a_wide a_join a_kerns a_child a_digits a_uses a_ends a_begins a_hyphened a_before a_natural a_spaces a_way a_lineFrom a_lineTo a_linePart a_linePage a_lineWide a_lineBad a_lineHyphen a_least a_sums h_length h_ligatures h_patterns h_firstWide h_restWide h_firstLines h_spaceWide h_stretch h_shrink h_tolerance h_cost h_height h_ready h_glyphCount h_breaks h_natural h_spaces h_lineCount h_paragraphs b_text b_wide b_joined b_kerns b_patA b_patB b_patC b_patDigits b_glyphs b_glyphOf b_bEnd b_bNext b_bHyphen b_before b_way b_lFrom b_lTo b_lNumber b_lParagraph b_lPage b_lHyphen b_lLast b_least b_best F M T F' M' Q J hk' D hr D' => ?_)
  refine xw_line F M (tr_iff T) hk' D (fun x2 x3 x4 y1 y2 y3 y4 y5 y6 y7 y8 y9 y10 z1 z2 z3 z4 z5 z6 z7 z8 g D1 => ?_) (fun p w x2 x3 x4 y1 y2 y3 y4 y5 y6 y7 y8 y9 y10 z1 z2 z3 z4 z5 z6 z7 z8 h D1 => ?_)
  · exact yw_line F' M' Q hr D' (fun x1' x2' x3' x4' x5' x6' x7' y1' y2' y3' y4' y5' y6' y7' y8' y9' y10' y11' y12' z1' z2' z3' _ D2 => ⟨rfl, zz_mk e true true F M T F' M' Q (zz_J5 J) rfl (fun _ => D1) rfl (fun _ => D2)⟩) (fun p w x1' x2' x3' x4' x5' x6' x7' y1' y2' y3' y4' y5' y6' y7' y8' y9' y10' y11' y12' z1' z2' z3' h D2 => absurd h (g p w))
  · refine yw_line F' M' Q hr D' (fun x1' x2' x3' x4' x5' x6' x7' y1' y2' y3' y4' y5' y6' y7' y8' y9' y10' y11' y12' z1' z2' z3' g D2 => absurd h (g p w)) (fun p' w' x1' x2' x3' x4' x5' x6' x7' y1' y2' y3' y4' y5' y6' y7' y8' y9' y10' y11' y12' z1' z2' z3' h' D2 => ⟨?_, zz_mk e true true F M T F' M' Q (zz_J5 J) rfl (fun _ => D1) rfl (fun _ => D2)⟩)
    obtain ⟨H, hn, hnp⟩ := al_end F.2.2.2.2.2
    obtain ⟨a1, a2, a3, a4⟩ := h
    obtain ⟨b1, b2, b3, b4⟩ := h'
    have e1 : p' = p := (nI_eq (by omega) (by omega)).mp (b1.symm.trans a1)
    have e2 : w' = w := (nI_eq (by omega) (by omega)).mp (b3.symm.trans a3)
    rw [e1, e2]
theorem i_vc_glyph {k : Nat} {u : SX} {v : SY} (I : i_Rel k u v) (hk : k + 5 ≤ 2560) (v1 : Int32) : wpX_glyph (fun r u' => wpY_glyph (fun r' v' => r' = r ∧ i_Rel (k + 5) u' v') v v1) u v1 := by
  refine zz_el (P := fun u v => wpX_glyph (fun r u' => wpY_glyph (fun r' v' => r' = r ∧ i_Rel (k + 5) u' v') v v1) u v1) I (fun e kn rd f_length f_known f_joins f_patterns f_first f_rest f_narrow f_gap f_stretch f_shrink f_tolerance f_cost f_height f_breaks f_lines f_paragraphs a_text a_allowed a_counts a_wide a_join a_kerns a_child a_digits a_uses a_ends a_begins a_hyphened a_before a_natural a_spaces a_way a_lineFrom a_lineTo a_linePart a_linePage a_lineWide a_lineBad a_lineHyphen a_least a_sums h_length h_ligatures h_patterns h_firstWide h_restWide h_firstLines h_spaceWide h_stretch h_shrink h_tolerance h_cost h_height h_ready h_glyphCount h_breaks h_natural h_spaces h_lineCount h_paragraphs b_text b_wide b_joined b_kerns b_patA b_patB b_patC b_patDigits b_glyphs b_glyphOf b_bEnd b_bNext b_bHyphen b_before b_way b_lFrom b_lTo b_lNumber b_lParagraph b_lPage b_lHyphen b_lLast b_least b_best F M T F' M' Q J hk' D hr D' => ?_)
  have E := F.2.2.2.2.2
  have h48 := E.1
  obtain ⟨H, hn, hnp⟩ := al_end E
  unfold wpX_glyph
  refine xw_lineOf F M (tr_iff T) hk' D (fun g => ?_) (fun i p w t x2 x3 x4 y1 y2 y3 y4 y5 y6 y7 y8 y9 y10 z1 z2 z3 z4 z5 z6 z7 z8 e1 hl p1 p2 p3 W D1 => ?_)
  · exact br_f (by decide) (yw_glyph F' M' Q hr D' (fun x1' x2' x3' x4' x5' x6' x7' y1' y2' y3' y4' y5' y6' y7' y8' y9' y10' y11' y12' z1' z2' z3' _ D2 => ⟨rfl, zz_mk e kn true F M T F' M' Q (zz_J5 J) hk' D rfl (fun _ => D2)⟩) (fun i p w t x1' x2' x3' x4' x5' x6' x7' y1' y2' y3' y4' y5' y6' y7' y8' y9' y10' y11' y12' z1' z2' z3' e1 hl _ _ _ => absurd hl (g i e1 (by have := hl.1; omega))))
  · subst e1
    have hl1 := hl.1
    refine br_t (nI_pos' (by omega)) (xw_locate (as := true) (f_lines := x3) (a_lineFrom := z1) (a_lineTo := z2) (a_linePart := z3) (a_lineWide := z5) (a_lineBad := z6) (a_lineHyphen := z7) (g := al_g e) F M H hn hnp D1.1 p1 W ?_)
    refine yw_glyph F' M' Q hr D' (fun x1' x2' x3' x4' x5' x6' x7' y1' y2' y3' y4' y5' y6' y7' y8' y9' y10' y11' y12' z1' z2' z3' g _ => absurd hl (g i rfl (by omega))) (fun i' p' w' t' x1' x2' x3' x4' x5' x6' x7' y1' y2' y3' y4' y5' y6' y7' y8' y9' y10' y11' y12' z1' z2' z3' e1 _ q1 W' D2 => ⟨?_, zz_mk e true true F M T F' M' Q (zz_J5 J) rfl (fun _ => D1) rfl (fun _ => D2)⟩)
    have hi' : i' < 2 ^ 31 := by have := W'.2.2.1; have := W'.2.2.2.1; have := (H.1 p' q1).1.2.1; omega
    have ei : i' = i := ((nI_eq (by omega) hi').mp e1).symm
    subst ei
    obtain ⟨rfl, rfl, rfl⟩ := wp_all E p1 W q1 W'
    rfl
theorem i_vc_position {k : Nat} {u : SX} {v : SY} (I : i_Rel k u v) (hk : k + 5 ≤ 2560) (v1 : Int32) : wpX_position (fun r u' => wpY_position (fun r' v' => r' = r ∧ i_Rel (k + 5) u' v') v v1) u v1 := by
  refine zz_el (P := fun u v => wpX_position (fun r u' => wpY_position (fun r' v' => r' = r ∧ i_Rel (k + 5) u' v') v v1) u v1) I (fun e kn rd f_length f_known f_joins f_patterns f_first f_rest f_narrow f_gap f_stretch f_shrink f_tolerance f_cost f_height f_breaks f_lines f_paragraphs a_text a_allowed a_counts a_wide a_join a_kerns a_child a_digits a_uses a_ends a_begins a_hyphened a_before a_natural a_spaces a_way a_lineFrom a_lineTo a_linePart a_linePage a_lineWide a_lineBad a_lineHyphen a_least a_sums h_length h_ligatures h_patterns h_firstWide h_restWide h_firstLines h_spaceWide h_stretch h_shrink h_tolerance h_cost h_height h_ready h_glyphCount h_breaks h_natural h_spaces h_lineCount h_paragraphs b_text b_wide b_joined b_kerns b_patA b_patB b_patC b_patDigits b_glyphs b_glyphOf b_bEnd b_bNext b_bHyphen b_before b_way b_lFrom b_lTo b_lNumber b_lParagraph b_lPage b_lHyphen b_lLast b_least b_best F M T F' M' Q J hk' D hr D' => ?_)
  have E := F.2.2.2.2.2
  have h48 := E.1
  obtain ⟨H, hn, hnp⟩ := al_end E
  unfold wpX_position
  refine xw_lineOf F M (tr_iff T) hk' D (fun g => ?_) (fun i p w t x2 x3 x4 y1 y2 y3 y4 y5 y6 y7 y8 y9 y10 z1 z2 z3 z4 z5 z6 z7 z8 e1 hl p1 p2 p3 W D1 => ?_)
  · exact br_f (by decide) (yw_position F' M' Q hr D' (fun x1' x2' x3' x4' x5' x6' x7' y1' y2' y3' y4' y5' y6' y7' y8' y9' y10' y11' y12' z1' z2' z3' _ D2 => ⟨rfl, zz_mk e kn true F M T F' M' Q (zz_J5 J) hk' D rfl (fun _ => D2)⟩) (fun i p w t x1' x2' x3' x4' x5' x6' x7' y1' y2' y3' y4' y5' y6' y7' y8' y9' y10' y11' y12' z1' z2' z3' e1 hl _ _ _ => absurd hl (g i e1 (by have := hl.1; omega))))
  · subst e1
    have hl1 := hl.1
    refine br_t (nI_pos' (by omega)) (xw_locate (as := false) (f_lines := x3) (a_lineFrom := z1) (a_lineTo := z2) (a_linePart := z3) (a_lineWide := z5) (a_lineBad := z6) (a_lineHyphen := z7) (g := al_g e) F M H hn hnp D1.1 p1 W ?_)
    refine yw_position F' M' Q hr D' (fun x1' x2' x3' x4' x5' x6' x7' y1' y2' y3' y4' y5' y6' y7' y8' y9' y10' y11' y12' z1' z2' z3' g _ => absurd hl (g i rfl (by omega))) (fun i' p' w' t' x1' x2' x3' x4' x5' x6' x7' y1' y2' y3' y4' y5' y6' y7' y8' y9' y10' y11' y12' z1' z2' z3' e1 _ q1 W' D2 => ⟨?_, zz_mk e true true F M T F' M' Q (zz_J5 J) rfl (fun _ => D1) rfl (fun _ => D2)⟩)
    have hi' : i' < 2 ^ 31 := by have := W'.2.2.1; have := W'.2.2.2.1; have := (H.1 p' q1).1.2.1; omega
    have ei : i' = i := ((nI_eq (by omega) hi').mp e1).symm
    subst ei
    obtain ⟨rfl, rfl, rfl⟩ := wp_all E p1 W q1 W'
    rfl
theorem i_vc_demerits {k : Nat} {u : SX} {v : SY} (I : i_Rel k u v) (hk : k + 5 ≤ 2560) (v1 : Int32) : wpX_demerits (fun r u' => wpY_demerits (fun r' v' => r' = r ∧ i_Rel (k + 5) u' v') v v1) u v1 := by
  refine zz_el (P := fun u v => wpX_demerits (fun r u' => wpY_demerits (fun r' v' => r' = r ∧ i_Rel (k + 5) u' v') v v1) u v1) I (fun e kn rd f_length f_known f_joins f_patterns f_first f_rest f_narrow f_gap f_stretch f_shrink f_tolerance f_cost f_height f_breaks f_lines f_paragraphs a_text a_allowed a_counts a_wide a_join a_kerns a_child a_digits a_uses a_ends a_begins a_hyphened a_before a_natural a_spaces a_way a_lineFrom a_lineTo a_linePart a_linePage a_lineWide a_lineBad a_lineHyphen a_least a_sums h_length h_ligatures h_patterns h_firstWide h_restWide h_firstLines h_spaceWide h_stretch h_shrink h_tolerance h_cost h_height h_ready h_glyphCount h_breaks h_natural h_spaces h_lineCount h_paragraphs b_text b_wide b_joined b_kerns b_patA b_patB b_patC b_patDigits b_glyphs b_glyphOf b_bEnd b_bNext b_bHyphen b_before b_way b_lFrom b_lTo b_lNumber b_lParagraph b_lPage b_lHyphen b_lLast b_least b_best F M T F' M' Q J hk' D hr D' => ?_)
  obtain ⟨H, hn, hnp⟩ := al_end F.2.2.2.2.2
  unfold wpX_demerits
  refine xw_know F M (tr_iff T) hk' D (fun x2 x3 x4 y1 y2 y3 y4 y5 y6 y7 y8 y9 y10 z1 z2 z3 z4 z5 z6 z7 z8 D1 => ?_)
  have fin : ∀ (r : Int64), (∀ x1' x2' x3' x4' x5' x6' x7' z1' z2' z3', ey_D e x1' z1' x2' x3' x4' x5' z2' x6' x7' z3' → ((v1 < 0 → (-2 : Int64) = r) ∧ (¬ v1 < 0 → ((v1 < z1' → (vp_in v1 24 ∧ z3' v1.toNatClampNeg = r)) ∧ (¬ v1 < z1' → (-2 : Int64) = r))))) → wpY_demerits (fun r' v' => r' = r ∧ i_Rel (k + 5) (f_length, bl_i true, f_joins, f_patterns, f_first, f_rest, f_narrow, f_gap, f_stretch, f_shrink, f_tolerance, f_cost, f_height, x2, x3, x4, a_text, y1, y2, a_wide, a_join, a_kerns, a_child, a_digits, a_uses, y3, y4, y5, y6, y7, y8, y9, y10, z1, z2, z3, z4, z5, z6, z7, z8) v') (h_length, h_ligatures, h_patterns, h_firstWide, h_restWide, h_firstLines, h_spaceWide, h_stretch, h_shrink, h_tolerance, h_cost, h_height, h_ready, h_glyphCount, h_breaks, h_natural, h_spaces, h_lineCount, h_paragraphs, b_text, b_wide, b_joined, b_kerns, b_patA, b_patB, b_patC, b_patDigits, b_glyphs, b_glyphOf, b_bEnd, b_bNext, b_bHyphen, b_least, b_before, b_way, b_lFrom, b_lTo, b_lNumber, b_lParagraph, b_lPage, b_lHyphen, b_lLast, b_best) v1 := by
    intro r hr'
    unfold wpY_demerits
    refine yw_set F' M' Q hr D' (fun x1' x2' x3' x4' x5' x6' x7' y1' y2' y3' y4' y5' y6' y7' y8' y9' y10' y11' y12' z1' z2' z3' D2 => ?_)
    have rel : i_Rel (k + 5) (f_length, bl_i true, f_joins, f_patterns, f_first, f_rest, f_narrow, f_gap, f_stretch, f_shrink, f_tolerance, f_cost, f_height, x2, x3, x4, a_text, y1, y2, a_wide, a_join, a_kerns, a_child, a_digits, a_uses, y3, y4, y5, y6, y7, y8, y9, y10, z1, z2, z3, z4, z5, z6, z7, z8) (h_length, h_ligatures, h_patterns, h_firstWide, h_restWide, h_firstLines, h_spaceWide, h_stretch, h_shrink, h_tolerance, h_cost, h_height, bl_i true, y5', y9', y3', y4', x1', z1', b_text, b_wide, b_joined, b_kerns, b_patA, b_patB, b_patC, b_patDigits, y6', y7', y10', y11', y12', y1', y2', y8', x2', x3', x4', x5', z2', x6', x7', z3') := zz_mk e true true F M T F' M' Q (zz_J5 J) rfl (fun _ => D1) rfl (fun _ => D2)
    obtain ⟨c1, c2⟩ := hr' x1' x2' x3' x4' x5' x6' x7' z1' z2' z3' D2
    exact br_c (fun g => ⟨c1 g, rel⟩) (fun g => br_c (fun g1 => ⟨((c2 g).1 g1).1, ((c2 g).1 g1).2, rel⟩) (fun g1 => ⟨(c2 g).2 g1, rel⟩))
  have ex4 : x4 = nI (al_p e) := D1.2.2.1
  refine br_c (fun g => fin _ (fun x1' x2' x3' x4' x5' x6' x7' z1' z2' z3' D2 => ⟨fun _ => rfl, fun g1 => absurd g g1⟩)) (fun g => br_c (fun g1 => ?_) (fun g1 => fin _ (fun x1' x2' x3' x4' x5' x6' x7' z1' z2' z3' D2 => ⟨fun z => absurd z g, fun _ => ⟨fun z => ?_, fun _ => rfl⟩⟩)))
  · obtain ⟨p, hp, rfl⟩ := nI_of g
    rw [ex4, nI_ltI hp (by omega)] at g1
    have hv : vp_in (nI p) 24 := vp_in_nI (by omega) (by decide)
    refine ⟨hv, ?_⟩
    refine fin _ (fun x1' x2' x3' x4' x5' x6' x7' z1' z2' z3' D2 => ⟨fun z => absurd z g, fun _ => ⟨fun _ => ⟨hv, ?_⟩, fun z => ?_⟩⟩)
    · rw [nI_clamp (by omega), D2.2.2.2 p g1, D1.2.2.2 p g1]
    · have ez : z1' = nI (al_p e) := D2.2.2.1
      rw [ez, nI_ltI hp (by omega)] at z
      exact absurd g1 z
  · have ez : z1' = nI (al_p e) := D2.2.2.1
    rw [ez, ← ex4] at z
    exact absurd z g1
end
