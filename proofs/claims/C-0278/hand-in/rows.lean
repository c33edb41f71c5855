section
/-! pure rows to paste: stores, nI and lN arithmetic, masks, shifts, narrowing, branches by naturals (pk_le, pk_lt, pk_eq), loops (lp1 .. lp16: the measure of the state; rp1 ..: recursion), negatives. Take what you need -/
theorem pk_us {f : Nat → Int32} {k : Nat} {x : Int32} : upd f k x k = x := if_pos rfl
theorem pk_un {f : Nat → Int32} {k j : Nat} {x : Int32} (h : j ≠ k) : upd f k x j = f j := if_neg h
theorem pk_uLs {f : Nat → Int64} {k : Nat} {x : Int64} : vp_updL f k x k = x := if_pos rfl
theorem pk_uLn {f : Nat → Int64} {k j : Nat} {x : Int64} (h : j ≠ k) : vp_updL f k x j = f j := if_neg h
theorem pk_sub {a b : Nat} (h : b ≤ a) : nI a - nI b = nI (a - b) := by
  obtain ⟨c, rfl⟩ : ∃ c, a = c + b := ⟨a - b, by omega⟩
  rw [← nI_add, Int32.add_sub_cancel, Nat.add_sub_cancel]
theorem pk_m1 (n : Nat) : nI (n + 1) + (-1) = nI n := by
  rw [← nI_1, Int32.add_assoc, show (1 : Int32) + (-1) = 0 from rfl, Int32.add_zero]
theorem pk_mul (a b : Nat) : nI a * nI b = nI (a * b) := (Int32.ofNat_mul a b).symm
theorem pk_div {a d : Nat} (ha : a < 2 ^ 31) (h0 : 0 < d) (hd : d < 2 ^ 31) : nI a / nI d = nI (a / d) := by
  apply Int32.toInt_inj.mp
  rw [lg_idiv_nonneg (by rw [nI_toInt ha]; omega) (by rw [nI_toInt hd]; omega), nI_toInt ha, nI_toInt hd, nI_toInt (Nat.lt_of_le_of_lt (Nat.div_le_self a d) ha)]
  first | rfl | exact (Int.natCast_ediv _ _).symm
theorem pk_rem {a d : Nat} (ha : a < 2 ^ 31) (h0 : 0 < d) (hd : d < 2 ^ 31) : nI a - nI a / nI d * nI d = nI (a % d) := by
  rw [pk_div ha h0 hd, pk_mul, pk_sub (Nat.div_mul_le_self a d)]
  exact congrArg nI (by have := Nat.div_add_mod' a d; omega)
theorem pk_sub_toInt {a b : Nat} (ha : a < 2 ^ 30) (hb : b < 2 ^ 30) : (nI a - nI b).toInt = (a : Int) - b := by
  rw [Int32.toInt_sub, nI_toInt (by omega), nI_toInt (by omega)]
  exact Int.bmod_eq_of_le (by omega) (by omega)
theorem pk_sneg {a b : Nat} (hb : b < 2 ^ 30) (h : a < b) : nI a - nI b < 0 := by
  rw [Int32.lt_iff_toInt_lt, pk_sub_toInt (by omega) hb, show (0 : Int32).toInt = 0 from by decide]
  omega
theorem pk_ix (x : Int32) {n : Nat} (hn : n < 2 ^ 31) : x < 0 ∨ nI n ≤ x ∨ ∃ j : Nat, j < n ∧ x = nI j := by
  by_cases h : x < 0
  · exact Or.inl h
  · obtain ⟨j, hj, rfl⟩ := nI_of h
    by_cases h2 : j < n
    · exact Or.inr (Or.inr ⟨j, h2, rfl⟩)
    · exact Or.inr (Or.inl (nI_le (by omega) hj))
theorem pk_le {x y : Int32} {A B : Prop} (a b : Nat) (f : a ≤ b → A) (g : b < a → B) (hx : x = nI a := by rfl) (hy : y = nI b := by rfl) (ha : a < 2 ^ 31 := by omega) (hb : b < 2 ^ 31 := by omega) : (x ≤ y → A) ∧ (¬ x ≤ y → B) := by
  subst hx hy
  rw [nI_leI ha hb]
  exact ⟨f, fun z => g (by omega)⟩
theorem pk_lt {x y : Int32} {A B : Prop} (a b : Nat) (f : a < b → A) (g : b ≤ a → B) (hx : x = nI a := by rfl) (hy : y = nI b := by rfl) (ha : a < 2 ^ 31 := by omega) (hb : b < 2 ^ 31 := by omega) : (x < y → A) ∧ (¬ x < y → B) := by
  subst hx hy
  rw [nI_ltI ha hb]
  exact ⟨f, fun z => g (by omega)⟩
theorem pk_eq {x y : Int32} {A B : Prop} (a b : Nat) (f : a = b → A) (g : a ≠ b → B) (hx : x = nI a := by rfl) (hy : y = nI b := by rfl) (ha : a < 2 ^ 31 := by omega) (hb : b < 2 ^ 31 := by omega) : (x = y → A) ∧ (¬ x = y → B) := by
  subst hx hy
  rw [nI_eq ha hb]
  exact ⟨f, g⟩
theorem pk_in {x : Int32} (n N : Nat) (h : n < N) (hx : x = nI n := by rfl) (hN : N < 2 ^ 31 := by omega) : vp_in x N := by
  subst hx
  exact vp_in_nI h hN
theorem pk_cl {x : Int32} (n : Nat) (hx : x = nI n := by rfl) (h : n < 2 ^ 31 := by omega) : x.toNatClampNeg = n := by
  subst hx
  exact nI_clamp h
theorem pk_tn {n : Nat} (h : n < 2 ^ 32) : (nI n).toBitVec.toNat = n := Nat.mod_eq_of_lt h
theorem pk_and (x : Int32) {m : Int32} (k : Nat) (hm : m.toBitVec.toNat = 2 ^ k - 1) : x &&& m = nI (x.toBitVec.toNat % 2 ^ k) := by
  apply Int32.toBitVec_inj.mp
  apply BitVec.eq_of_toNat_eq
  rw [Int32.toBitVec_and, BitVec.toNat_and, hm, Nat.and_two_pow_sub_one_eq_mod]
  show _ = (BitVec.ofNat 32 _).toNat
  rw [BitVec.toNat_ofNat]
  exact (Nat.mod_eq_of_lt (Nat.lt_of_le_of_lt (Nat.mod_le _ _) x.toBitVec.isLt)).symm
theorem pk_andN {n : Nat} (h : n < 2 ^ 32) {m : Int32} (k : Nat) (hm : m.toBitVec.toNat = 2 ^ k - 1) : nI n &&& m = nI (n % 2 ^ k) := by
  rw [pk_and _ k hm, pk_tn h]
theorem pk_andE (x : Int32) {m : Int32} (k : Nat) (hm : m.toBitVec.toNat = 2 ^ k - 1) : ∃ j : Nat, j < 2 ^ k ∧ x &&& m = nI j := ⟨_, Nat.mod_lt _ (Nat.two_pow_pos k), pk_and x k hm⟩
theorem pk_andIn (x : Int32) {m : Int32} (k : Nat) (hm : m.toBitVec.toNat = 2 ^ k - 1) (hk : k ≤ 30) : vp_in (x &&& m) (2 ^ k) := by
  obtain ⟨j, hj, e⟩ := pk_andE x k hm
  rw [e]
  exact vp_in_nI hj (Nat.lt_of_le_of_lt (Nat.pow_le_pow_right (by decide) hk) (by decide))
theorem pk_shl (a s : Int32) (k : Nat) (hs : (s.toBitVec.smod 32).toNat = k) : (a <<< s).toBitVec.toNat = a.toBitVec.toNat * 2 ^ k % 2 ^ 32 := by
  show (a.toBitVec <<< (s.toBitVec.smod 32).toNat).toNat = _
  rw [hs, BitVec.toNat_shiftLeft, Nat.shiftLeft_eq]
theorem pk_shlN {n : Nat} (s : Int32) (k : Nat) (hs : (s.toBitVec.smod 32).toNat = k) (h : n * 2 ^ k < 2 ^ 32) : nI n <<< s = nI (n * 2 ^ k) := by
  apply Int32.toBitVec_inj.mp
  apply BitVec.eq_of_toNat_eq
  have hn : n < 2 ^ 32 := Nat.lt_of_le_of_lt (Nat.le_mul_of_pos_right n (Nat.two_pow_pos k)) h
  rw [pk_shl _ _ k hs, pk_tn hn, pk_tn h, Nat.mod_eq_of_lt h]
theorem pk_shr (a s : Int32) (k : Nat) (hs : (s.toBitVec.smod 32).toNat = k) : (a >>> s).toInt = a.toInt >>> k := by
  show (a.toBitVec.sshiftRight (s.toBitVec.smod 32).toNat).toInt = _
  rw [hs, BitVec.toInt_sshiftRight]
  rfl
theorem pk_shrN {n : Nat} (h : n < 2 ^ 31) (s : Int32) (k : Nat) (hs : (s.toBitVec.smod 32).toNat = k) : nI n >>> s = nI (n / 2 ^ k) := by
  apply Int32.toInt_inj.mp
  have h2 : n / 2 ^ k ≤ n := Nat.div_le_self _ _
  rw [pk_shr _ _ k hs, nI_toInt h, nI_toInt (by omega), Int.shiftRight_eq_div_pow]
  rfl
theorem pk_ushr (x s : Int32) (k : Nat) (hs : ((s.toUInt32 &&& Int32.toUInt32 31).toBitVec % 32).toNat = k) : (x.toUInt32 >>> (s.toUInt32 &&& Int32.toUInt32 31)).toInt32.toBitVec.toNat = x.toBitVec.toNat / 2 ^ k := by
  have e : (x.toUInt32 >>> (s.toUInt32 &&& Int32.toUInt32 31)).toInt32.toBitVec = x.toBitVec >>> k := by
    rw [← hs]
    exact UInt32.toBitVec_shiftRight _ _
  rw [e, BitVec.toNat_ushiftRight, Nat.shiftRight_eq_div_pow]
theorem pk_ushrN {n : Nat} (hn : n < 2 ^ 32) (s : Int32) (k : Nat) (hs : ((s.toUInt32 &&& Int32.toUInt32 31).toBitVec % 32).toNat = k) : ((nI n).toUInt32 >>> (s.toUInt32 &&& Int32.toUInt32 31)).toInt32 = nI (n / 2 ^ k) := by
  apply Int32.toBitVec_inj.mp
  apply BitVec.eq_of_toNat_eq
  rw [pk_ushr _ s k hs, pk_tn hn, pk_tn (Nat.lt_of_le_of_lt (Nat.div_le_self _ _) hn)]
theorem pk_nb (z : Int32) : narrow .byte (.int z.toInt8.toInt32) = .int z.toInt8.toInt32 := congrArg Value.int (by simp)
theorem pk_ns (z : Int32) : narrow .short (.int z.toInt16.toInt32) = .int z.toInt16.toInt32 := congrArg Value.int (by simp)
theorem pk_fb (r : Int32) : fits .byte (.int r.toInt8.toInt32) = true := by
  have ⟨a, b⟩ := lg_i2b_range r
  have h1 : (-128 : Int32).toInt = -128 := by decide
  have h2 : (127 : Int32).toInt = 127 := by decide
  simp only [fits, Bool.and_eq_true, decide_eq_true_eq, Int32.le_iff_toInt_le, h1, h2]
  omega
theorem pk_fs (r : Int32) : fits .short (.int r.toInt16.toInt32) = true := by
  have ⟨a, b⟩ := lg_i2s_range r
  have h1 : (-32768 : Int32).toInt = -32768 := by decide
  have h2 : (32767 : Int32).toInt = 32767 := by decide
  simp only [fits, Bool.and_eq_true, decide_eq_true_eq, Int32.le_iff_toInt_le, h1, h2]
  omega
theorem pk_charN {q : Nat} (hq : q < 65536) : narrow .char (.int (nI q)) = .int (nI q) ∧ fits .char (.int (nI q)) = true := by
  constructor
  · have e : (nI q).toUInt32.toUInt16.toUInt32.toInt32 = nI q := by
      apply Int32.toBitVec_inj.mp
      apply BitVec.eq_of_toNat_eq
      show (nI q).toUInt32.toUInt16.toUInt32.toNat = q % 2 ^ 32
      rw [UInt16.toNat_toUInt32, UInt32.toNat_toUInt16, show (nI q).toUInt32.toNat = q % 2 ^ 32 from rfl]
      omega
    exact congrArg Value.int e
  · have a : (0 : Int32) ≤ nI q := nI_pos' (by omega)
    have b : nI q ≤ 65535 := nI_le (b := 65535) (by omega) (by decide)
    show (decide ((0 : Int32) ≤ nI q) && decide (nI q ≤ 65535)) = true
    rw [decide_eq_true a, decide_eq_true b]
    rfl
theorem pk_char (x : Int32) : (x.toUInt32 % 65536).toInt32 = nI (x.toBitVec.toNat % 65536) := by
  apply Int32.toBitVec_inj.mp
  apply BitVec.eq_of_toNat_eq
  rw [pk_tn (by omega)]
  show (x.toUInt32 % 65536).toNat = _
  rw [UInt32.toNat_mod]
  rfl
theorem pk_nc (x : Int32) : narrow .char (.int (x.toUInt32 % 65536).toInt32) = .int (x.toUInt32 % 65536).toInt32 := by
  rw [pk_char]
  exact (pk_charN (Nat.mod_lt _ (by decide))).1
theorem pk_fc (x : Int32) : fits .char (.int (x.toUInt32 % 65536).toInt32) = true := by
  rw [pk_char]
  exact (pk_charN (Nat.mod_lt _ (by decide))).2
theorem pk_vb (z : Int32) : vp_nar .byte z.toInt8.toInt32 = z.toInt8.toInt32 := by rw [vp_nar_byte]; simp
theorem pk_vs (z : Int32) : vp_nar .short z.toInt16.toInt32 = z.toInt16.toInt32 := by rw [vp_nar_short]; simp
theorem pk_vc (z : Int32) : vp_nar .char (z.toUInt32 % 65536).toInt32 = (z.toUInt32 % 65536).toInt32 := Value.int.inj (pk_nc z)
theorem pk_lT {n : Nat} (h : n < 2 ^ 63) : (lN n).toInt = (n : Int) := lg_ofNat_toInt h
theorem pk_lLT {a b : Nat} (ha : a < 2 ^ 63) (hb : b < 2 ^ 63) : lN a < lN b ↔ a < b := by
  rw [Int64.lt_iff_toInt_lt, pk_lT ha, pk_lT hb]; omega
theorem pk_lLE {a b : Nat} (ha : a < 2 ^ 63) (hb : b < 2 ^ 63) : lN a ≤ lN b ↔ a ≤ b := by
  rw [Int64.le_iff_toInt_le, pk_lT ha, pk_lT hb]; omega
theorem pk_lEQ {a b : Nat} (ha : a < 2 ^ 63) (hb : b < 2 ^ 63) : lN a = lN b ↔ a = b := by
  rw [← Int64.toInt_inj, pk_lT ha, pk_lT hb]; omega
theorem pk_lOf {x : Int64} (h : ¬ x < 0) : ∃ k : Nat, k < 2 ^ 63 ∧ x = lN k := by
  rw [Int64.lt_iff_toInt_lt] at h
  have h0 : (0 : Int64).toInt = 0 := by decide
  have hx := Int64.toInt_lt x
  refine ⟨x.toInt.toNat, by omega, Int64.toInt_inj.mp ?_⟩
  rw [pk_lT (by omega)]
  omega
theorem pk_lDiv {a b : Nat} (ha : a < 2 ^ 63) (h0 : 0 < b) (hb : b < 2 ^ 63) : lN a / lN b = lN (a / b) := by
  apply Int64.toInt_inj.mp
  rw [lg_ldiv_nonneg (by rw [pk_lT ha]; omega) (by rw [pk_lT hb]; omega), pk_lT ha, pk_lT hb, pk_lT (Nat.lt_of_le_of_lt (Nat.div_le_self a b) ha)]
  rfl
theorem pk_lRem {a b : Nat} (ha : a < 2 ^ 63) (h0 : 0 < b) (hb : b < 2 ^ 63) : lN a - lN a / lN b * lN b = lN (a % b) := by
  rw [pk_lDiv ha h0 hb, lN_mul, lN_sub (Nat.div_mul_le_self a b)]
  exact congrArg lN (by have := Nat.div_add_mod' a b; omega)
theorem pk_loop {σ : Type} (W : Nat → Nat → σ → Prop) (I : Nat → σ → Prop) (e i0 : Nat) (s : σ) (hi : i0 ≤ e) (h0 : I i0 s) (hx : ∀ n s, I e s → W (n + 1) e s)
    (hs : ∀ n i s, i < e → I i s → (∀ s', I (i + 1) s' → W n (i + 1) s') → W (n + 1) i s) : ∃ n, W n i0 s :=
  ⟨e + 1, loop_i W I e hx hs (e + 1) i0 s hi (by omega) h0⟩
theorem pk_loopD {σ : Type} (W : Nat → Nat → σ → Prop) (I : Nat → σ → Prop) (hx : ∀ n s, I 0 s → W (n + 1) 0 s)
    (hs : ∀ n i s, I (i + 1) s → (∀ s', I i s' → W n i s') → W (n + 1) (i + 1) s) : ∀ (e : Nat) (s : σ), I e s → W (e + 1) e s := by
  intro e
  induction e with
  | zero => exact fun s h => hx 0 s h
  | succ e ih => exact fun s h => hs (e + 1) e s h (fun s' h' => ih s' h')
theorem lp1 {A1 : Type} (W : Nat → A1 → Prop) (I : A1 → Prop) (μ : A1 → Nat) (hs : ∀ (n : Nat) (a1 : A1), I a1 → (∀ (b1 : A1), I b1 → μ b1 < μ a1 → W n b1) → W (n + 1) a1) (a1 : A1) (h : I a1) : ∃ n, W n a1 :=
  loop_m (σ := A1) (fun n s => W n s) (fun s => I s) (fun s => μ s) (fun n s hI hk => hs n s hI (fun b1 h9 hm => hk b1 h9 hm)) a1 h
theorem lp2 {A1 A2 : Type} (W : Nat → A1 → A2 → Prop) (I : A1 → A2 → Prop) (μ : A1 → A2 → Nat) (hs : ∀ (n : Nat) (a1 : A1) (a2 : A2), I a1 a2 → (∀ (b1 : A1) (b2 : A2), I b1 b2 → μ b1 b2 < μ a1 a2 → W n b1 b2) → W (n + 1) a1 a2) (a1 : A1) (a2 : A2) (h : I a1 a2) : ∃ n, W n a1 a2 :=
  loop_m (σ := A1 × A2) (fun n s => W n s.1 s.2) (fun s => I s.1 s.2) (fun s => μ s.1 s.2) (fun n s hI hk => hs n s.1 s.2 hI (fun b1 b2 h9 hm => hk (b1, b2) h9 hm)) (a1, a2) h
theorem lp3 {A1 A2 A3 : Type} (W : Nat → A1 → A2 → A3 → Prop) (I : A1 → A2 → A3 → Prop) (μ : A1 → A2 → A3 → Nat) (hs : ∀ (n : Nat) (a1 : A1) (a2 : A2) (a3 : A3), I a1 a2 a3 → (∀ (b1 : A1) (b2 : A2) (b3 : A3), I b1 b2 b3 → μ b1 b2 b3 < μ a1 a2 a3 → W n b1 b2 b3) → W (n + 1) a1 a2 a3) (a1 : A1) (a2 : A2) (a3 : A3) (h : I a1 a2 a3) : ∃ n, W n a1 a2 a3 :=
  loop_m (σ := A1 × A2 × A3) (fun n s => W n s.1 s.2.1 s.2.2) (fun s => I s.1 s.2.1 s.2.2) (fun s => μ s.1 s.2.1 s.2.2) (fun n s hI hk => hs n s.1 s.2.1 s.2.2 hI (fun b1 b2 b3 h9 hm => hk (b1, b2, b3) h9 hm)) (a1, a2, a3) h
theorem lp4 {A1 A2 A3 A4 : Type} (W : Nat → A1 → A2 → A3 → A4 → Prop) (I : A1 → A2 → A3 → A4 → Prop) (μ : A1 → A2 → A3 → A4 → Nat) (hs : ∀ (n : Nat) (a1 : A1) (a2 : A2) (a3 : A3) (a4 : A4), I a1 a2 a3 a4 → (∀ (b1 : A1) (b2 : A2) (b3 : A3) (b4 : A4), I b1 b2 b3 b4 → μ b1 b2 b3 b4 < μ a1 a2 a3 a4 → W n b1 b2 b3 b4) → W (n + 1) a1 a2 a3 a4) (a1 : A1) (a2 : A2) (a3 : A3) (a4 : A4) (h : I a1 a2 a3 a4) : ∃ n, W n a1 a2 a3 a4 :=
  loop_m (σ := A1 × A2 × A3 × A4) (fun n s => W n s.1 s.2.1 s.2.2.1 s.2.2.2) (fun s => I s.1 s.2.1 s.2.2.1 s.2.2.2) (fun s => μ s.1 s.2.1 s.2.2.1 s.2.2.2) (fun n s hI hk => hs n s.1 s.2.1 s.2.2.1 s.2.2.2 hI (fun b1 b2 b3 b4 h9 hm => hk (b1, b2, b3, b4) h9 hm)) (a1, a2, a3, a4) h
theorem lp5 {A1 A2 A3 A4 A5 : Type} (W : Nat → A1 → A2 → A3 → A4 → A5 → Prop) (I : A1 → A2 → A3 → A4 → A5 → Prop) (μ : A1 → A2 → A3 → A4 → A5 → Nat) (hs : ∀ (n : Nat) (a1 : A1) (a2 : A2) (a3 : A3) (a4 : A4) (a5 : A5), I a1 a2 a3 a4 a5 → (∀ (b1 : A1) (b2 : A2) (b3 : A3) (b4 : A4) (b5 : A5), I b1 b2 b3 b4 b5 → μ b1 b2 b3 b4 b5 < μ a1 a2 a3 a4 a5 → W n b1 b2 b3 b4 b5) → W (n + 1) a1 a2 a3 a4 a5) (a1 : A1) (a2 : A2) (a3 : A3) (a4 : A4) (a5 : A5) (h : I a1 a2 a3 a4 a5) : ∃ n, W n a1 a2 a3 a4 a5 :=
  loop_m (σ := A1 × A2 × A3 × A4 × A5) (fun n s => W n s.1 s.2.1 s.2.2.1 s.2.2.2.1 s.2.2.2.2) (fun s => I s.1 s.2.1 s.2.2.1 s.2.2.2.1 s.2.2.2.2) (fun s => μ s.1 s.2.1 s.2.2.1 s.2.2.2.1 s.2.2.2.2) (fun n s hI hk => hs n s.1 s.2.1 s.2.2.1 s.2.2.2.1 s.2.2.2.2 hI (fun b1 b2 b3 b4 b5 h9 hm => hk (b1, b2, b3, b4, b5) h9 hm)) (a1, a2, a3, a4, a5) h
theorem lp6 {A1 A2 A3 A4 A5 A6 : Type} (W : Nat → A1 → A2 → A3 → A4 → A5 → A6 → Prop) (I : A1 → A2 → A3 → A4 → A5 → A6 → Prop) (μ : A1 → A2 → A3 → A4 → A5 → A6 → Nat) (hs : ∀ (n : Nat) (a1 : A1) (a2 : A2) (a3 : A3) (a4 : A4) (a5 : A5) (a6 : A6), I a1 a2 a3 a4 a5 a6 → (∀ (b1 : A1) (b2 : A2) (b3 : A3) (b4 : A4) (b5 : A5) (b6 : A6), I b1 b2 b3 b4 b5 b6 → μ b1 b2 b3 b4 b5 b6 < μ a1 a2 a3 a4 a5 a6 → W n b1 b2 b3 b4 b5 b6) → W (n + 1) a1 a2 a3 a4 a5 a6) (a1 : A1) (a2 : A2) (a3 : A3) (a4 : A4) (a5 : A5) (a6 : A6) (h : I a1 a2 a3 a4 a5 a6) : ∃ n, W n a1 a2 a3 a4 a5 a6 :=
  loop_m (σ := A1 × A2 × A3 × A4 × A5 × A6) (fun n s => W n s.1 s.2.1 s.2.2.1 s.2.2.2.1 s.2.2.2.2.1 s.2.2.2.2.2) (fun s => I s.1 s.2.1 s.2.2.1 s.2.2.2.1 s.2.2.2.2.1 s.2.2.2.2.2) (fun s => μ s.1 s.2.1 s.2.2.1 s.2.2.2.1 s.2.2.2.2.1 s.2.2.2.2.2) (fun n s hI hk => hs n s.1 s.2.1 s.2.2.1 s.2.2.2.1 s.2.2.2.2.1 s.2.2.2.2.2 hI (fun b1 b2 b3 b4 b5 b6 h9 hm => hk (b1, b2, b3, b4, b5, b6) h9 hm)) (a1, a2, a3, a4, a5, a6) h
theorem lp7 {A1 A2 A3 A4 A5 A6 A7 : Type} (W : Nat → A1 → A2 → A3 → A4 → A5 → A6 → A7 → Prop) (I : A1 → A2 → A3 → A4 → A5 → A6 → A7 → Prop) (μ : A1 → A2 → A3 → A4 → A5 → A6 → A7 → Nat) (hs : ∀ (n : Nat) (a1 : A1) (a2 : A2) (a3 : A3) (a4 : A4) (a5 : A5) (a6 : A6) (a7 : A7), I a1 a2 a3 a4 a5 a6 a7 → (∀ (b1 : A1) (b2 : A2) (b3 : A3) (b4 : A4) (b5 : A5) (b6 : A6) (b7 : A7), I b1 b2 b3 b4 b5 b6 b7 → μ b1 b2 b3 b4 b5 b6 b7 < μ a1 a2 a3 a4 a5 a6 a7 → W n b1 b2 b3 b4 b5 b6 b7) → W (n + 1) a1 a2 a3 a4 a5 a6 a7) (a1 : A1) (a2 : A2) (a3 : A3) (a4 : A4) (a5 : A5) (a6 : A6) (a7 : A7) (h : I a1 a2 a3 a4 a5 a6 a7) : ∃ n, W n a1 a2 a3 a4 a5 a6 a7 :=
  loop_m (σ := A1 × A2 × A3 × A4 × A5 × A6 × A7) (fun n s => W n s.1 s.2.1 s.2.2.1 s.2.2.2.1 s.2.2.2.2.1 s.2.2.2.2.2.1 s.2.2.2.2.2.2) (fun s => I s.1 s.2.1 s.2.2.1 s.2.2.2.1 s.2.2.2.2.1 s.2.2.2.2.2.1 s.2.2.2.2.2.2) (fun s => μ s.1 s.2.1 s.2.2.1 s.2.2.2.1 s.2.2.2.2.1 s.2.2.2.2.2.1 s.2.2.2.2.2.2) (fun n s hI hk => hs n s.1 s.2.1 s.2.2.1 s.2.2.2.1 s.2.2.2.2.1 s.2.2.2.2.2.1 s.2.2.2.2.2.2 hI (fun b1 b2 b3 b4 b5 b6 b7 h9 hm => hk (b1, b2, b3, b4, b5, b6, b7) h9 hm)) (a1, a2, a3, a4, a5, a6, a7) h
theorem lp8 {A1 A2 A3 A4 A5 A6 A7 A8 : Type} (W : Nat → A1 → A2 → A3 → A4 → A5 → A6 → A7 → A8 → Prop) (I : A1 → A2 → A3 → A4 → A5 → A6 → A7 → A8 → Prop) (μ : A1 → A2 → A3 → A4 → A5 → A6 → A7 → A8 → Nat) (hs : ∀ (n : Nat) (a1 : A1) (a2 : A2) (a3 : A3) (a4 : A4) (a5 : A5) (a6 : A6) (a7 : A7) (a8 : A8), I a1 a2 a3 a4 a5 a6 a7 a8 → (∀ (b1 : A1) (b2 : A2) (b3 : A3) (b4 : A4) (b5 : A5) (b6 : A6) (b7 : A7) (b8 : A8), I b1 b2 b3 b4 b5 b6 b7 b8 → μ b1 b2 b3 b4 b5 b6 b7 b8 < μ a1 a2 a3 a4 a5 a6 a7 a8 → W n b1 b2 b3 b4 b5 b6 b7 b8) → W (n + 1) a1 a2 a3 a4 a5 a6 a7 a8) (a1 : A1) (a2 : A2) (a3 : A3) (a4 : A4) (a5 : A5) (a6 : A6) (a7 : A7) (a8 : A8) (h : I a1 a2 a3 a4 a5 a6 a7 a8) : ∃ n, W n a1 a2 a3 a4 a5 a6 a7 a8 :=
  loop_m (σ := A1 × A2 × A3 × A4 × A5 × A6 × A7 × A8) (fun n s => W n s.1 s.2.1 s.2.2.1 s.2.2.2.1 s.2.2.2.2.1 s.2.2.2.2.2.1 s.2.2.2.2.2.2.1 s.2.2.2.2.2.2.2) (fun s => I s.1 s.2.1 s.2.2.1 s.2.2.2.1 s.2.2.2.2.1 s.2.2.2.2.2.1 s.2.2.2.2.2.2.1 s.2.2.2.2.2.2.2) (fun s => μ s.1 s.2.1 s.2.2.1 s.2.2.2.1 s.2.2.2.2.1 s.2.2.2.2.2.1 s.2.2.2.2.2.2.1 s.2.2.2.2.2.2.2) (fun n s hI hk => hs n s.1 s.2.1 s.2.2.1 s.2.2.2.1 s.2.2.2.2.1 s.2.2.2.2.2.1 s.2.2.2.2.2.2.1 s.2.2.2.2.2.2.2 hI (fun b1 b2 b3 b4 b5 b6 b7 b8 h9 hm => hk (b1, b2, b3, b4, b5, b6, b7, b8) h9 hm)) (a1, a2, a3, a4, a5, a6, a7, a8) h
theorem lp9 {A1 A2 A3 A4 A5 A6 A7 A8 A9 : Type} (W : Nat → A1 → A2 → A3 → A4 → A5 → A6 → A7 → A8 → A9 → Prop) (I : A1 → A2 → A3 → A4 → A5 → A6 → A7 → A8 → A9 → Prop) (μ : A1 → A2 → A3 → A4 → A5 → A6 → A7 → A8 → A9 → Nat) (hs : ∀ (n : Nat) (a1 : A1) (a2 : A2) (a3 : A3) (a4 : A4) (a5 : A5) (a6 : A6) (a7 : A7) (a8 : A8) (a9 : A9), I a1 a2 a3 a4 a5 a6 a7 a8 a9 → (∀ (b1 : A1) (b2 : A2) (b3 : A3) (b4 : A4) (b5 : A5) (b6 : A6) (b7 : A7) (b8 : A8) (b9 : A9), I b1 b2 b3 b4 b5 b6 b7 b8 b9 → μ b1 b2 b3 b4 b5 b6 b7 b8 b9 < μ a1 a2 a3 a4 a5 a6 a7 a8 a9 → W n b1 b2 b3 b4 b5 b6 b7 b8 b9) → W (n + 1) a1 a2 a3 a4 a5 a6 a7 a8 a9) (a1 : A1) (a2 : A2) (a3 : A3) (a4 : A4) (a5 : A5) (a6 : A6) (a7 : A7) (a8 : A8) (a9 : A9) (h : I a1 a2 a3 a4 a5 a6 a7 a8 a9) : ∃ n, W n a1 a2 a3 a4 a5 a6 a7 a8 a9 :=
  loop_m (σ := A1 × A2 × A3 × A4 × A5 × A6 × A7 × A8 × A9) (fun n s => W n s.1 s.2.1 s.2.2.1 s.2.2.2.1 s.2.2.2.2.1 s.2.2.2.2.2.1 s.2.2.2.2.2.2.1 s.2.2.2.2.2.2.2.1 s.2.2.2.2.2.2.2.2) (fun s => I s.1 s.2.1 s.2.2.1 s.2.2.2.1 s.2.2.2.2.1 s.2.2.2.2.2.1 s.2.2.2.2.2.2.1 s.2.2.2.2.2.2.2.1 s.2.2.2.2.2.2.2.2) (fun s => μ s.1 s.2.1 s.2.2.1 s.2.2.2.1 s.2.2.2.2.1 s.2.2.2.2.2.1 s.2.2.2.2.2.2.1 s.2.2.2.2.2.2.2.1 s.2.2.2.2.2.2.2.2) (fun n s hI hk => hs n s.1 s.2.1 s.2.2.1 s.2.2.2.1 s.2.2.2.2.1 s.2.2.2.2.2.1 s.2.2.2.2.2.2.1 s.2.2.2.2.2.2.2.1 s.2.2.2.2.2.2.2.2 hI (fun b1 b2 b3 b4 b5 b6 b7 b8 b9 h9 hm => hk (b1, b2, b3, b4, b5, b6, b7, b8, b9) h9 hm)) (a1, a2, a3, a4, a5, a6, a7, a8, a9) h
theorem lp10 {A1 A2 A3 A4 A5 A6 A7 A8 A9 A10 : Type} (W : Nat → A1 → A2 → A3 → A4 → A5 → A6 → A7 → A8 → A9 → A10 → Prop) (I : A1 → A2 → A3 → A4 → A5 → A6 → A7 → A8 → A9 → A10 → Prop) (μ : A1 → A2 → A3 → A4 → A5 → A6 → A7 → A8 → A9 → A10 → Nat) (hs : ∀ (n : Nat) (a1 : A1) (a2 : A2) (a3 : A3) (a4 : A4) (a5 : A5) (a6 : A6) (a7 : A7) (a8 : A8) (a9 : A9) (a10 : A10), I a1 a2 a3 a4 a5 a6 a7 a8 a9 a10 → (∀ (b1 : A1) (b2 : A2) (b3 : A3) (b4 : A4) (b5 : A5) (b6 : A6) (b7 : A7) (b8 : A8) (b9 : A9) (b10 : A10), I b1 b2 b3 b4 b5 b6 b7 b8 b9 b10 → μ b1 b2 b3 b4 b5 b6 b7 b8 b9 b10 < μ a1 a2 a3 a4 a5 a6 a7 a8 a9 a10 → W n b1 b2 b3 b4 b5 b6 b7 b8 b9 b10) → W (n + 1) a1 a2 a3 a4 a5 a6 a7 a8 a9 a10) (a1 : A1) (a2 : A2) (a3 : A3) (a4 : A4) (a5 : A5) (a6 : A6) (a7 : A7) (a8 : A8) (a9 : A9) (a10 : A10) (h : I a1 a2 a3 a4 a5 a6 a7 a8 a9 a10) : ∃ n, W n a1 a2 a3 a4 a5 a6 a7 a8 a9 a10 :=
  loop_m (σ := A1 × A2 × A3 × A4 × A5 × A6 × A7 × A8 × A9 × A10) (fun n s => W n s.1 s.2.1 s.2.2.1 s.2.2.2.1 s.2.2.2.2.1 s.2.2.2.2.2.1 s.2.2.2.2.2.2.1 s.2.2.2.2.2.2.2.1 s.2.2.2.2.2.2.2.2.1 s.2.2.2.2.2.2.2.2.2) (fun s => I s.1 s.2.1 s.2.2.1 s.2.2.2.1 s.2.2.2.2.1 s.2.2.2.2.2.1 s.2.2.2.2.2.2.1 s.2.2.2.2.2.2.2.1 s.2.2.2.2.2.2.2.2.1 s.2.2.2.2.2.2.2.2.2) (fun s => μ s.1 s.2.1 s.2.2.1 s.2.2.2.1 s.2.2.2.2.1 s.2.2.2.2.2.1 s.2.2.2.2.2.2.1 s.2.2.2.2.2.2.2.1 s.2.2.2.2.2.2.2.2.1 s.2.2.2.2.2.2.2.2.2) (fun n s hI hk => hs n s.1 s.2.1 s.2.2.1 s.2.2.2.1 s.2.2.2.2.1 s.2.2.2.2.2.1 s.2.2.2.2.2.2.1 s.2.2.2.2.2.2.2.1 s.2.2.2.2.2.2.2.2.1 s.2.2.2.2.2.2.2.2.2 hI (fun b1 b2 b3 b4 b5 b6 b7 b8 b9 b10 h9 hm => hk (b1, b2, b3, b4, b5, b6, b7, b8, b9, b10) h9 hm)) (a1, a2, a3, a4, a5, a6, a7, a8, a9, a10) h
theorem lp11 {A1 A2 A3 A4 A5 A6 A7 A8 A9 A10 A11 : Type} (W : Nat → A1 → A2 → A3 → A4 → A5 → A6 → A7 → A8 → A9 → A10 → A11 → Prop) (I : A1 → A2 → A3 → A4 → A5 → A6 → A7 → A8 → A9 → A10 → A11 → Prop) (μ : A1 → A2 → A3 → A4 → A5 → A6 → A7 → A8 → A9 → A10 → A11 → Nat) (hs : ∀ (n : Nat) (a1 : A1) (a2 : A2) (a3 : A3) (a4 : A4) (a5 : A5) (a6 : A6) (a7 : A7) (a8 : A8) (a9 : A9) (a10 : A10) (a11 : A11), I a1 a2 a3 a4 a5 a6 a7 a8 a9 a10 a11 → (∀ (b1 : A1) (b2 : A2) (b3 : A3) (b4 : A4) (b5 : A5) (b6 : A6) (b7 : A7) (b8 : A8) (b9 : A9) (b10 : A10) (b11 : A11), I b1 b2 b3 b4 b5 b6 b7 b8 b9 b10 b11 → μ b1 b2 b3 b4 b5 b6 b7 b8 b9 b10 b11 < μ a1 a2 a3 a4 a5 a6 a7 a8 a9 a10 a11 → W n b1 b2 b3 b4 b5 b6 b7 b8 b9 b10 b11) → W (n + 1) a1 a2 a3 a4 a5 a6 a7 a8 a9 a10 a11) (a1 : A1) (a2 : A2) (a3 : A3) (a4 : A4) (a5 : A5) (a6 : A6) (a7 : A7) (a8 : A8) (a9 : A9) (a10 : A10) (a11 : A11) (h : I a1 a2 a3 a4 a5 a6 a7 a8 a9 a10 a11) : ∃ n, W n a1 a2 a3 a4 a5 a6 a7 a8 a9 a10 a11 :=
  loop_m (σ := A1 × A2 × A3 × A4 × A5 × A6 × A7 × A8 × A9 × A10 × A11) (fun n s => W n s.1 s.2.1 s.2.2.1 s.2.2.2.1 s.2.2.2.2.1 s.2.2.2.2.2.1 s.2.2.2.2.2.2.1 s.2.2.2.2.2.2.2.1 s.2.2.2.2.2.2.2.2.1 s.2.2.2.2.2.2.2.2.2.1 s.2.2.2.2.2.2.2.2.2.2) (fun s => I s.1 s.2.1 s.2.2.1 s.2.2.2.1 s.2.2.2.2.1 s.2.2.2.2.2.1 s.2.2.2.2.2.2.1 s.2.2.2.2.2.2.2.1 s.2.2.2.2.2.2.2.2.1 s.2.2.2.2.2.2.2.2.2.1 s.2.2.2.2.2.2.2.2.2.2) (fun s => μ s.1 s.2.1 s.2.2.1 s.2.2.2.1 s.2.2.2.2.1 s.2.2.2.2.2.1 s.2.2.2.2.2.2.1 s.2.2.2.2.2.2.2.1 s.2.2.2.2.2.2.2.2.1 s.2.2.2.2.2.2.2.2.2.1 s.2.2.2.2.2.2.2.2.2.2) (fun n s hI hk => hs n s.1 s.2.1 s.2.2.1 s.2.2.2.1 s.2.2.2.2.1 s.2.2.2.2.2.1 s.2.2.2.2.2.2.1 s.2.2.2.2.2.2.2.1 s.2.2.2.2.2.2.2.2.1 s.2.2.2.2.2.2.2.2.2.1 s.2.2.2.2.2.2.2.2.2.2 hI (fun b1 b2 b3 b4 b5 b6 b7 b8 b9 b10 b11 h9 hm => hk (b1, b2, b3, b4, b5, b6, b7, b8, b9, b10, b11) h9 hm)) (a1, a2, a3, a4, a5, a6, a7, a8, a9, a10, a11) h
theorem lp12 {A1 A2 A3 A4 A5 A6 A7 A8 A9 A10 A11 A12 : Type} (W : Nat → A1 → A2 → A3 → A4 → A5 → A6 → A7 → A8 → A9 → A10 → A11 → A12 → Prop) (I : A1 → A2 → A3 → A4 → A5 → A6 → A7 → A8 → A9 → A10 → A11 → A12 → Prop) (μ : A1 → A2 → A3 → A4 → A5 → A6 → A7 → A8 → A9 → A10 → A11 → A12 → Nat) (hs : ∀ (n : Nat) (a1 : A1) (a2 : A2) (a3 : A3) (a4 : A4) (a5 : A5) (a6 : A6) (a7 : A7) (a8 : A8) (a9 : A9) (a10 : A10) (a11 : A11) (a12 : A12), I a1 a2 a3 a4 a5 a6 a7 a8 a9 a10 a11 a12 → (∀ (b1 : A1) (b2 : A2) (b3 : A3) (b4 : A4) (b5 : A5) (b6 : A6) (b7 : A7) (b8 : A8) (b9 : A9) (b10 : A10) (b11 : A11) (b12 : A12), I b1 b2 b3 b4 b5 b6 b7 b8 b9 b10 b11 b12 → μ b1 b2 b3 b4 b5 b6 b7 b8 b9 b10 b11 b12 < μ a1 a2 a3 a4 a5 a6 a7 a8 a9 a10 a11 a12 → W n b1 b2 b3 b4 b5 b6 b7 b8 b9 b10 b11 b12) → W (n + 1) a1 a2 a3 a4 a5 a6 a7 a8 a9 a10 a11 a12) (a1 : A1) (a2 : A2) (a3 : A3) (a4 : A4) (a5 : A5) (a6 : A6) (a7 : A7) (a8 : A8) (a9 : A9) (a10 : A10) (a11 : A11) (a12 : A12) (h : I a1 a2 a3 a4 a5 a6 a7 a8 a9 a10 a11 a12) : ∃ n, W n a1 a2 a3 a4 a5 a6 a7 a8 a9 a10 a11 a12 :=
  loop_m (σ := A1 × A2 × A3 × A4 × A5 × A6 × A7 × A8 × A9 × A10 × A11 × A12) (fun n s => W n s.1 s.2.1 s.2.2.1 s.2.2.2.1 s.2.2.2.2.1 s.2.2.2.2.2.1 s.2.2.2.2.2.2.1 s.2.2.2.2.2.2.2.1 s.2.2.2.2.2.2.2.2.1 s.2.2.2.2.2.2.2.2.2.1 s.2.2.2.2.2.2.2.2.2.2.1 s.2.2.2.2.2.2.2.2.2.2.2) (fun s => I s.1 s.2.1 s.2.2.1 s.2.2.2.1 s.2.2.2.2.1 s.2.2.2.2.2.1 s.2.2.2.2.2.2.1 s.2.2.2.2.2.2.2.1 s.2.2.2.2.2.2.2.2.1 s.2.2.2.2.2.2.2.2.2.1 s.2.2.2.2.2.2.2.2.2.2.1 s.2.2.2.2.2.2.2.2.2.2.2) (fun s => μ s.1 s.2.1 s.2.2.1 s.2.2.2.1 s.2.2.2.2.1 s.2.2.2.2.2.1 s.2.2.2.2.2.2.1 s.2.2.2.2.2.2.2.1 s.2.2.2.2.2.2.2.2.1 s.2.2.2.2.2.2.2.2.2.1 s.2.2.2.2.2.2.2.2.2.2.1 s.2.2.2.2.2.2.2.2.2.2.2) (fun n s hI hk => hs n s.1 s.2.1 s.2.2.1 s.2.2.2.1 s.2.2.2.2.1 s.2.2.2.2.2.1 s.2.2.2.2.2.2.1 s.2.2.2.2.2.2.2.1 s.2.2.2.2.2.2.2.2.1 s.2.2.2.2.2.2.2.2.2.1 s.2.2.2.2.2.2.2.2.2.2.1 s.2.2.2.2.2.2.2.2.2.2.2 hI (fun b1 b2 b3 b4 b5 b6 b7 b8 b9 b10 b11 b12 h9 hm => hk (b1, b2, b3, b4, b5, b6, b7, b8, b9, b10, b11, b12) h9 hm)) (a1, a2, a3, a4, a5, a6, a7, a8, a9, a10, a11, a12) h
theorem lp13 {A1 A2 A3 A4 A5 A6 A7 A8 A9 A10 A11 A12 A13 : Type} (W : Nat → A1 → A2 → A3 → A4 → A5 → A6 → A7 → A8 → A9 → A10 → A11 → A12 → A13 → Prop) (I : A1 → A2 → A3 → A4 → A5 → A6 → A7 → A8 → A9 → A10 → A11 → A12 → A13 → Prop) (μ : A1 → A2 → A3 → A4 → A5 → A6 → A7 → A8 → A9 → A10 → A11 → A12 → A13 → Nat) (hs : ∀ (n : Nat) (a1 : A1) (a2 : A2) (a3 : A3) (a4 : A4) (a5 : A5) (a6 : A6) (a7 : A7) (a8 : A8) (a9 : A9) (a10 : A10) (a11 : A11) (a12 : A12) (a13 : A13), I a1 a2 a3 a4 a5 a6 a7 a8 a9 a10 a11 a12 a13 → (∀ (b1 : A1) (b2 : A2) (b3 : A3) (b4 : A4) (b5 : A5) (b6 : A6) (b7 : A7) (b8 : A8) (b9 : A9) (b10 : A10) (b11 : A11) (b12 : A12) (b13 : A13), I b1 b2 b3 b4 b5 b6 b7 b8 b9 b10 b11 b12 b13 → μ b1 b2 b3 b4 b5 b6 b7 b8 b9 b10 b11 b12 b13 < μ a1 a2 a3 a4 a5 a6 a7 a8 a9 a10 a11 a12 a13 → W n b1 b2 b3 b4 b5 b6 b7 b8 b9 b10 b11 b12 b13) → W (n + 1) a1 a2 a3 a4 a5 a6 a7 a8 a9 a10 a11 a12 a13) (a1 : A1) (a2 : A2) (a3 : A3) (a4 : A4) (a5 : A5) (a6 : A6) (a7 : A7) (a8 : A8) (a9 : A9) (a10 : A10) (a11 : A11) (a12 : A12) (a13 : A13) (h : I a1 a2 a3 a4 a5 a6 a7 a8 a9 a10 a11 a12 a13) : ∃ n, W n a1 a2 a3 a4 a5 a6 a7 a8 a9 a10 a11 a12 a13 :=
  loop_m (σ := A1 × A2 × A3 × A4 × A5 × A6 × A7 × A8 × A9 × A10 × A11 × A12 × A13) (fun n s => W n s.1 s.2.1 s.2.2.1 s.2.2.2.1 s.2.2.2.2.1 s.2.2.2.2.2.1 s.2.2.2.2.2.2.1 s.2.2.2.2.2.2.2.1 s.2.2.2.2.2.2.2.2.1 s.2.2.2.2.2.2.2.2.2.1 s.2.2.2.2.2.2.2.2.2.2.1 s.2.2.2.2.2.2.2.2.2.2.2.1 s.2.2.2.2.2.2.2.2.2.2.2.2) (fun s => I s.1 s.2.1 s.2.2.1 s.2.2.2.1 s.2.2.2.2.1 s.2.2.2.2.2.1 s.2.2.2.2.2.2.1 s.2.2.2.2.2.2.2.1 s.2.2.2.2.2.2.2.2.1 s.2.2.2.2.2.2.2.2.2.1 s.2.2.2.2.2.2.2.2.2.2.1 s.2.2.2.2.2.2.2.2.2.2.2.1 s.2.2.2.2.2.2.2.2.2.2.2.2) (fun s => μ s.1 s.2.1 s.2.2.1 s.2.2.2.1 s.2.2.2.2.1 s.2.2.2.2.2.1 s.2.2.2.2.2.2.1 s.2.2.2.2.2.2.2.1 s.2.2.2.2.2.2.2.2.1 s.2.2.2.2.2.2.2.2.2.1 s.2.2.2.2.2.2.2.2.2.2.1 s.2.2.2.2.2.2.2.2.2.2.2.1 s.2.2.2.2.2.2.2.2.2.2.2.2) (fun n s hI hk => hs n s.1 s.2.1 s.2.2.1 s.2.2.2.1 s.2.2.2.2.1 s.2.2.2.2.2.1 s.2.2.2.2.2.2.1 s.2.2.2.2.2.2.2.1 s.2.2.2.2.2.2.2.2.1 s.2.2.2.2.2.2.2.2.2.1 s.2.2.2.2.2.2.2.2.2.2.1 s.2.2.2.2.2.2.2.2.2.2.2.1 s.2.2.2.2.2.2.2.2.2.2.2.2 hI (fun b1 b2 b3 b4 b5 b6 b7 b8 b9 b10 b11 b12 b13 h9 hm => hk (b1, b2, b3, b4, b5, b6, b7, b8, b9, b10, b11, b12, b13) h9 hm)) (a1, a2, a3, a4, a5, a6, a7, a8, a9, a10, a11, a12, a13) h
theorem lp14 {A1 A2 A3 A4 A5 A6 A7 A8 A9 A10 A11 A12 A13 A14 : Type} (W : Nat → A1 → A2 → A3 → A4 → A5 → A6 → A7 → A8 → A9 → A10 → A11 → A12 → A13 → A14 → Prop) (I : A1 → A2 → A3 → A4 → A5 → A6 → A7 → A8 → A9 → A10 → A11 → A12 → A13 → A14 → Prop) (μ : A1 → A2 → A3 → A4 → A5 → A6 → A7 → A8 → A9 → A10 → A11 → A12 → A13 → A14 → Nat) (hs : ∀ (n : Nat) (a1 : A1) (a2 : A2) (a3 : A3) (a4 : A4) (a5 : A5) (a6 : A6) (a7 : A7) (a8 : A8) (a9 : A9) (a10 : A10) (a11 : A11) (a12 : A12) (a13 : A13) (a14 : A14), I a1 a2 a3 a4 a5 a6 a7 a8 a9 a10 a11 a12 a13 a14 → (∀ (b1 : A1) (b2 : A2) (b3 : A3) (b4 : A4) (b5 : A5) (b6 : A6) (b7 : A7) (b8 : A8) (b9 : A9) (b10 : A10) (b11 : A11) (b12 : A12) (b13 : A13) (b14 : A14), I b1 b2 b3 b4 b5 b6 b7 b8 b9 b10 b11 b12 b13 b14 → μ b1 b2 b3 b4 b5 b6 b7 b8 b9 b10 b11 b12 b13 b14 < μ a1 a2 a3 a4 a5 a6 a7 a8 a9 a10 a11 a12 a13 a14 → W n b1 b2 b3 b4 b5 b6 b7 b8 b9 b10 b11 b12 b13 b14) → W (n + 1) a1 a2 a3 a4 a5 a6 a7 a8 a9 a10 a11 a12 a13 a14) (a1 : A1) (a2 : A2) (a3 : A3) (a4 : A4) (a5 : A5) (a6 : A6) (a7 : A7) (a8 : A8) (a9 : A9) (a10 : A10) (a11 : A11) (a12 : A12) (a13 : A13) (a14 : A14) (h : I a1 a2 a3 a4 a5 a6 a7 a8 a9 a10 a11 a12 a13 a14) : ∃ n, W n a1 a2 a3 a4 a5 a6 a7 a8 a9 a10 a11 a12 a13 a14 :=
  loop_m (σ := A1 × A2 × A3 × A4 × A5 × A6 × A7 × A8 × A9 × A10 × A11 × A12 × A13 × A14) (fun n s => W n s.1 s.2.1 s.2.2.1 s.2.2.2.1 s.2.2.2.2.1 s.2.2.2.2.2.1 s.2.2.2.2.2.2.1 s.2.2.2.2.2.2.2.1 s.2.2.2.2.2.2.2.2.1 s.2.2.2.2.2.2.2.2.2.1 s.2.2.2.2.2.2.2.2.2.2.1 s.2.2.2.2.2.2.2.2.2.2.2.1 s.2.2.2.2.2.2.2.2.2.2.2.2.1 s.2.2.2.2.2.2.2.2.2.2.2.2.2) (fun s => I s.1 s.2.1 s.2.2.1 s.2.2.2.1 s.2.2.2.2.1 s.2.2.2.2.2.1 s.2.2.2.2.2.2.1 s.2.2.2.2.2.2.2.1 s.2.2.2.2.2.2.2.2.1 s.2.2.2.2.2.2.2.2.2.1 s.2.2.2.2.2.2.2.2.2.2.1 s.2.2.2.2.2.2.2.2.2.2.2.1 s.2.2.2.2.2.2.2.2.2.2.2.2.1 s.2.2.2.2.2.2.2.2.2.2.2.2.2) (fun s => μ s.1 s.2.1 s.2.2.1 s.2.2.2.1 s.2.2.2.2.1 s.2.2.2.2.2.1 s.2.2.2.2.2.2.1 s.2.2.2.2.2.2.2.1 s.2.2.2.2.2.2.2.2.1 s.2.2.2.2.2.2.2.2.2.1 s.2.2.2.2.2.2.2.2.2.2.1 s.2.2.2.2.2.2.2.2.2.2.2.1 s.2.2.2.2.2.2.2.2.2.2.2.2.1 s.2.2.2.2.2.2.2.2.2.2.2.2.2) (fun n s hI hk => hs n s.1 s.2.1 s.2.2.1 s.2.2.2.1 s.2.2.2.2.1 s.2.2.2.2.2.1 s.2.2.2.2.2.2.1 s.2.2.2.2.2.2.2.1 s.2.2.2.2.2.2.2.2.1 s.2.2.2.2.2.2.2.2.2.1 s.2.2.2.2.2.2.2.2.2.2.1 s.2.2.2.2.2.2.2.2.2.2.2.1 s.2.2.2.2.2.2.2.2.2.2.2.2.1 s.2.2.2.2.2.2.2.2.2.2.2.2.2 hI (fun b1 b2 b3 b4 b5 b6 b7 b8 b9 b10 b11 b12 b13 b14 h9 hm => hk (b1, b2, b3, b4, b5, b6, b7, b8, b9, b10, b11, b12, b13, b14) h9 hm)) (a1, a2, a3, a4, a5, a6, a7, a8, a9, a10, a11, a12, a13, a14) h
theorem lp15 {A1 A2 A3 A4 A5 A6 A7 A8 A9 A10 A11 A12 A13 A14 A15 : Type} (W : Nat → A1 → A2 → A3 → A4 → A5 → A6 → A7 → A8 → A9 → A10 → A11 → A12 → A13 → A14 → A15 → Prop) (I : A1 → A2 → A3 → A4 → A5 → A6 → A7 → A8 → A9 → A10 → A11 → A12 → A13 → A14 → A15 → Prop) (μ : A1 → A2 → A3 → A4 → A5 → A6 → A7 → A8 → A9 → A10 → A11 → A12 → A13 → A14 → A15 → Nat) (hs : ∀ (n : Nat) (a1 : A1) (a2 : A2) (a3 : A3) (a4 : A4) (a5 : A5) (a6 : A6) (a7 : A7) (a8 : A8) (a9 : A9) (a10 : A10) (a11 : A11) (a12 : A12) (a13 : A13) (a14 : A14) (a15 : A15), I a1 a2 a3 a4 a5 a6 a7 a8 a9 a10 a11 a12 a13 a14 a15 → (∀ (b1 : A1) (b2 : A2) (b3 : A3) (b4 : A4) (b5 : A5) (b6 : A6) (b7 : A7) (b8 : A8) (b9 : A9) (b10 : A10) (b11 : A11) (b12 : A12) (b13 : A13) (b14 : A14) (b15 : A15), I b1 b2 b3 b4 b5 b6 b7 b8 b9 b10 b11 b12 b13 b14 b15 → μ b1 b2 b3 b4 b5 b6 b7 b8 b9 b10 b11 b12 b13 b14 b15 < μ a1 a2 a3 a4 a5 a6 a7 a8 a9 a10 a11 a12 a13 a14 a15 → W n b1 b2 b3 b4 b5 b6 b7 b8 b9 b10 b11 b12 b13 b14 b15) → W (n + 1) a1 a2 a3 a4 a5 a6 a7 a8 a9 a10 a11 a12 a13 a14 a15) (a1 : A1) (a2 : A2) (a3 : A3) (a4 : A4) (a5 : A5) (a6 : A6) (a7 : A7) (a8 : A8) (a9 : A9) (a10 : A10) (a11 : A11) (a12 : A12) (a13 : A13) (a14 : A14) (a15 : A15) (h : I a1 a2 a3 a4 a5 a6 a7 a8 a9 a10 a11 a12 a13 a14 a15) : ∃ n, W n a1 a2 a3 a4 a5 a6 a7 a8 a9 a10 a11 a12 a13 a14 a15 :=
  loop_m (σ := A1 × A2 × A3 × A4 × A5 × A6 × A7 × A8 × A9 × A10 × A11 × A12 × A13 × A14 × A15) (fun n s => W n s.1 s.2.1 s.2.2.1 s.2.2.2.1 s.2.2.2.2.1 s.2.2.2.2.2.1 s.2.2.2.2.2.2.1 s.2.2.2.2.2.2.2.1 s.2.2.2.2.2.2.2.2.1 s.2.2.2.2.2.2.2.2.2.1 s.2.2.2.2.2.2.2.2.2.2.1 s.2.2.2.2.2.2.2.2.2.2.2.1 s.2.2.2.2.2.2.2.2.2.2.2.2.1 s.2.2.2.2.2.2.2.2.2.2.2.2.2.1 s.2.2.2.2.2.2.2.2.2.2.2.2.2.2) (fun s => I s.1 s.2.1 s.2.2.1 s.2.2.2.1 s.2.2.2.2.1 s.2.2.2.2.2.1 s.2.2.2.2.2.2.1 s.2.2.2.2.2.2.2.1 s.2.2.2.2.2.2.2.2.1 s.2.2.2.2.2.2.2.2.2.1 s.2.2.2.2.2.2.2.2.2.2.1 s.2.2.2.2.2.2.2.2.2.2.2.1 s.2.2.2.2.2.2.2.2.2.2.2.2.1 s.2.2.2.2.2.2.2.2.2.2.2.2.2.1 s.2.2.2.2.2.2.2.2.2.2.2.2.2.2) (fun s => μ s.1 s.2.1 s.2.2.1 s.2.2.2.1 s.2.2.2.2.1 s.2.2.2.2.2.1 s.2.2.2.2.2.2.1 s.2.2.2.2.2.2.2.1 s.2.2.2.2.2.2.2.2.1 s.2.2.2.2.2.2.2.2.2.1 s.2.2.2.2.2.2.2.2.2.2.1 s.2.2.2.2.2.2.2.2.2.2.2.1 s.2.2.2.2.2.2.2.2.2.2.2.2.1 s.2.2.2.2.2.2.2.2.2.2.2.2.2.1 s.2.2.2.2.2.2.2.2.2.2.2.2.2.2) (fun n s hI hk => hs n s.1 s.2.1 s.2.2.1 s.2.2.2.1 s.2.2.2.2.1 s.2.2.2.2.2.1 s.2.2.2.2.2.2.1 s.2.2.2.2.2.2.2.1 s.2.2.2.2.2.2.2.2.1 s.2.2.2.2.2.2.2.2.2.1 s.2.2.2.2.2.2.2.2.2.2.1 s.2.2.2.2.2.2.2.2.2.2.2.1 s.2.2.2.2.2.2.2.2.2.2.2.2.1 s.2.2.2.2.2.2.2.2.2.2.2.2.2.1 s.2.2.2.2.2.2.2.2.2.2.2.2.2.2 hI (fun b1 b2 b3 b4 b5 b6 b7 b8 b9 b10 b11 b12 b13 b14 b15 h9 hm => hk (b1, b2, b3, b4, b5, b6, b7, b8, b9, b10, b11, b12, b13, b14, b15) h9 hm)) (a1, a2, a3, a4, a5, a6, a7, a8, a9, a10, a11, a12, a13, a14, a15) h
theorem lp16 {A1 A2 A3 A4 A5 A6 A7 A8 A9 A10 A11 A12 A13 A14 A15 A16 : Type} (W : Nat → A1 → A2 → A3 → A4 → A5 → A6 → A7 → A8 → A9 → A10 → A11 → A12 → A13 → A14 → A15 → A16 → Prop) (I : A1 → A2 → A3 → A4 → A5 → A6 → A7 → A8 → A9 → A10 → A11 → A12 → A13 → A14 → A15 → A16 → Prop) (μ : A1 → A2 → A3 → A4 → A5 → A6 → A7 → A8 → A9 → A10 → A11 → A12 → A13 → A14 → A15 → A16 → Nat) (hs : ∀ (n : Nat) (a1 : A1) (a2 : A2) (a3 : A3) (a4 : A4) (a5 : A5) (a6 : A6) (a7 : A7) (a8 : A8) (a9 : A9) (a10 : A10) (a11 : A11) (a12 : A12) (a13 : A13) (a14 : A14) (a15 : A15) (a16 : A16), I a1 a2 a3 a4 a5 a6 a7 a8 a9 a10 a11 a12 a13 a14 a15 a16 → (∀ (b1 : A1) (b2 : A2) (b3 : A3) (b4 : A4) (b5 : A5) (b6 : A6) (b7 : A7) (b8 : A8) (b9 : A9) (b10 : A10) (b11 : A11) (b12 : A12) (b13 : A13) (b14 : A14) (b15 : A15) (b16 : A16), I b1 b2 b3 b4 b5 b6 b7 b8 b9 b10 b11 b12 b13 b14 b15 b16 → μ b1 b2 b3 b4 b5 b6 b7 b8 b9 b10 b11 b12 b13 b14 b15 b16 < μ a1 a2 a3 a4 a5 a6 a7 a8 a9 a10 a11 a12 a13 a14 a15 a16 → W n b1 b2 b3 b4 b5 b6 b7 b8 b9 b10 b11 b12 b13 b14 b15 b16) → W (n + 1) a1 a2 a3 a4 a5 a6 a7 a8 a9 a10 a11 a12 a13 a14 a15 a16) (a1 : A1) (a2 : A2) (a3 : A3) (a4 : A4) (a5 : A5) (a6 : A6) (a7 : A7) (a8 : A8) (a9 : A9) (a10 : A10) (a11 : A11) (a12 : A12) (a13 : A13) (a14 : A14) (a15 : A15) (a16 : A16) (h : I a1 a2 a3 a4 a5 a6 a7 a8 a9 a10 a11 a12 a13 a14 a15 a16) : ∃ n, W n a1 a2 a3 a4 a5 a6 a7 a8 a9 a10 a11 a12 a13 a14 a15 a16 :=
  loop_m (σ := A1 × A2 × A3 × A4 × A5 × A6 × A7 × A8 × A9 × A10 × A11 × A12 × A13 × A14 × A15 × A16) (fun n s => W n s.1 s.2.1 s.2.2.1 s.2.2.2.1 s.2.2.2.2.1 s.2.2.2.2.2.1 s.2.2.2.2.2.2.1 s.2.2.2.2.2.2.2.1 s.2.2.2.2.2.2.2.2.1 s.2.2.2.2.2.2.2.2.2.1 s.2.2.2.2.2.2.2.2.2.2.1 s.2.2.2.2.2.2.2.2.2.2.2.1 s.2.2.2.2.2.2.2.2.2.2.2.2.1 s.2.2.2.2.2.2.2.2.2.2.2.2.2.1 s.2.2.2.2.2.2.2.2.2.2.2.2.2.2.1 s.2.2.2.2.2.2.2.2.2.2.2.2.2.2.2) (fun s => I s.1 s.2.1 s.2.2.1 s.2.2.2.1 s.2.2.2.2.1 s.2.2.2.2.2.1 s.2.2.2.2.2.2.1 s.2.2.2.2.2.2.2.1 s.2.2.2.2.2.2.2.2.1 s.2.2.2.2.2.2.2.2.2.1 s.2.2.2.2.2.2.2.2.2.2.1 s.2.2.2.2.2.2.2.2.2.2.2.1 s.2.2.2.2.2.2.2.2.2.2.2.2.1 s.2.2.2.2.2.2.2.2.2.2.2.2.2.1 s.2.2.2.2.2.2.2.2.2.2.2.2.2.2.1 s.2.2.2.2.2.2.2.2.2.2.2.2.2.2.2) (fun s => μ s.1 s.2.1 s.2.2.1 s.2.2.2.1 s.2.2.2.2.1 s.2.2.2.2.2.1 s.2.2.2.2.2.2.1 s.2.2.2.2.2.2.2.1 s.2.2.2.2.2.2.2.2.1 s.2.2.2.2.2.2.2.2.2.1 s.2.2.2.2.2.2.2.2.2.2.1 s.2.2.2.2.2.2.2.2.2.2.2.1 s.2.2.2.2.2.2.2.2.2.2.2.2.1 s.2.2.2.2.2.2.2.2.2.2.2.2.2.1 s.2.2.2.2.2.2.2.2.2.2.2.2.2.2.1 s.2.2.2.2.2.2.2.2.2.2.2.2.2.2.2) (fun n s hI hk => hs n s.1 s.2.1 s.2.2.1 s.2.2.2.1 s.2.2.2.2.1 s.2.2.2.2.2.1 s.2.2.2.2.2.2.1 s.2.2.2.2.2.2.2.1 s.2.2.2.2.2.2.2.2.1 s.2.2.2.2.2.2.2.2.2.1 s.2.2.2.2.2.2.2.2.2.2.1 s.2.2.2.2.2.2.2.2.2.2.2.1 s.2.2.2.2.2.2.2.2.2.2.2.2.1 s.2.2.2.2.2.2.2.2.2.2.2.2.2.1 s.2.2.2.2.2.2.2.2.2.2.2.2.2.2.1 s.2.2.2.2.2.2.2.2.2.2.2.2.2.2.2 hI (fun b1 b2 b3 b4 b5 b6 b7 b8 b9 b10 b11 b12 b13 b14 b15 b16 h9 hm => hk (b1, b2, b3, b4, b5, b6, b7, b8, b9, b10, b11, b12, b13, b14, b15, b16) h9 hm)) (a1, a2, a3, a4, a5, a6, a7, a8, a9, a10, a11, a12, a13, a14, a15, a16) h
theorem pk_least (P : Nat → Prop) (h : ∃ k, P k) : ∃ k, P k ∧ ∀ j, j < k → ¬ P j := by
  obtain ⟨k, hk⟩ := h
  induction k using Nat.strongRecOn with
  | ind k ih =>
    by_cases e : ∃ j, j < k ∧ P j
    · obtain ⟨j, hj, pj⟩ := e
      exact ih j hj pj
    · exact ⟨k, hk, fun j hj pj => e ⟨j, hj, pj⟩⟩
theorem rp1 {ρ A1 : Type} (W : Nat → (ρ → Prop) → A1 → Prop) (ok : A1 → Prop) (μ : A1 → Nat) (val : A1 → ρ)
    (hs : ∀ (d : Nat) (post : ρ → Prop) (a1 : A1), ok a1 → post (val a1) → (∀ (post' : ρ → Prop) (b1 : A1), ok b1 → μ b1 < μ a1 → post' (val b1) → W d post' b1) → W (d + 1) post a1) :
    ∀ (d : Nat) (post : ρ → Prop) (a1 : A1), ok a1 → μ a1 < d → post (val a1) → W d post a1 := by
  intro d
  induction d with
  | zero => intro post a1 _ h; omega
  | succ d ih =>
    intro post a1 ho hm hp
    exact hs d post a1 ho hp (fun post' b1 ho' hm' hp' => ih post' b1 ho' (by omega) hp')
theorem rp2 {ρ A1 A2 : Type} (W : Nat → (ρ → Prop) → A1 → A2 → Prop) (ok : A1 → A2 → Prop) (μ : A1 → A2 → Nat) (val : A1 → A2 → ρ)
    (hs : ∀ (d : Nat) (post : ρ → Prop) (a1 : A1) (a2 : A2), ok a1 a2 → post (val a1 a2) → (∀ (post' : ρ → Prop) (b1 : A1) (b2 : A2), ok b1 b2 → μ b1 b2 < μ a1 a2 → post' (val b1 b2) → W d post' b1 b2) → W (d + 1) post a1 a2) :
    ∀ (d : Nat) (post : ρ → Prop) (a1 : A1) (a2 : A2), ok a1 a2 → μ a1 a2 < d → post (val a1 a2) → W d post a1 a2 := by
  intro d
  induction d with
  | zero => intro post a1 a2 _ h; omega
  | succ d ih =>
    intro post a1 a2 ho hm hp
    exact hs d post a1 a2 ho hp (fun post' b1 b2 ho' hm' hp' => ih post' b1 b2 ho' (by omega) hp')
theorem rp3 {ρ A1 A2 A3 : Type} (W : Nat → (ρ → Prop) → A1 → A2 → A3 → Prop) (ok : A1 → A2 → A3 → Prop) (μ : A1 → A2 → A3 → Nat) (val : A1 → A2 → A3 → ρ)
    (hs : ∀ (d : Nat) (post : ρ → Prop) (a1 : A1) (a2 : A2) (a3 : A3), ok a1 a2 a3 → post (val a1 a2 a3) → (∀ (post' : ρ → Prop) (b1 : A1) (b2 : A2) (b3 : A3), ok b1 b2 b3 → μ b1 b2 b3 < μ a1 a2 a3 → post' (val b1 b2 b3) → W d post' b1 b2 b3) → W (d + 1) post a1 a2 a3) :
    ∀ (d : Nat) (post : ρ → Prop) (a1 : A1) (a2 : A2) (a3 : A3), ok a1 a2 a3 → μ a1 a2 a3 < d → post (val a1 a2 a3) → W d post a1 a2 a3 := by
  intro d
  induction d with
  | zero => intro post a1 a2 a3 _ h; omega
  | succ d ih =>
    intro post a1 a2 a3 ho hm hp
    exact hs d post a1 a2 a3 ho hp (fun post' b1 b2 b3 ho' hm' hp' => ih post' b1 b2 b3 ho' (by omega) hp')
theorem rp4 {ρ A1 A2 A3 A4 : Type} (W : Nat → (ρ → Prop) → A1 → A2 → A3 → A4 → Prop) (ok : A1 → A2 → A3 → A4 → Prop) (μ : A1 → A2 → A3 → A4 → Nat) (val : A1 → A2 → A3 → A4 → ρ)
    (hs : ∀ (d : Nat) (post : ρ → Prop) (a1 : A1) (a2 : A2) (a3 : A3) (a4 : A4), ok a1 a2 a3 a4 → post (val a1 a2 a3 a4) → (∀ (post' : ρ → Prop) (b1 : A1) (b2 : A2) (b3 : A3) (b4 : A4), ok b1 b2 b3 b4 → μ b1 b2 b3 b4 < μ a1 a2 a3 a4 → post' (val b1 b2 b3 b4) → W d post' b1 b2 b3 b4) → W (d + 1) post a1 a2 a3 a4) :
    ∀ (d : Nat) (post : ρ → Prop) (a1 : A1) (a2 : A2) (a3 : A3) (a4 : A4), ok a1 a2 a3 a4 → μ a1 a2 a3 a4 < d → post (val a1 a2 a3 a4) → W d post a1 a2 a3 a4 := by
  intro d
  induction d with
  | zero => intro post a1 a2 a3 a4 _ h; omega
  | succ d ih =>
    intro post a1 a2 a3 a4 ho hm hp
    exact hs d post a1 a2 a3 a4 ho hp (fun post' b1 b2 b3 b4 ho' hm' hp' => ih post' b1 b2 b3 b4 ho' (by omega) hp')
theorem rp5 {ρ A1 A2 A3 A4 A5 : Type} (W : Nat → (ρ → Prop) → A1 → A2 → A3 → A4 → A5 → Prop) (ok : A1 → A2 → A3 → A4 → A5 → Prop) (μ : A1 → A2 → A3 → A4 → A5 → Nat) (val : A1 → A2 → A3 → A4 → A5 → ρ)
    (hs : ∀ (d : Nat) (post : ρ → Prop) (a1 : A1) (a2 : A2) (a3 : A3) (a4 : A4) (a5 : A5), ok a1 a2 a3 a4 a5 → post (val a1 a2 a3 a4 a5) → (∀ (post' : ρ → Prop) (b1 : A1) (b2 : A2) (b3 : A3) (b4 : A4) (b5 : A5), ok b1 b2 b3 b4 b5 → μ b1 b2 b3 b4 b5 < μ a1 a2 a3 a4 a5 → post' (val b1 b2 b3 b4 b5) → W d post' b1 b2 b3 b4 b5) → W (d + 1) post a1 a2 a3 a4 a5) :
    ∀ (d : Nat) (post : ρ → Prop) (a1 : A1) (a2 : A2) (a3 : A3) (a4 : A4) (a5 : A5), ok a1 a2 a3 a4 a5 → μ a1 a2 a3 a4 a5 < d → post (val a1 a2 a3 a4 a5) → W d post a1 a2 a3 a4 a5 := by
  intro d
  induction d with
  | zero => intro post a1 a2 a3 a4 a5 _ h; omega
  | succ d ih =>
    intro post a1 a2 a3 a4 a5 ho hm hp
    exact hs d post a1 a2 a3 a4 a5 ho hp (fun post' b1 b2 b3 b4 b5 ho' hm' hp' => ih post' b1 b2 b3 b4 b5 ho' (by omega) hp')
theorem rp6 {ρ A1 A2 A3 A4 A5 A6 : Type} (W : Nat → (ρ → Prop) → A1 → A2 → A3 → A4 → A5 → A6 → Prop) (ok : A1 → A2 → A3 → A4 → A5 → A6 → Prop) (μ : A1 → A2 → A3 → A4 → A5 → A6 → Nat) (val : A1 → A2 → A3 → A4 → A5 → A6 → ρ)
    (hs : ∀ (d : Nat) (post : ρ → Prop) (a1 : A1) (a2 : A2) (a3 : A3) (a4 : A4) (a5 : A5) (a6 : A6), ok a1 a2 a3 a4 a5 a6 → post (val a1 a2 a3 a4 a5 a6) → (∀ (post' : ρ → Prop) (b1 : A1) (b2 : A2) (b3 : A3) (b4 : A4) (b5 : A5) (b6 : A6), ok b1 b2 b3 b4 b5 b6 → μ b1 b2 b3 b4 b5 b6 < μ a1 a2 a3 a4 a5 a6 → post' (val b1 b2 b3 b4 b5 b6) → W d post' b1 b2 b3 b4 b5 b6) → W (d + 1) post a1 a2 a3 a4 a5 a6) :
    ∀ (d : Nat) (post : ρ → Prop) (a1 : A1) (a2 : A2) (a3 : A3) (a4 : A4) (a5 : A5) (a6 : A6), ok a1 a2 a3 a4 a5 a6 → μ a1 a2 a3 a4 a5 a6 < d → post (val a1 a2 a3 a4 a5 a6) → W d post a1 a2 a3 a4 a5 a6 := by
  intro d
  induction d with
  | zero => intro post a1 a2 a3 a4 a5 a6 _ h; omega
  | succ d ih =>
    intro post a1 a2 a3 a4 a5 a6 ho hm hp
    exact hs d post a1 a2 a3 a4 a5 a6 ho hp (fun post' b1 b2 b3 b4 b5 b6 ho' hm' hp' => ih post' b1 b2 b3 b4 b5 b6 ho' (by omega) hp')
theorem rec_p {σ ρ : Type} (W : Nat → (ρ → Prop) → σ → Prop) (ok : σ → Prop) (μ : σ → Nat) (val : σ → ρ)
    (hs : ∀ d s post, ok s → post (val s) → (∀ s' post', ok s' → μ s' < μ s → post' (val s') → W d post' s') → W (d + 1) post s) :
    ∀ d s post, ok s → μ s < d → post (val s) → W d post s := by
  intro d
  induction d with
  | zero => intro s post _ h; omega
  | succ d ih =>
    intro s post ho hm hp
    exact hs d s post ho hp (fun s' post' ho' hm' hp' => ih s' post' ho' (by omega) hp')
theorem rec_q {σ ρ : Type} (W : Nat → (ρ → Prop) → σ → Prop) (ok : σ → Prop) (μ : σ → Nat) (Q : σ → ρ → Prop)
    (hs : ∀ d s post, ok s → (∀ r, Q s r → post r) → (∀ s' post', ok s' → μ s' < μ s → (∀ r, Q s' r → post' r) → W d post' s') → W (d + 1) post s) :
    ∀ d s post, ok s → μ s < d → (∀ r, Q s r → post r) → W d post s := by
  intro d
  induction d with
  | zero => intro s post _ h; omega
  | succ d ih =>
    intro s post ho hm hp
    exact hs d s post ho hp (fun s' post' ho' hm' hp' => ih s' post' ho' (by omega) hp')
def bx_sum (f : Nat → Int32) : Nat → Int32
  | 0 => 0
  | n + 1 => bx_sum f n + f n
theorem ek_u {A : Prop} {B : Nat → Prop} {k N : Nat} (hk : k < N) (h : B k) : (some k = none → A) ∧ (∀ y : Nat, some k = some y → (y < N ∧ B y)) :=
  ⟨fun z => absurd z (Option.some_ne_none k), fun _ e => (by cases e; exact ⟨hk, h⟩)⟩
theorem ek_nu {A : Prop} {B : Nat → Prop} (h : A) : ((none : Option Nat) = none → A) ∧ (∀ y : Nat, (none : Option Nat) = some y → B y) :=
  ⟨fun _ => h, fun _ e => (by cases e)⟩
theorem ek_if {c d A B : Prop} (e : c ↔ d) (f : d → A) (g : ¬ d → B) : (c → A) ∧ (¬ c → B) :=
  ⟨fun z => f (e.mp z), fun z => g (fun y => z (e.mpr y))⟩
theorem ek_v {α : Sort _} {P : α → Prop} {a b : α} (e : a = b) (h : P b) : P a := e ▸ h
theorem co_some {x : Option Nat} {A : Prop} {B : Nat → Prop} (i : Nat) (h : B i) (hx : x = some i := by rfl) : (x = none → A) ∧ (∀ y : Nat, x = some y → B y) := by
  subst hx
  exact ⟨fun e => (nomatch e), fun y e => Option.some.inj e ▸ h⟩
theorem co_none {x : Option Nat} {A : Prop} {B : Nat → Prop} (h : A) (hx : x = none := by rfl) : (x = none → A) ∧ (∀ y : Nat, x = some y → B y) := by
  subst hx
  exact ⟨fun _ => h, fun y e => (nomatch e)⟩
theorem co_any {x : Option Nat} {A : Prop} {B : Nat → Prop} (hn : x = none → A) (hs : ∀ i : Nat, x = some i → B i) : (x = none → A) ∧ (∀ y : Nat, x = some y → B y) := ⟨hn, hs⟩
theorem co_2 {P : Nat → Prop} (h0 : P 0) (h1 : P 1) {i : Nat} (hi : i < 2) : P i :=
  match i, hi with
  | 0, _ => h0
  | 1, _ => h1
theorem co_3 {P : Nat → Prop} (h0 : P 0) (h1 : P 1) (h2 : P 2) {i : Nat} (hi : i < 3) : P i :=
  match i, hi with
  | 0, _ => h0
  | 1, _ => h1
  | 2, _ => h2
theorem co_4 {P : Nat → Prop} (h0 : P 0) (h1 : P 1) (h2 : P 2) (h3 : P 3) {i : Nat} (hi : i < 4) : P i :=
  match i, hi with
  | 0, _ => h0
  | 1, _ => h1
  | 2, _ => h2
  | 3, _ => h3
theorem co_dec {N : Nat} {P : Nat → Prop} [DecidablePred P] (h : (List.range N).all (fun i => decide (P i)) = true) {i : Nat} (hi : i < N) : P i := by
  have := List.all_eq_true.mp h i (List.mem_range.mpr hi)
  exact of_decide_eq_true this
theorem co_tab {α : Type} {l : List α} {d : α} {P : α → Prop} (h : ∀ a, a ∈ l → P a) {i : Nat} (hi : i < l.length) : P (l.getD i d) := by
  rw [List.getD_eq_getElem?_getD, List.getElem?_eq_getElem hi]
  exact h _ (List.getElem_mem hi)
theorem pk_mu {x : Int32} {L : Nat} (h0 : ¬ x < 0) (h : ¬ nI L ≤ x) (hL : L < 2 ^ 31) : ∃ j : Nat, j < L ∧ x = nI j ∧ x + 1 = nI (j + 1) ∧ x.toNatClampNeg = j ∧ L - (x + 1).toNatClampNeg < L - x.toNatClampNeg := by
  obtain ⟨j, hj, rfl⟩ := nI_of h0
  have hl : j < L := Nat.not_le.mp fun q => h (nI_le q hj)
  refine ⟨j, hl, rfl, nI_1 j, nI_clamp hj, ?_⟩
  rw [nI_1, nI_clamp (by omega), nI_clamp hj]
  omega
theorem op_s {α : Type} {r : Option α} {A : Prop} {B : α → Prop} {y : α} (h : r = some y) (b : B y) : (r = none → A) ∧ ∀ z, r = some z → B z :=
  ⟨fun e => (by rw [h] at e; cases e), fun z e => (by rw [h] at e; cases e; exact b)⟩
def l_holds {α : Type} (a : Nat → Option Nat) (LP : List Nat) (p : Nat → α) (c : Nat) (b : Nat → α) : Prop :=
  ∀ j, j < c → ∃ y, a j = some y ∧ y ∈ LP ∧ p y = b j
theorem l_holds_0 {α : Type} {a : Nat → Option Nat} {LP : List Nat} {p b : Nat → α} : l_holds a LP p 0 b := fun j h => absurd h (Nat.not_lt_zero j)
theorem l_in_new (LP : List Nat) (q : Nat) : q ∈ LP ++ [q] := List.mem_append.mpr (Or.inr (List.mem_singleton.mpr rfl))
def l_sum (b : Nat → Int32) : Nat → Int32
  | 0 => 0
  | k + 1 => l_sum b k + b k
theorem sb_shr0 (x : Int32) : x >>> ((0 : Int32) &&& 31) = x := by
  rw [show ((0 : Int32) &&& 31) = 0 by decide]
  simp
theorem sb_shl0 (x : Int32) : x <<< ((0 : Int32) &&& 31) = x := by
  rw [show ((0 : Int32) &&& 31) = 0 by decide]
  simp
theorem sb_cl0 : (0 : Int32).toNatClampNeg = 0 := by decide
theorem sb_m1 {p : Nat} (h : 0 < p) : nI p + (-1) = nI (p - 1) := by
  obtain ⟨q, rfl⟩ : ∃ q, p = q + 1 := ⟨p - 1, by omega⟩
  exact pk_m1 q
def sb_b (c : Nat) : Int32 := (nI c).toInt8.toInt32
theorem sb_byte : ∀ c, c < 256 → sb_b c &&& 255 = nI c ∧ ((nI c).toUInt32 % 65536).toInt32 = nI c ∧ nI c ≤ 255 := by decide +kernel
def sb_Fit (a : Nat → Int32) : Prop := ∀ j, fits .byte (.int (a j)) = true
def sb_Lat (t : Nat → Nat) (n : Nat) (a : Nat → Int32) : Prop := ∀ j, j < n → t j < 256 ∧ a j = sb_b (t j)
theorem sb_fitB (c : Nat) : fits .byte (.int (sb_b c)) = true := pk_fb _
theorem sb_fit0 : sb_Fit (fun _ => 0) := fun _ => by
  show fits .byte (.int 0) = true
  decide
theorem sb_fitU {a : Nat → Int32} {k : Nat} {x : Int32} (h : sb_Fit a) (hx : fits .byte (.int x) = true) : sb_Fit (upd a k x) := by
  intro j
  by_cases e : j = k
  · subst e
    rw [pk_us]
    exact hx
  · rw [pk_un e]
    exact h j
def sb_cat (t : Nat → Nat) (n : Nat) (s : Nat → Nat) : Nat → Nat := fun j => if j < n then t j else s (j - n)
theorem sb_cat_lo {t s : Nat → Nat} {n j : Nat} (h : j < n) : sb_cat t n s j = t j := if_pos h
theorem sb_cat_hi {t s : Nat → Nat} {n j : Nat} : sb_cat t n s (n + j) = s j := by
  show (if n + j < n then t (n + j) else s (n + j - n)) = s j
  rw [if_neg (by omega), Nat.add_sub_cancel_left]
theorem sb_latPut {t s : Nat → Nat} {n w : Nat} {a a' : Nat → Int32} (h : sb_Lat t n a) (hk : ∀ j, j < n → a' j = a j) (hs : ∀ i, i < w → s i < 256 ∧ a' (n + i) = sb_b (s i)) : sb_Lat (sb_cat t n s) (n + w) a' := by
  intro j hj
  by_cases e : j < n
  · rw [sb_cat_lo e, hk j e]
    exact h j e
  · obtain ⟨i, rfl⟩ : ∃ i, j = n + i := ⟨j - n, by omega⟩
    rw [sb_cat_hi]
    exact hs i (by omega)
theorem sb_latKeep {t : Nat → Nat} {n : Nat} {a a' : Nat → Int32} (h : sb_Lat t n a) (hk : ∀ j, j < n → a' j = a j) : sb_Lat t n a' := fun j hj => by
  rw [hk j hj]
  exact h j hj
def sb_cap (q m : Nat) : Nat := if q ≤ m then m else if 2 * m + 2 < q then q else 2 * m + 2
def sb_Room (q m mc ms : Nat) : Prop := q ≤ m ∨ (1 ≤ mc ∧ sb_cap q m ≤ ms ∧ sb_cap q m ≤ 65536)
theorem sb_cap_ge (q m : Nat) : q ≤ sb_cap q m := by
  unfold sb_cap
  split
  · omega
  · split <;> omega
theorem sb_cap_gem (q m : Nat) : m ≤ sb_cap q m := by
  unfold sb_cap
  split
  · omega
  · split <;> omega
theorem sb_cap_le {q m mc ms : Nat} (hm : m ≤ 65536) (hr : sb_Room q m mc ms) : sb_cap q m ≤ 65536 := by
  rcases hr with h | h
  · rw [sb_cap, if_pos h]
    exact hm
  · exact h.2.2
theorem sb_at {P : Int32 → Prop} {x y : Int32} (e : x = y) (h : P y) : P x := e ▸ h
def sb_dg (w : Nat) : Nat := if w < 10 then 1 else if w < 100 then 2 else if w < 1000 then 3 else if w < 10000 then 4 else if w < 100000 then 5 else if w < 1000000 then 6 else if w < 10000000 then 7 else if w < 100000000 then 8 else if w < 1000000000 then 9 else 10
def sb_dec (v : Nat) : Nat → Nat := fun i => 48 + v / 10 ^ (sb_dg v - 1 - i) % 10
theorem sb_dg_in (w : Nat) : 1 ≤ sb_dg w ∧ sb_dg w ≤ 10 := by
  unfold sb_dg
  constructor <;> (repeat' split) <;> omega
theorem sb_dg100 {w : Nat} (h : 100 ≤ w) (hw : w < 2 ^ 31) : sb_dg w = sb_dg (w / 100) + 2 := by
  rw [sb_dg, sb_dg, if_neg (show ¬ w < 10 by omega), if_neg (show ¬ w < 100 by omega)]
  by_cases h3 : w < 1000
  · rw [if_pos h3, if_pos (show w / 100 < 10 by omega)]
  rw [if_neg h3, if_neg (show ¬ w / 100 < 10 by omega)]
  by_cases h4 : w < 10000
  · rw [if_pos h4, if_pos (show w / 100 < 100 by omega)]
  rw [if_neg h4, if_neg (show ¬ w / 100 < 100 by omega)]
  by_cases h5 : w < 100000
  · rw [if_pos h5, if_pos (show w / 100 < 1000 by omega)]
  rw [if_neg h5, if_neg (show ¬ w / 100 < 1000 by omega)]
  by_cases h6 : w < 1000000
  · rw [if_pos h6, if_pos (show w / 100 < 10000 by omega)]
  rw [if_neg h6, if_neg (show ¬ w / 100 < 10000 by omega)]
  by_cases h7 : w < 10000000
  · rw [if_pos h7, if_pos (show w / 100 < 100000 by omega)]
  rw [if_neg h7, if_neg (show ¬ w / 100 < 100000 by omega)]
  by_cases h8 : w < 100000000
  · rw [if_pos h8, if_pos (show w / 100 < 1000000 by omega)]
  rw [if_neg h8, if_neg (show ¬ w / 100 < 1000000 by omega)]
  by_cases h9 : w < 1000000000
  · rw [if_pos h9, if_pos (show w / 100 < 10000000 by omega)]
  rw [if_neg h9, if_neg (show ¬ w / 100 < 10000000 by omega)]
  rw [if_pos (show w / 100 < 100000000 by omega)]
theorem sb_negT {w : Nat} (h : w < 2 ^ 31) : (-nI w).toInt = -(w : Int) := by
  rw [Int32.toInt_neg, nI_toInt h]
  exact Int.bmod_eq_of_le (by omega) (by omega)
theorem sb_nle {a b : Nat} (ha : a < 2 ^ 31) (hb : b < 2 ^ 31) : -nI a ≤ -nI b ↔ b ≤ a := by
  rw [Int32.le_iff_toInt_le, sb_negT ha, sb_negT hb]
  omega
theorem sb_nlt {a b : Nat} (ha : a < 2 ^ 31) (hb : b < 2 ^ 31) : -nI a < -nI b ↔ b < a := by
  rw [Int32.lt_iff_toInt_lt, sb_negT ha, sb_negT hb]
  omega
theorem sb_cmp {A B : Prop} {x : Int32} (v c : Nat) (f : c ≤ v → A) (g : v < c → B) (hv : v < 2 ^ 31) (hx : x = -nI c := by rfl) (hc : c < 2 ^ 31 := by omega) : (-nI v ≤ x → A) ∧ (¬ -nI v ≤ x → B) := by
  subst hx
  rw [sb_nle hv hc]
  exact ⟨f, fun z => g (by omega)⟩
theorem sb_ndiv {w : Nat} (hw : w < 2 ^ 31) : (-nI w) / 100 = -nI (w / 100) := by
  apply Int32.toInt_inj.mp
  have h100 : (100 : Int32).toInt = 100 := by decide
  rw [Int32.toInt_div, sb_negT hw, h100, sb_negT (by omega), Int.neg_tdiv, Int.tdiv_eq_ediv_of_nonneg (by omega), Int.bmod_eq_of_le (by omega) (by omega)]
  omega
theorem sb_nrem {w : Nat} (hw : w < 2 ^ 31) : (-nI (w / 100)) * 100 - (-nI w) = nI (w % 100) := by
  have h := pk_rem (a := w) (d := 100) hw (by decide) (by decide)
  rw [pk_div hw (by decide) (by decide)] at h
  rw [← h]
  show (-nI (w / 100)) * nI 100 - (-nI w) = nI w - nI (w / 100) * nI 100
  rw [Int32.neg_mul, Int32.sub_neg, Int32.add_comm, ← Int32.sub_eq_add_neg]
end
section
/-! rows on bits, shifts and unsigned numbers, to paste: each family out of a closed proof of our own, whole with what it rests on; each by itself clean at Lean in its own claim (generation 39, form 5). Take a family whole -/
/-! ===== Int32 by its bits: bt x i ===== -/
def bt (x : Int32) (i : Nat) : Bool := x.toBitVec.getLsbD i
theorem b_ext {x y : Int32} (h : ∀ i, i < 32 → bt x i = bt y i) : x = y := Int32.toBitVec_inj.mp (BitVec.eq_of_getLsbD_eq (fun i hi => h i hi))
theorem b_or (x y : Int32) (i : Nat) : bt (x ||| y) i = (bt x i || bt y i) := by unfold bt; rw [Int32.toBitVec_or, BitVec.getLsbD_or]
theorem b_and (x y : Int32) (i : Nat) : bt (x &&& y) i = (bt x i && bt y i) := by unfold bt; rw [Int32.toBitVec_and, BitVec.getLsbD_and]
theorem b_xor (x y : Int32) (i : Nat) : bt (x ^^^ y) i = (bt x i ^^ bt y i) := by unfold bt; rw [Int32.toBitVec_xor, BitVec.getLsbD_xor]
theorem b_big {x : Int32} {i : Nat} (h : 32 ≤ i) : bt x i = false := BitVec.getLsbD_of_ge _ _ h
theorem b_255 (i : Nat) : bt 255 i = decide (i < 8) := by
  rcases Nat.lt_or_ge i 32 with h | h
  · exact (by decide +kernel : ∀ i, i < 32 → bt 255 i = decide (i < 8)) i h
  · rw [b_big h, decide_eq_false (by omega)]
theorem b_65535 (i : Nat) : bt 65535 i = decide (i < 16) := by
  rcases Nat.lt_or_ge i 32 with h | h
  · exact (by decide +kernel : ∀ i, i < 32 → bt 65535 i = decide (i < 16)) i h
  · rw [b_big h, decide_eq_false (by omega)]
theorem b_m1 : ∀ i, i < 32 → bt (-1) i = true := by decide +kernel
theorem b_0 (i : Nat) : bt 0 i = false := BitVec.getLsbD_zero
theorem s_l : ∀ n, n < 32 → ((nI n &&& 31).toBitVec.smod 32).toNat = n := by decide +kernel
theorem s_u : ∀ n, n < 32 → (((nI n).toUInt32 &&& Int32.toUInt32 31).toBitVec % 32).toNat = n := by decide +kernel
theorem b_shl (n : Nat) (hn : n < 32) (x : Int32) {i : Nat} (hi : i < 32) : bt (x <<< (nI n &&& 31)) i = (decide (n ≤ i) && bt x (i - n)) := by
  unfold bt
  rw [Int32.toBitVec_shiftLeft]
  show (x.toBitVec <<< ((nI n &&& 31).toBitVec.smod 32).toNat).getLsbD i = _
  rw [s_l n hn, BitVec.getLsbD_shiftLeft]
  rcases Nat.lt_or_ge i n with h | h
  · simp [h, Nat.not_le.mpr h]
  · simp [hi, h, Nat.not_lt.mpr h]
theorem b_ushr (n : Nat) (hn : n < 32) (x : Int32) (i : Nat) : bt ((x.toUInt32 >>> ((nI n).toUInt32 &&& Int32.toUInt32 31)).toInt32) i = bt x (n + i) := by
  show (x.toUInt32 >>> ((nI n).toUInt32 &&& Int32.toUInt32 31)).toBitVec.getLsbD i = x.toUInt32.toBitVec.getLsbD (n + i)
  rw [UInt32.toBitVec_shiftRight]
  show (x.toUInt32.toBitVec >>> (((nI n).toUInt32 &&& Int32.toUInt32 31).toBitVec % 32).toNat).getLsbD i = _
  rw [s_u n hn, BitVec.getLsbD_ushiftRight]
theorem b_sshr (n : Nat) (hn : n < 32) (x : Int32) {i : Nat} (hi : i < 32) : bt (x >>> (nI n &&& 31)) i = if n + i < 32 then bt x (n + i) else bt x 31 := by
  unfold bt
  rw [Int32.toBitVec_shiftRight]
  show (x.toBitVec.sshiftRight ((nI n &&& 31).toBitVec.smod 32).toNat).getLsbD i = _
  rw [s_l n hn, BitVec.getLsbD_sshiftRight, BitVec.msb_eq_getLsbD_last]
  simp [hi]
theorem b_shl8 (x : Int32) {i : Nat} (hi : i < 32) : bt (x <<< ((8 : Int32) &&& 31)) i = (decide (8 ≤ i) && bt x (i - 8)) := b_shl 8 (by omega) x hi
theorem b_shl16 (x : Int32) {i : Nat} (hi : i < 32) : bt (x <<< ((16 : Int32) &&& 31)) i = (decide (16 ≤ i) && bt x (i - 16)) := b_shl 16 (by omega) x hi
theorem b_shl24 (x : Int32) {i : Nat} (hi : i < 32) : bt (x <<< ((24 : Int32) &&& 31)) i = (decide (24 ≤ i) && bt x (i - 24)) := b_shl 24 (by omega) x hi
theorem b_sshr8 (x : Int32) {i : Nat} (hi : i < 32) : bt (x >>> ((8 : Int32) &&& 31)) i = if 8 + i < 32 then bt x (8 + i) else bt x 31 := b_sshr 8 (by omega) x hi
/-! ===== nI under and, xor, >>>, one bit, 65535 ===== -/
theorem nx_and (a b : Nat) : nI a &&& nI b = nI (a &&& b) := by
  apply Int32.toBitVec_inj.1
  show BitVec.ofNat 32 a &&& BitVec.ofNat 32 b = BitVec.ofNat 32 (a &&& b)
  apply BitVec.eq_of_getLsbD_eq
  intro i hi
  simp [hi]
theorem nx_xor (a b : Nat) : nI a ^^^ nI b = nI (a ^^^ b) := by
  apply Int32.toBitVec_inj.1
  show BitVec.ofNat 32 a ^^^ BitVec.ofNat 32 b = BitVec.ofNat 32 (a ^^^ b)
  apply BitVec.eq_of_getLsbD_eq
  intro i hi
  simp [hi]
theorem nx_cnt : ∀ j : Fin 32, (UInt32.ofNat j.val &&& Int32.toUInt32 31).toNat % 32 = j.val := by decide +kernel
theorem nx_ush {k j : Nat} (hk : k < 65536) (hj : j < 32) : ((nI k).toUInt32 >>> ((nI j).toUInt32 &&& Int32.toUInt32 31)).toInt32 = nI (k >>> j) := by
  have hs : k >>> j ≤ k := by
    rw [Nat.shiftRight_eq_div_pow]
    exact Nat.div_le_self _ _
  have e2 : UInt32.ofNat k >>> (UInt32.ofNat j &&& Int32.toUInt32 31) = UInt32.ofNat (k >>> j) := by
    apply UInt32.toNat_inj.1
    have h1 : (UInt32.ofNat k).toNat = k := Nat.mod_eq_of_lt (by omega)
    have h2 : (UInt32.ofNat (k >>> j)).toNat = k >>> j := Nat.mod_eq_of_lt (by omega)
    rw [UInt32.toNat_shiftRight, nx_cnt ⟨j, hj⟩, h1, h2]
  show (UInt32.ofNat k >>> (UInt32.ofNat j &&& Int32.toUInt32 31)).toInt32 = _
  rw [e2]
  rfl
theorem nx_bit {k j : Nat} (hk : k < 65536) (hj : j < 16) : (((nI k).toUInt32 >>> ((nI j).toUInt32 &&& Int32.toUInt32 31)).toInt32 &&& 1) = 0 ↔ k.testBit j = false := by
  rw [nx_ush hk (by omega)]
  show nI (k >>> j) &&& nI 1 = 0 ↔ _
  rw [nx_and, Nat.and_one_is_mod, ← nI_0, nI_eq (by omega) (by omega), Nat.testBit_eq_decide_div_mod_eq, Nat.shiftRight_eq_div_pow, decide_eq_false_iff_not]
  generalize k / 2 ^ j = z
  omega
theorem nx_mod (k : Nat) : nI k &&& 65535 = nI (k % 65536) := by
  show nI k &&& nI 65535 = _
  rw [nx_and, show (65535 : Nat) = 2 ^ 16 - 1 from rfl, Nat.and_two_pow_sub_one_eq_mod]
theorem nx_m16 {k : Nat} (h : k < 65536) : nI k &&& 65535 = nI k := by rw [nx_mod, Nat.mod_eq_of_lt h]
theorem nx_mask (x : Int32) : ∃ k, k < 65536 ∧ x &&& 65535 = nI k := by
  have e : x = nI x.toBitVec.toNat := by
    apply Int32.toBitVec_inj.1
    show x.toBitVec = BitVec.ofNat 32 x.toBitVec.toNat
    simp
  refine ⟨x.toBitVec.toNat % 65536, Nat.mod_lt _ (by omega), ?_⟩
  rw [← nx_mod, ← e]
end
section
/-! sums over Int32 and Nat, masks below 64 -/
theorem rb_or (a b : Nat) : nI a ||| nI b = nI (a ||| b) := by
  apply Int32.toBitVec_inj.1
  show BitVec.ofNat 32 a ||| BitVec.ofNat 32 b = BitVec.ofNat 32 (a ||| b)
  apply BitVec.eq_of_getLsbD_eq
  intro i hi
  simp [hi]
theorem rb_shl : ∀ c, c < 13 → (1 : Int32) <<< (nI c &&& 31) = nI (2 ^ c) := by decide +kernel
theorem rb_bit {a c : Nat} (ha : a < 2 ^ 31) (hc : c < 31) : (nI a >>> (nI c &&& 31)) &&& 1 = nI (a / 2 ^ c % 2) := by
  rw [pk_shrN ha (nI c &&& 31) c (s_l c (by omega))]
  have h := pk_andN (n := a / 2 ^ c) (Nat.lt_of_le_of_lt (Nat.div_le_self _ _) (by omega)) (m := 1) 1 (by decide)
  exact h
theorem rb_bit1 {a c : Nat} (ha : a < 2 ^ 31) (hc : c < 31) : ((nI a >>> (nI c &&& 31)) &&& 1 = 1) ↔ a.testBit c = true := by
  rw [rb_bit ha hc, Nat.testBit_eq_decide_div_mod_eq, decide_eq_true_iff]
  show nI (a / 2 ^ c % 2) = nI 1 ↔ _
  generalize a / 2 ^ c = z
  rw [nI_eq (by omega) (by omega)]
theorem rb_bit0 {a c : Nat} (ha : a < 2 ^ 31) (hc : c < 31) : ((nI a >>> (nI c &&& 31)) &&& 1 = 0) ↔ a.testBit c = false := by
  rw [rb_bit ha hc, Nat.testBit_eq_decide_div_mod_eq, decide_eq_false_iff_not]
  show nI (a / 2 ^ c % 2) = nI 0 ↔ _
  generalize a / 2 ^ c = z
  rw [nI_eq (by omega) (by omega)]
  omega
theorem rb_bitv {a c : Nat} (ha : a < 2 ^ 31) (hc : c < 31) : (nI a >>> (nI c &&& 31)) &&& 1 = nI (if a.testBit c then 1 else 0) := by
  rw [rb_bit ha hc, Nat.testBit_eq_decide_div_mod_eq]
  generalize a / 2 ^ c = z
  rcases Nat.mod_two_eq_zero_or_one z with h | h <;> simp [h]
theorem rb_andn : ∀ a, a < 64 → ∀ b, b < 64 → nI a &&& (nI b ^^^ (-1)) = nI (a &&& (63 ^^^ b)) := by decide +kernel
theorem rb_i8 : ∀ a, a < 128 → (nI a).toInt8.toInt32 = nI a := by decide +kernel
theorem rb_nb {a : Nat} (h : a < 128) : vp_nar .byte (nI a) = nI a := by rw [vp_nar_byte, rb_i8 a h]
theorem rb_nb8 {a : Nat} (h : a < 128) : vp_nar .byte (nI a).toInt8.toInt32 = nI a := by rw [rb_i8 a h, rb_nb h]
theorem rb_nbm : vp_nar .byte (-1) = -1 := by rw [vp_nar_byte]; decide
theorem rb_or64 {a b : Nat} (ha : a < 64) (hb : b < 64) : a ||| b < 64 := Nat.or_lt_two_pow (n := 6) ha hb
theorem rb_and64 {a : Nat} (ha : a < 64) (b : Nat) : a &&& b < 64 := Nat.lt_of_le_of_lt Nat.and_le_left ha
theorem rb_p64 {c : Nat} (h : c < 6) : 2 ^ c < 64 := Nat.pow_lt_pow_right (by omega) h (n := 6)
theorem rb_tbp (c d : Nat) : (2 ^ c).testBit d = decide (c = d) := Nat.testBit_two_pow
theorem rb_tbor (a c d : Nat) : (a ||| 2 ^ c).testBit d = (a.testBit d || decide (c = d)) := by
  rw [Nat.testBit_or, rb_tbp]
theorem rb_63 : ∀ d, d < 6 → (63 : Nat).testBit d = true := by decide
theorem rb_tbn (a b : Nat) {d : Nat} (hd : d < 6) : (a &&& (63 ^^^ b)).testBit d = (a.testBit d && !b.testBit d) := by
  rw [Nat.testBit_and, Nat.testBit_xor, rb_63 d hd]; simp
theorem rb_hi {a N : Nat} (h : a < 2 ^ N) {d : Nat} (hd : N ≤ d) : a.testBit d = false :=
  Nat.testBit_lt_two_pow (Nat.lt_of_lt_of_le h (Nat.pow_le_pow_right (by omega) hd))
theorem rb_orN {a c N : Nat} (h : a < 2 ^ N) (hc : c < N) : a ||| 2 ^ c < 2 ^ N :=
  Nat.or_lt_two_pow h (Nat.pow_lt_pow_right (by omega) hc)
theorem rb_pN {N : Nat} (h : N ≤ 6) : 2 ^ N ≤ 64 := Nat.pow_le_pow_right (n := 2) (j := 6) (by omega) h
/-- the number of the bits below n -/
def rb_pc (a : Nat) : Nat → Nat
  | 0 => 0
  | n + 1 => rb_pc a n + (if a.testBit n then 1 else 0)
theorem rb_pc_or {a c : Nat} (h : a.testBit c = false) : ∀ n, rb_pc (a ||| 2 ^ c) n = rb_pc a n + (if c < n then 1 else 0) := by
  intro n
  induction n with
  | zero => rfl
  | succ n ih =>
    rw [rb_pc, rb_pc, ih, rb_tbor]
    by_cases hc : c = n
    · subst hc; simp [h]
    · have e1 : decide (c = n) = false := decide_eq_false hc
      rw [e1, Bool.or_false]
      by_cases h2 : c < n
      · rw [if_pos h2, if_pos (show c < n + 1 by omega)]; omega
      · rw [if_neg h2, if_neg (show ¬ c < n + 1 by omega)]; omega
theorem rb_pc_le (a : Nat) : ∀ n, rb_pc a n ≤ n := by
  intro n
  induction n with
  | zero => exact Nat.le_refl _
  | succ n ih => rw [rb_pc]; split <;> omega
theorem rb_pc_0 : ∀ n, rb_pc 0 n = 0 := by
  intro n
  induction n with
  | zero => rfl
  | succ n ih => rw [rb_pc, ih, Nat.zero_testBit]; rfl
theorem rb_pc_congr {a b : Nat} : ∀ n, (∀ d, d < n → a.testBit d = b.testBit d) → rb_pc a n = rb_pc b n := by
  intro n
  induction n with
  | zero => intro _; rfl
  | succ n ih => intro h; rw [rb_pc, rb_pc, ih (fun d hd => h d (by omega)), h n (by omega)]
/-- sums of Int32 -/
def rb_sm (f : Nat → Int32) : Nat → Int32
  | 0 => 0
  | n + 1 => rb_sm f n + f n
def rb_sn (f : Nat → Nat) : Nat → Nat
  | 0 => 0
  | n + 1 => rb_sn f n + f n
theorem rb_sm_congr {f g : Nat → Int32} : ∀ n, (∀ i, i < n → f i = g i) → rb_sm f n = rb_sm g n := by
  intro n
  induction n with
  | zero => intro _; rfl
  | succ n ih => intro h; rw [rb_sm, rb_sm, ih (fun d hd => h d (by omega)), h n (by omega)]
theorem rb_sn_congr {f g : Nat → Nat} : ∀ n, (∀ i, i < n → f i = g i) → rb_sn f n = rb_sn g n := by
  intro n
  induction n with
  | zero => intro _; rfl
  | succ n ih => intro h; rw [rb_sn, rb_sn, ih (fun d hd => h d (by omega)), h n (by omega)]
theorem rb_sm_add (f g : Nat → Int32) (n : Nat) : rb_sm (fun i => f i + g i) n = rb_sm f n + rb_sm g n := by
  induction n with
  | zero => rfl
  | succ n ih => rw [rb_sm, rb_sm, rb_sm, ih]; grind
theorem rb_sm_mul (x : Int32) (f : Nat → Int32) (n : Nat) : rb_sm (fun i => x * f i) n = x * rb_sm f n := by
  induction n with
  | zero => simp [rb_sm]
  | succ n ih => rw [rb_sm, rb_sm, ih]; grind
theorem rb_sm_0 : ∀ n, rb_sm (fun _ => 0) n = 0 := by
  intro n
  induction n with
  | zero => rfl
  | succ n ih => rw [rb_sm, ih]; rfl
theorem rb_sm_z {f : Nat → Int32} (n : Nat) (h : ∀ i, i < n → f i = 0) : rb_sm f n = 0 := by
  rw [rb_sm_congr n (g := fun _ => 0) h, rb_sm_0]
theorem rb_sm_comm (f : Nat → Nat → Int32) (m : Nat) : ∀ n, rb_sm (fun i => rb_sm (fun j => f i j) m) n = rb_sm (fun j => rb_sm (fun i => f i j) n) m := by
  intro n
  induction n with
  | zero => show (0 : Int32) = rb_sm (fun _ => 0) m; rw [rb_sm_0]
  | succ n ih =>
    rw [rb_sm, ih, ← rb_sm_add]
    rfl
theorem rb_sm_one (k : Nat) (x : Int32) : ∀ n, rb_sm (fun i => if i = k then x else 0) n = if k < n then x else 0 := by
  intro n
  induction n with
  | zero => rfl
  | succ n ih =>
    rw [rb_sm, ih]
    rcases Nat.lt_trichotomy k n with h | h | h
    · rw [if_pos h, if_neg (by omega), if_pos (by omega)]; simp
    · rw [if_neg (by omega), if_pos h.symm, if_pos (by omega)]; simp
    · rw [if_neg (by omega), if_neg (by omega), if_neg (by omega)]; rfl
theorem rb_sm_nI (f : Nat → Nat) : ∀ n, nI (rb_sn f n) = rb_sm (fun i => nI (f i)) n := by
  intro n
  induction n with
  | zero => rfl
  | succ n ih => rw [rb_sn, rb_sm, ← ih, nI_add]
theorem rb_sm_upd (a g : Nat → Int32) (k : Nat) (x : Int32) (n : Nat) (hk : k < n) : rb_sm (fun i => upd a k (a k + x) i * g i) n = rb_sm (fun i => a i * g i) n + x * g k := by
  have h : rb_sm (fun i => upd a k (a k + x) i * g i) n = rb_sm (fun i => a i * g i + (if i = k then x * g k else 0)) n := by
    apply rb_sm_congr
    intro i _
    show upd a k (a k + x) i * g i = _
    by_cases e : i = k
    · subst e; rw [pk_us, if_pos rfl]; grind
    · rw [pk_un e, if_neg e]; grind
  rw [h, rb_sm_add, rb_sm_one, if_pos hk]
theorem rb_sn_le {f g : Nat → Nat} : ∀ n, (∀ i, i < n → f i ≤ g i) → rb_sn f n ≤ rb_sn g n := by
  intro n
  induction n with
  | zero => intro _; exact Nat.le_refl _
  | succ n ih =>
    intro h
    have h1 := ih (fun i hi => h i (by omega))
    have h2 := h n (by omega)
    rw [rb_sn, rb_sn]; omega
theorem rb_sn_const (x : Nat) : ∀ n, rb_sn (fun _ => x) n = n * x := by
  intro n
  induction n with
  | zero => simp [rb_sn]
  | succ n ih => rw [rb_sn, ih, Nat.succ_mul]
theorem rb_sn_add (f g : Nat → Nat) (n : Nat) : rb_sn (fun i => f i + g i) n = rb_sn f n + rb_sn g n := by
  induction n with
  | zero => rfl
  | succ n ih => rw [rb_sn, rb_sn, rb_sn, ih]; omega
theorem rb_sn_z {f : Nat → Nat} : ∀ n, (∀ i, i < n → f i = 0) → rb_sn f n = 0 := by
  intro n
  induction n with
  | zero => intro _; rfl
  | succ n ih => intro h; rw [rb_sn, ih (fun i hi => h i (by omega)), h n (by omega)]
end
section
/-! placements as stacks of columns (head: the last row; N: no rook in that row), the list of all completions, Y's search machine -/
def rb_tk (N : Nat) : List Nat → Nat
  | [] => 0
  | c :: s => if c < N then rb_tk N s ||| 2 ^ c else rb_tk N s
def rb_cn (N : Nat) : List Nat → Nat
  | [] => 0
  | c :: s => if c < N then rb_cn N s + 1 else rb_cn N s
def rb_fit (N : Nat) (ok : Nat → Nat → Bool) (s : List Nat) (c : Nat) : Bool := ok s.length c && !(rb_tk N s).testBit c
def rb_op (N : Nat) (ok : Nat → Nat → Bool) (s : List Nat) (c : Nat) : Bool := decide (c = N) || (decide (c < N) && rb_fit N ok s c)
def rb_cat (g : Nat → List (List Nat)) : Nat → Nat → List (List Nat)
  | 0, _ => []
  | d + 1, f => g f ++ rb_cat g d (f + 1)
def rb_pl (N k : Nat) (ok : Nat → Nat → Bool) : Nat → List Nat → List (List Nat)
  | 0, s => if rb_cn N s = k then [s] else []
  | m + 1, s => rb_cat (fun c => if rb_op N ok s c then rb_pl N k ok m (c :: s) else []) (N + 1) 0
def rb_ch (N k : Nat) (ok : Nat → Nat → Bool) (m : Nat) (s : List Nat) (c : Nat) : List (List Nat) := if rb_op N ok s c then rb_pl N k ok m (c :: s) else []
def rb_pf (N k : Nat) (ok : Nat → Nat → Bool) (m : Nat) (s : List Nat) (f : Nat) : List (List Nat) := rb_cat (rb_ch N k ok m s) (N + 1 - f) f
def rb_po (N k : Nat) (ok : Nat → Nat → Bool) (s : List Nat) (c : Nat) : Prop := (c < N ∧ rb_cn N s < k ∧ rb_fit N ok s c = true) ∨ (c = N ∧ k ≤ rb_cn N s + (N - 1 - s.length))
def rb_va (N k : Nat) (ok : Nat → Nat → Bool) : List Nat → Prop
  | [] => k ≤ N
  | c :: s => rb_va N k ok s ∧ c ≤ N ∧ rb_po N k ok s c
def rb_rem (N k : Nat) (ok : Nat → Nat → Bool) : List Nat → Nat → List (List Nat)
  | [], f => rb_pf N k ok (N - 1) [] f
  | c :: s, f => rb_pf N k ok (N - 1 - (s.length + 1)) (c :: s) f ++ rb_rem N k ok s (c + 1)
def rb_up (N k : Nat) (ok : Nat → Nat → Bool) : List Nat → List (List Nat)
  | [] => []
  | c :: s => rb_rem N k ok s (c + 1)
def rb_gd (N k : Nat) (ok : Nat → Nat → Bool) (q : List Nat) (rest : List (List Nat)) : Prop := rb_va N k ok q ∧ q.length = N ∧ ∃ c s, q = c :: s ∧ rb_rem N k ok s (c + 1) = rest
section
variable {N k : Nat} {ok : Nat → Nat → Bool}
theorem rb_cn_lt {c : Nat} {s : List Nat} (h : c < N) : rb_cn N (c :: s) = rb_cn N s + 1 := if_pos h
theorem rb_cn_N {s : List Nat} : rb_cn N (N :: s) = rb_cn N s := if_neg (Nat.lt_irrefl N)
theorem rb_tk_lt {c : Nat} {s : List Nat} (h : c < N) : rb_tk N (c :: s) = rb_tk N s ||| 2 ^ c := if_pos h
theorem rb_tk_N {s : List Nat} : rb_tk N (N :: s) = rb_tk N s := if_neg (Nat.lt_irrefl N)
theorem rb_tk_b : ∀ s, rb_tk N s < 2 ^ N := by
  intro s
  induction s with
  | nil => exact Nat.two_pow_pos N
  | cons c s ih =>
    by_cases h : c < N
    · rw [rb_tk_lt h]; exact rb_orN ih h
    · rw [show rb_tk N (c :: s) = rb_tk N s from if_neg h]; exact ih
theorem rb_cat_nil {g : Nat → List (List Nat)} : ∀ d f, (∀ c, f ≤ c → c < f + d → g c = []) → rb_cat g d f = [] := by
  intro d
  induction d with
  | zero => intro f _; rfl
  | succ d ih =>
    intro f h
    rw [rb_cat, h f (by omega) (by omega), ih (f + 1) (fun c h1 h2 => h c (by omega) (by omega))]
    rfl
theorem rb_pl_s (m : Nat) (s : List Nat) : rb_pl N k ok (m + 1) s = rb_pf N k ok m s 0 := rfl
theorem rb_pf_s {m f : Nat} {s : List Nat} (h : f ≤ N) : rb_pf N k ok m s f = rb_ch N k ok m s f ++ rb_pf N k ok m s (f + 1) := by
  unfold rb_pf
  rw [show N + 1 - f = (N - f) + 1 by omega, rb_cat, show N + 1 - (f + 1) = N - f by omega]
theorem rb_pf_e {m f : Nat} {s : List Nat} (h : N < f) : rb_pf N k ok m s f = [] := by
  unfold rb_pf
  rw [show N + 1 - f = 0 by omega]
  rfl
theorem rb_pf_nil {m f : Nat} {s : List Nat} (h : ∀ c, f ≤ c → c ≤ N → rb_ch N k ok m s c = []) : rb_pf N k ok m s f = [] :=
  rb_cat_nil _ _ (fun c h1 h2 => h c h1 (by omega))
theorem rb_pf_skip {m : Nat} {s : List Nat} : ∀ d f, (∀ c, f ≤ c → c < f + d → rb_ch N k ok m s c = []) → f + d ≤ N + 1 → rb_pf N k ok m s f = rb_pf N k ok m s (f + d) := by
  intro d
  induction d with
  | zero => intro f _ _; rfl
  | succ d ih =>
    intro f h hb
    rw [rb_pf_s (by omega), h f (by omega) (by omega), ih (f + 1) (fun c h1 h2 => h c (by omega) (by omega)) (by omega), show f + 1 + d = f + (d + 1) by omega]
    rfl
theorem rb_pl_z : ∀ m s, (k < rb_cn N s ∨ rb_cn N s + m < k) → rb_pl N k ok m s = [] := by
  intro m
  induction m with
  | zero =>
    intro s h
    rw [rb_pl, if_neg (by omega)]
  | succ m ih =>
    intro s h
    rw [rb_pl_s]
    apply rb_pf_nil
    intro c _ hc
    unfold rb_ch
    by_cases ho : rb_op N ok s c = true
    · rw [if_pos ho]
      apply ih
      by_cases h2 : c < N
      · rw [rb_cn_lt h2]; omega
      · rw [show rb_cn N (c :: s) = rb_cn N s from if_neg h2]; omega
    · rw [if_neg ho]
theorem rb_ch_po {m c : Nat} {s : List Nat} (h : rb_po N k ok s c) : rb_ch N k ok m s c = rb_pl N k ok m (c :: s) := by
  unfold rb_ch
  rw [if_pos]
  unfold rb_op
  rcases h with ⟨h1, _, h3⟩ | ⟨h1, _⟩
  · rw [h3, decide_eq_true h1]; simp
  · rw [decide_eq_true h1]; rfl
theorem rb_ch_nil {c : Nat} {s : List Nat} (hc : c ≤ N) (h : ¬ rb_po N k ok s c) : rb_ch N k ok (N - 1 - s.length) s c = [] := by
  unfold rb_ch
  by_cases ho : rb_op N ok s c = true
  · rw [if_pos ho]
    apply rb_pl_z
    unfold rb_po at h
    by_cases h2 : c < N
    · have hf : rb_fit N ok s c = true := by
        unfold rb_op at ho
        rw [decide_eq_false (by omega : ¬ c = N), decide_eq_true h2] at ho
        simpa using ho
      rw [rb_cn_lt h2]
      have : ¬ rb_cn N s < k := fun z => h (Or.inl ⟨h2, z, hf⟩)
      omega
    · have e : c = N := by omega
      subst e
      rw [rb_cn_N]
      have : ¬ k ≤ rb_cn c s + (c - 1 - s.length) := fun z => h (Or.inr ⟨rfl, z⟩)
      omega
  · rw [if_neg ho]
theorem rb_rem_eq (s : List Nat) (f : Nat) : rb_rem N k ok s f = rb_pf N k ok (N - 1 - s.length) s f ++ rb_up N k ok s := by
  cases s with
  | nil => rw [rb_rem, rb_up, List.append_nil]; rfl
  | cons c s => rfl
theorem rb_va_b : ∀ s, rb_va N k ok s → s.length ≤ N → rb_cn N s ≤ k ∧ k ≤ rb_cn N s + (N - s.length) := by
  intro s
  induction s with
  | nil => intro h _; exact ⟨Nat.zero_le _, by have : k ≤ N := h; show k ≤ 0 + (N - 0); omega⟩
  | cons c s ih =>
    intro h hl
    have hl' : s.length + 1 ≤ N := hl
    obtain ⟨h1, h2, h3⟩ := h
    have := ih h1 (by omega)
    rw [List.length_cons]
    rcases h3 with ⟨a, b, _⟩ | ⟨a, b⟩
    · rw [rb_cn_lt a]; omega
    · subst a; rw [rb_cn_N]; omega
theorem rb_rem_A {s : List Nat} {f c : Nat} (h1 : f ≤ c) (h2 : c ≤ N) (h3 : rb_po N k ok s c) (h4 : ∀ d, f ≤ d → d < c → ¬ rb_po N k ok s d) : rb_rem N k ok s f = rb_pl N k ok (N - 1 - s.length) (c :: s) ++ rb_rem N k ok s (c + 1) := by
  rw [rb_rem_eq s f, rb_rem_eq s (c + 1), rb_pf_skip (c - f) f (fun d a b => rb_ch_nil (by omega) (h4 d a (by omega))) (by omega), show f + (c - f) = c by omega, rb_pf_s h2, rb_ch_po h3, List.append_assoc]
theorem rb_rem_N {s : List Nat} {f : Nat} (h : ∀ d, f ≤ d → d ≤ N → ¬ rb_po N k ok s d) : rb_rem N k ok s f = rb_up N k ok s := by
  rw [rb_rem_eq, rb_pf_nil (fun c a b => rb_ch_nil b (h c a b))]
  rfl
/-- Y's search: from the rules A (a column is put), B (back), C (nothing left), D (a full placement) -/
theorem rb_mach (W : List Nat → Nat → Prop) (pF : Prop) (pT : List Nat → Prop)
    (A : ∀ s f c, rb_va N k ok s → s.length < N → f ≤ c → c ≤ N → rb_po N k ok s c → (∀ d, f ≤ d → d < c → ¬ rb_po N k ok s d) → W (c :: s) 0 → W s f)
    (B : ∀ s f c, rb_va N k ok (c :: s) → s.length + 1 < N → (∀ d, f ≤ d → d ≤ N → ¬ rb_po N k ok (c :: s) d) → W s (c + 1) → W (c :: s) f)
    (C : ∀ f, 0 < N → rb_va N k ok [] → (∀ d, f ≤ d → d ≤ N → ¬ rb_po N k ok [] d) → pF → W [] f)
    (D : ∀ s, rb_va N k ok s → s.length = N → pT s → W s 0) :
    ∀ m s, s.length + m + 1 = N → rb_va N k ok s → (∀ c s', s = c :: s' → (rb_rem N k ok s' (c + 1) = [] → pF) → (∀ q rest, rb_rem N k ok s' (c + 1) = q :: rest → rb_gd N k ok q rest → pT q) → W s' (c + 1)) → ∀ j f, N + 1 - f ≤ j → (rb_rem N k ok s f = [] → pF) → (∀ q rest, rb_rem N k ok s f = q :: rest → rb_gd N k ok q rest → pT q) → W s f := by
  intro m
  induction m using Nat.strongRecOn with
  | _ m ihm =>
  intro s hl hv hup j
  have hno : ∀ f, (∀ d, f ≤ d → d ≤ N → ¬ rb_po N k ok s d) → (rb_rem N k ok s f = [] → pF) → (∀ q rest, rb_rem N k ok s f = q :: rest → rb_gd N k ok q rest → pT q) → W s f := by
    intro f ho hF hT
    rw [rb_rem_N ho] at hF hT
    cases s with
    | nil => exact C f (by omega) hv ho (hF rfl)
    | cons c s =>
      exact B s f c hv (by have : s.length + 1 + m + 1 = N := hl; omega) ho (hup c s rfl hF hT)
  induction j with
  | zero => intro f hf; exact hno f (fun d h1 h2 => by omega)
  | succ j ihj =>
    intro f hf hF hT
    by_cases ho : ∃ c, f ≤ c ∧ c ≤ N ∧ rb_po N k ok s c
    · obtain ⟨c, ⟨h1, h2, h3⟩, h4⟩ := pk_least _ ho
      have h5 : ∀ d, f ≤ d → d < c → ¬ rb_po N k ok s d := fun d a b z => h4 d b ⟨a, by omega, z⟩
      apply A s f c hv (by omega) h1 h2 h3 h5
      rw [rb_rem_A h1 h2 h3 h5] at hF hT
      have hv2 : rb_va N k ok (c :: s) := ⟨hv, h2, h3⟩
      cases m with
      | zero =>
        have hl2 : (c :: s).length = N := by rw [List.length_cons]; omega
        have hb := rb_va_b (c :: s) hv2 (by omega)
        have e : rb_pl N k ok (N - 1 - s.length) (c :: s) = [c :: s] := by
          rw [show N - 1 - s.length = 0 by omega, rb_pl, if_pos (by omega)]
        rw [e] at hT
        exact D _ hv2 hl2 (hT (c :: s) _ rfl ⟨hv2, hl2, c, s, rfl, rfl⟩)
      | succ m =>
        have e : rb_pl N k ok (N - 1 - s.length) (c :: s) ++ rb_rem N k ok s (c + 1) = rb_rem N k ok (c :: s) 0 := by
          rw [rb_rem, show N - 1 - s.length = (N - 1 - (s.length + 1)) + 1 by omega, rb_pl_s]
        rw [e] at hF hT
        refine ihm m (by omega) (c :: s) (by rw [List.length_cons]; omega) hv2 ?_ (N + 1) 0 (by omega) hF hT
        intro c' s' es
        cases es
        exact ihj (c + 1) (by omega)
    · exact hno f (fun d a b z => ho ⟨d, a, b, z⟩) hF hT
theorem rb_machine (W : List Nat → Nat → Prop) (pF : Prop) (pT : List Nat → Prop)
    (A : ∀ s f c, rb_va N k ok s → s.length < N → f ≤ c → c ≤ N → rb_po N k ok s c → (∀ d, f ≤ d → d < c → ¬ rb_po N k ok s d) → W (c :: s) 0 → W s f)
    (B : ∀ s f c, rb_va N k ok (c :: s) → s.length + 1 < N → (∀ d, f ≤ d → d ≤ N → ¬ rb_po N k ok (c :: s) d) → W s (c + 1) → W (c :: s) f)
    (C : ∀ f, 0 < N → rb_va N k ok [] → (∀ d, f ≤ d → d ≤ N → ¬ rb_po N k ok [] d) → pF → W [] f)
    (D : ∀ s, rb_va N k ok s → s.length = N → pT s → W s 0) :
    ∀ s f, s.length < N → rb_va N k ok s → (rb_rem N k ok s f = [] → pF) → (∀ q rest, rb_rem N k ok s f = q :: rest → rb_gd N k ok q rest → pT q) → W s f := by
  intro s
  induction s with
  | nil =>
    intro f h hv
    exact rb_mach W pF pT A B C D (N - 1) [] (by rw [List.length_nil]; have : 0 < N := h; omega) hv (fun c s' e => nomatch e) (N + 1 - f) f (Nat.le_refl _)
  | cons c s ih =>
    intro f h hv
    have h' : s.length + 1 < N := h
    refine rb_mach W pF pT A B C D (N - 1 - (s.length + 1)) (c :: s) (by rw [List.length_cons]; omega) hv ?_ (N + 1 - f) f (Nat.le_refl _)
    intro c' s' e
    cases e
    exact ih (c + 1) (by omega) hv.1
end
end
section
/-! Y's put, back, fits, goOn, next over stacks -/
def rb_co (a : Nat → Int32) : List Nat → Prop
  | [] => True
  | c :: s => a s.length = nI c ∧ rb_co a s
theorem rb_co_upd {a : Nat → Int32} {j : Nat} {x : Int32} : ∀ s : List Nat, s.length ≤ j → rb_co a s → rb_co (upd a j x) s := by
  intro s
  induction s with
  | nil => intro _ _; exact trivial
  | cons c s ih =>
    intro hl h
    have hl' : s.length + 1 ≤ j := hl
    exact ⟨by rw [pk_un (by omega)]; exact h.1, ih (by omega) h.2⟩
theorem rb_co_app {a : Nat → Int32} : ∀ t s : List Nat, rb_co a (t ++ s) → rb_co a s := by
  intro t
  induction t with
  | nil => intro s h; exact h
  | cons c t ih => intro s h; exact ih s h.2
theorem rb_ix6 (r c : Nat) : (6 : Int32) * nI r + nI c = nI (6 * r + c) := by
  show nI 6 * nI r + nI c = _
  rw [pk_mul, nI_add]
theorem rb_rmb : ∀ a, a < 64 → ∀ c, c < 6 → a.testBit c = false → (a ||| 2 ^ c) &&& (63 ^^^ 2 ^ c) = a := by decide +kernel
section
variable {N k : Nat} {ok : Nat → Nat → Bool} {ya : Int32} {on we : Nat → Int32}
theorem rb_yfits {post : Int32 → Prop} {s : List Nat} {yp : Int32} {co : Nat → Int32} {d : Nat} (hN : N ≤ 6) (hs : s.length < N) (hd : d < N)
    (hok : ∀ r c, r < N → c < N → (ok r c = true ↔ (¬ ya = 0 ∨ ¬ on (6 * r + c) = 0)))
    (h1 : rb_fit N ok s d = true → post 1) (h0 : rb_fit N ok s d = false → post 0) :
    wpY_fits post ((nI N), nI s.length, yp, nI (rb_tk N s), ya, on, we, co) (nI d) := by
  have ht : rb_tk N s < 2 ^ 31 := Nat.lt_of_lt_of_le (rb_tk_b s) (Nat.le_trans (rb_pN hN) (by omega))
  unfold wpY_fits
  refine br_c (fun h => ?_) (fun h => ?_)
  · rw [rb_bit0 ht (by omega)] at h
    refine br_c (fun ha => ?_) (fun ha => ?_)
    · rw [rb_ix6, nI_clamp (by omega)]
      refine ⟨vp_in_nI (by omega) (by omega), br_c (fun ho => h0 ?_) (fun ho => h1 ?_)⟩
      · have : ok s.length d = false := by
          cases e : ok s.length d with
          | false => rfl
          | true => rcases (hok _ _ hs hd).mp e with z | z <;> contradiction
        unfold rb_fit; rw [this]; rfl
      · have : ok s.length d = true := (hok _ _ hs hd).mpr (Or.inr ho)
        unfold rb_fit; rw [this, h]; rfl
    · have : ok s.length d = true := (hok _ _ hs hd).mpr (Or.inl ha)
      exact h1 (by unfold rb_fit; rw [this, h]; rfl)
  · rw [rb_bit0 ht (by omega)] at h
    apply h0
    unfold rb_fit
    have h2 : (rb_tk N s).testBit d = true := by simpa using h
    rw [h2]
    simp
theorem rb_yput {post : SY → Prop} {s : List Nat} {co : Nat → Int32} {c : Nat} (hN : N ≤ 6) (hs : s.length < N) (hc : c ≤ N)
    (h : post ((nI N), nI (c :: s).length, nI (rb_cn N (c :: s)), nI (rb_tk N (c :: s)), ya, on, we, upd co s.length (nI c))) :
    wpY_put post ((nI N), nI s.length, nI (rb_cn N s), nI (rb_tk N s), ya, on, we, co) (nI c) := by
  unfold wpY_put
  refine ⟨vp_in_nI (by omega) (by omega), nm_r (e' := upd co s.length (nI c)) (by rw [nI_clamp (by omega)]) ?_⟩
  refine pk_le N c (fun hl => ?_) (fun hl => ?_)
  · have e : c = N := by omega
    subst e
    rw [rb_cn_N, rb_tk_N, List.length_cons] at h
    exact nm_r (nI_1 _) h
  · rw [rb_cn_lt hl, rb_tk_lt hl, List.length_cons] at h
    refine nm_r (nI_1 _) (nm_r (e' := nI (rb_tk N s ||| 2 ^ c)) ?_ (nm_r (nI_1 _) h))
    rw [rb_shl c (by omega), rb_or]
theorem rb_yback {post : Int32 → SY → Prop} {s : List Nat} {co : Nat → Int32} {c : Nat} (hN : N ≤ 6) (hs : s.length < N) (hc : c ≤ N) (hf : c < N → (rb_tk N s).testBit c = false) (ha : co s.length = nI c)
    (h : post (nI c) ((nI N), nI s.length, nI (rb_cn N s), nI (rb_tk N s), ya, on, we, co)) :
    wpY_back post ((nI N), nI (c :: s).length, nI (rb_cn N (c :: s)), nI (rb_tk N (c :: s)), ya, on, we, co) := by
  unfold wpY_back
  rw [List.length_cons]
  refine nm_r (nI_pred _) ⟨vp_in_nI (by omega) (by omega), nm_r (e' := nI c) (by rw [nI_clamp (by omega)]; exact ha) ?_⟩
  refine pk_le N c (fun hl => ?_) (fun hl => ?_)
  · have e : c = N := by omega
    subst e
    rw [rb_cn_N, rb_tk_N]
    exact h
  · rw [rb_cn_lt hl, rb_tk_lt hl]
    refine nm_r (nI_pred _) (nm_r (e' := nI (rb_tk N s)) ?_ h)
    have h64 : rb_tk N s < 64 := Nat.lt_of_lt_of_le (rb_tk_b s) (rb_pN hN)
    rw [rb_shl c (by omega), rb_andn _ (rb_or64 h64 (rb_p64 (by omega))) _ (rb_p64 (by omega)), rb_rmb _ h64 c (by omega) (hf hl)]
theorem rb_yg39 {post : Int32 → SY → Prop} {s : List Nat} {co : Nat → Int32} {f : Nat} (hN : N ≤ 6) (hk : k ≤ N) (hs : s.length < N) (hc : rb_cn N s ≤ N) (hf : f ≤ N + 1)
    (hno : ∀ e, f ≤ e → e < N → ¬ rb_po N k ok s e)
    (hT : ∀ c, f ≤ c → c ≤ N → rb_po N k ok s c → (∀ e, f ≤ e → e < c → ¬ rb_po N k ok s e) → post 1 ((nI N), nI (c :: s).length, nI (rb_cn N (c :: s)), nI (rb_tk N (c :: s)), ya, on, we, upd co s.length (nI c)))
    (hF : (∀ e, f ≤ e → e ≤ N → ¬ rb_po N k ok s e) → post 0 ((nI N), nI s.length, nI (rb_cn N s), nI (rb_tk N s), ya, on, we, co)) :
    wY_goOn_39 post (nI f) (nI k) (nI N) (nI s.length) (nI (rb_cn N s)) (nI (rb_tk N s)) ya on we co := by
  unfold wY_goOn_39
  refine pk_lt N f (fun h => hF (fun e a b => by omega)) (fun h => ?_)
  have e : nI (rb_cn N s) + nI N - nI s.length - 1 = nI (rb_cn N s + N - s.length - 1) := by
    rw [nI_add, pk_sub (by omega)]
    exact pk_sub (b := 1) (by omega)
  refine pk_le k (rb_cn N s + N - s.length - 1) (fun hl => ?_) (fun hl => ?_) rfl e
  · exact rb_yput hN hs (Nat.le_refl N) (hT N h (Nat.le_refl N) (Or.inr ⟨rfl, by omega⟩) hno)
  · apply hF
    intro d a b z
    by_cases hd : d < N
    · exact hno d a hd z
    · rcases z with z | z <;> omega
theorem rb_ygo {post : Int32 → SY → Prop} {s : List Nat} {co : Nat → Int32} {f : Nat} (hN : N ≤ 6) (hk : k ≤ N) (hs : s.length < N) (hc : rb_cn N s ≤ N) (hf : f ≤ N + 1)
    (hok : ∀ r c, r < N → c < N → (ok r c = true ↔ (¬ ya = 0 ∨ ¬ on (6 * r + c) = 0)))
    (hT : ∀ c, f ≤ c → c ≤ N → rb_po N k ok s c → (∀ e, f ≤ e → e < c → ¬ rb_po N k ok s e) → post 1 ((nI N), nI (c :: s).length, nI (rb_cn N (c :: s)), nI (rb_tk N (c :: s)), ya, on, we, upd co s.length (nI c)))
    (hF : (∀ e, f ≤ e → e ≤ N → ¬ rb_po N k ok s e) → post 0 ((nI N), nI s.length, nI (rb_cn N s), nI (rb_tk N s), ya, on, we, co)) :
    ∀ j d, f ≤ d → d ≤ 8 → N ≤ d + j → (∀ e, f ≤ e → e < d → ¬ rb_po N k ok s e) → wY_goOn_2 post (nI f) (nI k) (nI N) (nI s.length) (nI (rb_cn N s)) (nI (rb_tk N s)) ya on we co (j + 1) (nI d) := by
  intro j
  induction j with
  | zero =>
    intro d h1 h2 h3 h4
    rw [wY_goOn_2]
    exact br_t (nI_le (by omega) (by omega)) (rb_yg39 hN hk hs hc hf (fun e a b => h4 e a (by omega)) hT hF)
  | succ j ih =>
    intro d h1 h2 h3 h4
    rw [wY_goOn_2]
    refine pk_le N d (fun h => rb_yg39 hN hk hs hc hf (fun e a b => h4 e a (by omega)) hT hF) (fun h => ?_)
    refine pk_le k (rb_cn N s) (fun hl => ?_) (fun hl => ?_)
    · refine rb_yg39 hN hk hs hc hf (fun e a b z => ?_) hT hF
      rcases z with z | z <;> omega
    · refine rb_yfits hN hs h hok (fun hfit => ?_) (fun hfit => ?_)
      · refine br_f (by decide) (rb_yput hN hs (by omega) ?_)
        exact hT d h1 (by omega) (Or.inl ⟨h, hl, hfit⟩) h4
      · refine br_t rfl (nm_r (nI_1 d) (ih (d + 1) (by omega) (by omega) (by omega) ?_))
        intro e a b z
        by_cases ed : e = d
        · subst ed
          rcases z with ⟨_, _, z⟩ | ⟨z, _⟩
          · rw [hfit] at z; exact absurd z (by decide)
          · omega
        · exact h4 e a (by omega) z
theorem rb_ygoOn {post : Int32 → SY → Prop} {s : List Nat} {co : Nat → Int32} {f : Nat} (hN : N ≤ 6) (hk : k ≤ N) (hs : s.length < N) (hc : rb_cn N s ≤ N) (hf : f ≤ N + 1)
    (hok : ∀ r c, r < N → c < N → (ok r c = true ↔ (¬ ya = 0 ∨ ¬ on (6 * r + c) = 0)))
    (hT : ∀ c, f ≤ c → c ≤ N → rb_po N k ok s c → (∀ e, f ≤ e → e < c → ¬ rb_po N k ok s e) → post 1 ((nI N), nI (c :: s).length, nI (rb_cn N (c :: s)), nI (rb_tk N (c :: s)), ya, on, we, upd co s.length (nI c)))
    (hF : (∀ e, f ≤ e → e ≤ N → ¬ rb_po N k ok s e) → post 0 ((nI N), nI s.length, nI (rb_cn N s), nI (rb_tk N s), ya, on, we, co)) :
    wpY_goOn post ((nI N), nI s.length, nI (rb_cn N s), nI (rb_tk N s), ya, on, we, co) (nI f) (nI k) := by
  unfold wpY_goOn
  exact ⟨N + 1, rb_ygo hN hk hs hc hf hok hT hF N f (Nat.le_refl f) (by omega) (by omega) (fun e a b => by omega)⟩
theorem rb_po_fit {s : List Nat} {c : Nat} (h : rb_po N k ok s c) (hc : c < N) : (rb_tk N s).testBit c = false := by
  rcases h with ⟨_, _, h⟩ | ⟨h, _⟩
  · unfold rb_fit at h
    cases e : (rb_tk N s).testBit c with
    | false => rfl
    | true => rw [e] at h; simp at h
  · omega
theorem rb_ynx {post : Int32 → SY → Prop} (hN : N ≤ 6) (hk : k ≤ N)
    (hok : ∀ r c, r < N → c < N → (ok r c = true ↔ (¬ ya = 0 ∨ ¬ on (6 * r + c) = 0)))
    (s : List Nat) (f : Nat) (hs : s.length < N) (hf : f ≤ N + 1) (hv : rb_va N k ok s)
    (hF : rb_rem N k ok s f = [] → ∀ co, post 0 ((nI N), 0, 0, 0, ya, on, we, co))
    (hT : ∀ q rest, rb_rem N k ok s f = q :: rest → rb_gd N k ok q rest → ∀ co, rb_co co q → post 1 ((nI N), nI q.length, nI (rb_cn N q), nI (rb_tk N q), ya, on, we, co))
    (co : Nat → Int32) (hco : rb_co co s) : ∃ n, wY_next_13 post (nI k) n (nI f) (nI N) (nI s.length) (nI (rb_cn N s)) (nI (rb_tk N s)) ya on we co := by
  refine rb_machine (N := N) (k := k) (ok := ok) (fun s f => f ≤ N + 1 → ∀ co, rb_co co s → ∃ n, wY_next_13 post (nI k) n (nI f) (nI N) (nI s.length) (nI (rb_cn N s)) (nI (rb_tk N s)) ya on we co) (∀ co, post 0 ((nI N), 0, 0, 0, ya, on, we, co)) (fun q => ∀ co, rb_co co q → post 1 ((nI N), nI q.length, nI (rb_cn N q), nI (rb_tk N q), ya, on, we, co)) ?_ ?_ ?_ ?_ s f hs hv hF hT hf co hco
  · intro s f c hv hs h1 h2 h3 h4 ih hf co hco
    obtain ⟨n, hn⟩ := ih (by omega) (upd co s.length (nI c)) ⟨pk_us, rb_co_upd s (Nat.le_refl _) hco⟩
    refine ⟨n + 1, ?_⟩
    rw [wY_next_13]
    refine br_f (nI_ge hs (by omega)) ?_
    refine rb_ygoOn hN hk hs (by have := rb_va_b s hv (by omega); omega) hf hok (fun c' a b d e => ?_) (fun z => absurd h3 (z c h1 h2))
    have ec : c' = c := by
      rcases Nat.lt_trichotomy c' c with z | z | z
      · exact absurd d (h4 c' a z)
      · exact z
      · exact absurd h3 (e c h1 z)
    subst ec
    exact br_f (by decide) hn
  · intro s f c hv hs h ih hf co hco
    have hc : c ≤ N := hv.2.1
    obtain ⟨n, hn⟩ := ih (by omega) co hco.2
    refine ⟨n + 1, ?_⟩
    rw [wY_next_13]
    have hs2 : (c :: s).length < N := by rw [List.length_cons]; exact hs
    refine br_f (nI_ge hs2 (by omega)) ?_
    refine rb_ygoOn hN hk hs2 (by have := rb_va_b (c :: s) hv (by omega); omega) hf hok (fun c' a b d e => absurd d (h c' a b)) (fun z => ?_)
    refine br_t rfl (br_f (nI_ne0 (by rw [List.length_cons]; omega) (by omega)) ?_)
    exact rb_yback hN (by omega) hc (fun z => rb_po_fit hv.2.2 z) hco.1 (nm_r (nI_1 c) hn)
  · intro f hN0 hv h hF hf co _
    refine ⟨1, ?_⟩
    rw [wY_next_13]
    have hs2 : ([] : List Nat).length < N := hN0
    refine br_f (nI_ge hs2 (by omega)) ?_
    refine rb_ygoOn hN hk hs2 (Nat.zero_le _) hf hok (fun c' a b d e => absurd d (h c' a b)) (fun z => ?_)
    exact br_t rfl (br_t rfl (hF co))
  · intro s hv hs hT hf co hco
    refine ⟨1, ?_⟩
    rw [wY_next_13]
    exact br_t (nI_le (by omega) (by omega)) (hT co hco)
theorem rb_nx1 {post : Int32 → SY → Prop} (hN0 : 0 < N) (hN : N ≤ 6) (hk : k ≤ N)
    (hok : ∀ r c, r < N → c < N → (ok r c = true ↔ (¬ ya = 0 ∨ ¬ on (6 * r + c) = 0)))
    (hF : rb_pl N k ok N [] = [] → ∀ co, post 0 ((nI N), 0, 0, 0, ya, on, we, co))
    (hT : ∀ q rest, rb_pl N k ok N [] = q :: rest → rb_gd N k ok q rest → ∀ co, rb_co co q → post 1 ((nI N), nI q.length, nI (rb_cn N q), nI (rb_tk N q), ya, on, we, co))
    (co : Nat → Int32) : wpY_next post ((nI N), 0, 0, 0, ya, on, we, co) (nI k) 1 := by
  unfold wpY_next
  refine br_f (by decide) ?_
  have e : rb_pl N k ok N [] = rb_rem N k ok [] 0 := by
    rw [rb_rem, ← rb_pl_s, show N - 1 + 1 = N by omega]
  rw [e] at hF hT
  exact rb_ynx hN hk hok [] 0 hN0 (by omega) hk hF hT co trivial
theorem rb_nx0 {post : Int32 → SY → Prop} (hN : N ≤ 6) (hk : k ≤ N)
    (hok : ∀ r c, r < N → c < N → (ok r c = true ↔ (¬ ya = 0 ∨ ¬ on (6 * r + c) = 0)))
    {q : List Nat} {rest : List (List Nat)} (hq : rb_gd N k ok q rest)
    (hF : rest = [] → ∀ co, post 0 ((nI N), 0, 0, 0, ya, on, we, co))
    (hT : ∀ q2 rest2, rest = q2 :: rest2 → rb_gd N k ok q2 rest2 → ∀ co, rb_co co q2 → post 1 ((nI N), nI q2.length, nI (rb_cn N q2), nI (rb_tk N q2), ya, on, we, co))
    (co : Nat → Int32) (hco : rb_co co q) : wpY_next post ((nI N), nI q.length, nI (rb_cn N q), nI (rb_tk N q), ya, on, we, co) (nI k) 0 := by
  obtain ⟨hv, hl, c, s, e, hr⟩ := hq
  subst e
  have hl' : s.length + 1 = N := hl
  have hc : c ≤ N := hv.2.1
  unfold wpY_next
  refine br_t rfl ?_
  refine rb_yback hN (by omega) hc (fun z => rb_po_fit hv.2.2 z) hco.1 (nm_r (nI_1 c) ?_)
  subst hr
  exact rb_ynx hN hk hok s (c + 1) (by omega) (by omega) hv.1 hF hT co hco.2
end
end
section
/-! Y's methods that go through all placements -/
def rb_at : List Nat → Nat → Nat
  | [], _ => 0
  | c :: s, r => if r = s.length then c else rb_at s r
theorem rb_at_h (c : Nat) (s : List Nat) : rb_at (c :: s) s.length = c := if_pos rfl
theorem rb_at_t {c r : Nat} {s : List Nat} (h : r < s.length) : rb_at (c :: s) r = rb_at s r := if_neg (by omega)
theorem rb_co_at {co : Nat → Int32} : ∀ (q : List Nat) (r : Nat), rb_co co q → r < q.length → co r = nI (rb_at q r) := by
  intro q
  induction q with
  | nil => intro r _ h; exact absurd h (Nat.not_lt_zero r)
  | cons c s ih =>
    intro r hc hr
    have hr' : r < s.length + 1 := hr
    by_cases e : r = s.length
    · subst e; rw [rb_at_h]; exact hc.1
    · rw [rb_at_t (by omega)]; exact ih r hc.2 (by omega)
theorem rb_va_at {N k : Nat} {ok : Nat → Nat → Bool} : ∀ (q : List Nat) (r : Nat), rb_va N k ok q → r < q.length → rb_at q r ≤ N := by
  intro q
  induction q with
  | nil => intro r _ h; exact absurd h (Nat.not_lt_zero r)
  | cons c s ih =>
    intro r hc hr
    have hr' : r < s.length + 1 := hr
    by_cases e : r = s.length
    · subst e; rw [rb_at_h]; exact hc.2.1
    · rw [rb_at_t (by omega)]; exact ih r hc.1 (by omega)
theorem rb_cn_len {N : Nat} : ∀ s : List Nat, rb_cn N s ≤ s.length := by
  intro s
  induction s with
  | nil => exact Nat.le_refl _
  | cons c s ih =>
    rw [List.length_cons]
    by_cases h : c < N
    · rw [rb_cn_lt h]; omega
    · rw [show rb_cn N (c :: s) = rb_cn N s from if_neg h]; omega
theorem rb_cn_all {N : Nat} : ∀ s : List Nat, rb_cn N s = s.length → ∀ r, r < s.length → rb_at s r < N := by
  intro s
  induction s with
  | nil => intro _ r h; exact absurd h (Nat.not_lt_zero r)
  | cons c s ih =>
    intro he r hr
    have hl := rb_cn_len (N := N) s
    rw [List.length_cons] at he
    have hr' : r < s.length + 1 := hr
    by_cases h : c < N
    · rw [rb_cn_lt h] at he
      by_cases e : r = s.length
      · subst e; rw [rb_at_h]; exact h
      · rw [rb_at_t (by omega)]; exact ih (by omega) r (by omega)
    · rw [show rb_cn N (c :: s) = rb_cn N s from if_neg h] at he
      omega
def rb_ls (val : List Nat → Int32) : List (List Nat) → Int32
  | [] => 0
  | q :: t => val q + rb_ls val t
theorem rb_ls_app (val : List Nat → Int32) : ∀ l t, rb_ls val (l ++ t) = rb_ls val l + rb_ls val t := by
  intro l
  induction l with
  | nil => intro t; show rb_ls val t = 0 + rb_ls val t; simp
  | cons q l ih => intro t; show val q + rb_ls val (l ++ t) = val q + rb_ls val l + rb_ls val t; rw [ih]; grind
theorem rb_ls_1 : ∀ l : List (List Nat), rb_ls (fun _ => 1) l = nI l.length := by
  intro l
  induction l with
  | nil => rfl
  | cons q l ih => show 1 + rb_ls _ l = nI (l.length + 1); rw [ih, ← nI_1, Int32.add_comm]
def rb_pr (f : Nat → Int32) : Nat → Int32
  | 0 => 1
  | n + 1 => rb_pr f n * f n
theorem rb_pr_congr {f g : Nat → Int32} : ∀ n, (∀ i, i < n → f i = g i) → rb_pr f n = rb_pr g n := by
  intro n
  induction n with
  | zero => intro _; rfl
  | succ n ih => intro h; rw [rb_pr, rb_pr, ih (fun d hd => h d (by omega)), h n (by omega)]
theorem rb_pr_1 {f : Nat → Int32} (n : Nat) (h : ∀ i, i < n → f i = 1) : rb_pr f n = 1 := by
  induction n with
  | zero => rfl
  | succ n ih => rw [rb_pr, ih (fun i hi => h i (by omega)), h n (by omega)]; rfl
section
variable {N k : Nat} {ok : Nat → Nat → Bool} {ya : Int32} {on we : Nat → Int32} {yr yp yt : Int32} {co : Nat → Int32}
theorem rb_ybegin0 {post : SY → Prop} (h : post ((nI N), 0, 0, 0, 0, on, we, co)) : wpY_begin post ((nI N), yr, yp, yt, ya, on, we, co) 0 := by
  unfold wpY_begin
  exact ⟨narrow_b0, rfl, h⟩
theorem rb_ybegin1 {post : SY → Prop} (h : post ((nI N), 0, 0, 0, 1, on, we, co)) : wpY_begin post ((nI N), yr, yp, yt, ya, on, we, co) 1 := by
  unfold wpY_begin
  exact ⟨narrow_b1, rfl, h⟩
theorem rb_ybad0 {post : Int32 → Prop} {j : Nat} (hN : N ≤ 6) (hj : j ≤ N) (h : post 0) : wpY_bad post ((nI N), yr, yp, yt, ya, on, we, co) (nI j) := by
  unfold wpY_bad
  exact br_f (nI_pos (by omega)) (br_t (nI_le hj (by omega)) h)
theorem rb_ybad1 {post : Int32 → Prop} {x : Int32} (hx : x < 0 ∨ (¬ x < 0 ∧ ¬ x ≤ nI N)) (h : post 1) : wpY_bad post ((nI N), yr, yp, yt, ya, on, we, co) x := by
  unfold wpY_bad
  rcases hx with hx | ⟨h1, h2⟩
  · exact br_t hx h
  · exact br_f h1 (br_f h2 h)
theorem rb_arg (N : Nat) (hN : N ≤ 6) (x : Int32) : (x < 0 ∨ (¬ x < 0 ∧ ¬ x ≤ nI N)) ∨ ∃ j, j ≤ N ∧ x = nI j := by
  by_cases h : x < 0
  · exact Or.inl (Or.inl h)
  · obtain ⟨j, hj, rfl⟩ := nI_of h
    by_cases h2 : j ≤ N
    · exact Or.inr ⟨j, h2, rfl⟩
    · exact Or.inl (Or.inr ⟨h, nI_ge (by omega) hj⟩)
theorem rb_yrooks_l {post : Int32 → SY → Prop} (hN : N ≤ 6) (hk : k ≤ N)
    (hok : ∀ r c, r < N → c < N → (ok r c = true ↔ (¬ ya = 0 ∨ ¬ on (6 * r + c) = 0))) :
    ∀ rest q acc co, rb_gd N k ok q rest → rb_co co q → (∀ co, post (acc + rb_ls (fun _ => 1) (q :: rest)) ((nI N), 0, 0, 0, ya, on, we, co)) →
      wY_rooks_24 post (nI k) (rest.length + 2) acc 1 (nI N) (nI q.length) (nI (rb_cn N q)) (nI (rb_tk N q)) ya on we co := by
  intro rest
  induction rest with
  | nil =>
    intro q acc co hq hco h
    show wY_rooks_24 post (nI k) (1 + 1) acc 1 _ _ _ _ _ _ _ _
    rw [wY_rooks_24]
    refine br_f (by decide) (nm_e (rb_nx0 hN hk hok hq (fun _ co => ?_) (fun q2 r2 e => nomatch e) co hco))
    show wY_rooks_24 post (nI k) (0 + 1) (acc + 1) 0 _ _ _ _ _ _ _ _
    rw [wY_rooks_24]
    refine br_t rfl ?_
    have h := h co
    rw [rb_ls, rb_ls, Int32.add_zero] at h
    exact h
  | cons q2 rest ih =>
    intro q acc co hq hco h
    show wY_rooks_24 post (nI k) ((rest.length + 2) + 1) acc 1 _ _ _ _ _ _ _ _
    rw [wY_rooks_24]
    refine br_f (by decide) (nm_e (rb_nx0 hN hk hok hq (fun e => nomatch e) (fun q3 r3 e hq3 co hco => ?_) co hco))
    cases e
    refine ih q2 (acc + 1) co hq3 hco (fun co => ?_)
    have h := h co
    rw [rb_ls, ← Int32.add_assoc] at h
    exact h
theorem rb_yrooks {post : Int32 → SY → Prop} (hN0 : 0 < N) (hN : N ≤ 6) (hk : k ≤ N)
    (hok : ∀ r c, r < N → c < N → (ok r c = true ↔ (¬ (0 : Int32) = 0 ∨ ¬ on (6 * r + c) = 0)))
    (h : ∀ yr yp yt ya co, post (nI (rb_pl N k ok N []).length) ((nI N), yr, yp, yt, ya, on, we, co)) : wpY_rooks post ((nI N), yr, yp, yt, ya, on, we, co) (nI k) := by
  unfold wpY_rooks
  refine rb_ybad0 hN hk (br_t rfl (rb_ybegin0 ?_))
  refine rb_nx1 hN0 hN hk hok (fun e co => ?_) (fun q rest e hq co hco => ?_) co
  · refine ⟨1, ?_⟩
    rw [wY_rooks_24]
    have h := h 0 0 0 0 co
    rw [e] at h
    exact br_t rfl h
  · refine ⟨rest.length + 2, rb_yrooks_l hN hk hok rest q 0 co hq hco (fun co => ?_)⟩
    have h := h 0 0 0 0 co
    rw [rb_ls_1, ← e, Int32.zero_add]
    exact h
theorem rb_ythr_l {post : Int32 → SY → Prop} {r0 c0 : Nat} (hN : N ≤ 6) (hk : k ≤ N) (hr : r0 < N) (hc : c0 < N)
    (hok : ∀ r c, r < N → c < N → (ok r c = true ↔ (¬ ya = 0 ∨ ¬ on (6 * r + c) = 0))) :
    ∀ rest q acc co, rb_gd N k ok q rest → rb_co co q → (∀ co, post (acc + rb_ls (fun q => if rb_at q r0 = c0 then 1 else 0) (q :: rest)) ((nI N), 0, 0, 0, ya, on, we, co)) →
      wY_through_33 post (nI (6 * r0 + c0)) (nI k) (rest.length + 2) acc 1 (nI N) (nI q.length) (nI (rb_cn N q)) (nI (rb_tk N q)) ya on we co := by
  have ed : nI (6 * r0 + c0) / 6 = nI r0 := by
    have := pk_div (a := 6 * r0 + c0) (d := 6) (by omega) (by omega) (by omega)
    rw [show (6 * r0 + c0) / 6 = r0 by omega] at this
    exact this
  have em : nI (6 * r0 + c0) - nI (6 * r0 + c0) / 6 * 6 = nI c0 := by
    have := pk_rem (a := 6 * r0 + c0) (d := 6) (by omega) (by omega) (by omega)
    rw [show (6 * r0 + c0) % 6 = c0 by omega] at this
    exact this
  have key : ∀ n (q : List Nat) (rest : List (List Nat)) (acc : Int32) (co : Nat → Int32), rb_gd N k ok q rest → rb_co co q →
      (wY_through_57 post (wY_through_33 post (nI (6 * r0 + c0)) (nI k) n) (nI (6 * r0 + c0)) (nI k) (acc + (if rb_at q r0 = c0 then 1 else 0)) (nI N) (nI q.length) (nI (rb_cn N q)) (nI (rb_tk N q)) ya on we co) →
      wY_through_33 post (nI (6 * r0 + c0)) (nI k) (n + 1) acc 1 (nI N) (nI q.length) (nI (rb_cn N q)) (nI (rb_tk N q)) ya on we co := by
    intro n q rest acc co hq hco h
    rw [wY_through_33]
    have hl := hq.2.1
    have ha : rb_at q r0 ≤ N := rb_va_at q r0 hq.1 (by omega)
    refine br_f (by decide) ⟨by decide, ?_⟩
    rw [em, ed]
    refine ⟨vp_in_nI (by omega) (by omega), by decide, ?_⟩
    rw [nI_clamp (by omega), rb_co_at q r0 hco (by omega)]
    refine pk_eq (rb_at q r0) c0 (fun e => ?_) (fun e => ?_)
    · rw [if_pos e] at h
      exact nm_e h
    · rw [if_neg e, Int32.add_zero] at h
      exact h
  intro rest
  induction rest with
  | nil =>
    intro q acc co hq hco h
    refine key 1 q [] acc co hq hco ?_
    unfold wY_through_57
    refine rb_nx0 hN hk hok hq (fun _ co => ?_) (fun q2 r2 e => nomatch e) co hco
    show wY_through_33 post _ (nI k) (0 + 1) _ 0 _ _ _ _ _ _ _ _
    rw [wY_through_33]
    refine br_t rfl ?_
    have h := h co
    rw [rb_ls, rb_ls, Int32.add_zero] at h
    exact h
  | cons q2 rest ih =>
    intro q acc co hq hco h
    refine key (rest.length + 2) q (q2 :: rest) acc co hq hco ?_
    unfold wY_through_57
    refine rb_nx0 hN hk hok hq (fun e => nomatch e) (fun q3 r3 e hq3 co hco => ?_) co hco
    cases e
    refine ih q2 _ co hq3 hco (fun co => ?_)
    have h := h co
    rw [rb_ls, ← Int32.add_assoc] at h
    exact h
theorem rb_div6 {r c : Nat} (hr : r < 36) (hc : c < 6) : nI (6 * r + c) / 6 = nI r := by
  have := pk_div (a := 6 * r + c) (d := 6) (by omega) (by omega) (by omega)
  rw [show (6 * r + c) / 6 = r by omega] at this
  exact this
theorem rb_mod6 {r c : Nat} (hr : r < 36) (hc : c < 6) : nI (6 * r + c) - nI (6 * r + c) / 6 * 6 = nI c := by
  have := pk_rem (a := 6 * r + c) (d := 6) (by omega) (by omega) (by omega)
  rw [show (6 * r + c) % 6 = c by omega] at this
  exact this
theorem rb_ynoc0 {post : Int32 → Prop} {r c : Nat} (hN : N ≤ 6) (hr : r < N) (hc : c < N) (h : post 0) : wpY_noCell post ((nI N), yr, yp, yt, ya, on, we, co) (nI (6 * r + c)) := by
  unfold wpY_noCell
  refine br_f (nI_pos (by omega)) (br_f (nI_nlt (b := 6 * r + c) (a := 35) (by omega) (by omega)) ⟨by decide, ?_⟩)
  rw [rb_div6 (by omega) (by omega), ]
  refine br_f (nI_ge hr (by omega)) ⟨by decide, ?_⟩
  have e := rb_mod6 (r := r) (c := c) (by omega) (by omega)
  rw [rb_div6 (by omega) (by omega)] at e
  rw [e]
  exact br_t (nI_lt hc (by omega)) h
theorem rb_ythrough {post : Int32 → SY → Prop} {r0 c0 : Nat} (hN0 : 0 < N) (hN : N ≤ 6) (hk : k ≤ N) (hr : r0 < N) (hc : c0 < N)
    (hok : ∀ r c, r < N → c < N → (ok r c = true ↔ (¬ (0 : Int32) = 0 ∨ ¬ on (6 * r + c) = 0)))
    (h : ∀ yr yp yt ya co, post (rb_ls (fun q => if rb_at q r0 = c0 then 1 else 0) (rb_pl N k ok N [])) ((nI N), yr, yp, yt, ya, on, we, co)) : wpY_through post ((nI N), yr, yp, yt, ya, on, we, co) (nI (6 * r0 + c0)) (nI k) := by
  unfold wpY_through
  refine rb_ynoc0 hN hr hc (br_t rfl (rb_ybad0 hN hk (br_t rfl (rb_ybegin0 ?_))))
  refine rb_nx1 hN0 hN hk hok (fun e co => ?_) (fun q rest e hq co hco => ?_) co
  · refine ⟨1, ?_⟩
    rw [wY_through_33]
    have h := h 0 0 0 0 co
    rw [e] at h
    exact br_t rfl h
  · refine ⟨rest.length + 2, rb_ythr_l hN hk hr hc hok rest q 0 co hq hco (fun co => ?_)⟩
    have h := h 0 0 0 0 co
    rw [← e, Int32.zero_add]
    exact h
end
end
section
/-! Y's hits, sum, signedSum, column, most -/
def rb_hit (on : Nat → Int32) (q : List Nat) (n : Nat) : Nat := rb_sn (fun r => if on (6 * r + rb_at q r) = 0 then 0 else 1) n
def rb_wor (N : Nat) (we : Nat → Int32) (q : List Nat) : Nat → Int32 := rb_pr (fun r => if rb_at q r < N then we (6 * r + rb_at q r) else 1)
def rb_sgr (q : List Nat) (r : Nat) : Nat → Int32 := rb_pr (fun s => if r < s ∧ rb_at q s < rb_at q r then -1 else 1)
def rb_sgn (N : Nat) (q : List Nat) : Nat → Int32 := rb_pr (fun r => rb_sgr q r N)
section
variable {N k : Nat} {ok : Nat → Nat → Bool} {ya : Int32} {on we : Nat → Int32} {yr yp yt : Int32} {co : Nat → Int32}
theorem rb_full {q : List Nat} {rest : List (List Nat)} (hq : rb_gd N N ok q rest) : ∀ r, r < N → rb_at q r < N := by
  have hl := hq.2.1
  have hb := rb_va_b q hq.1 (by omega)
  intro r hr
  exact rb_cn_all q (by omega) r (by omega)
theorem rb_yhit {post : Int32 → SY → Prop} {J : Int32 → Int32 → Int32 → Int32 → Int32 → Int32 → Int32 → (Nat → Int32) → (Nat → Int32) → (Nat → Int32) → Prop} {q : List Nat} {x2 : Int32} (kk : Nat) (hN : N ≤ 6) (hkk : kk ≤ N) (hco : ∀ r, r < N → co r = nI (rb_at q r)) (hq : ∀ r, r < N → rb_at q r < N)
    (h : wY_hits_85 post J (nI kk) (x2 + (if rb_hit on q N = kk then 1 else 0)) (nI N) yr yp yt ya on we co) :
    ∀ j r, r + j = N → rb_hit on q r ≤ r → wY_hits_37 post J (nI kk) x2 (nI N) yr yp yt ya on we co (j + 1) (nI (rb_hit on q r)) (nI r) := by
  intro j
  induction j with
  | zero =>
    intro r hr hb
    have e : r = N := by omega
    subst e
    rw [wY_hits_37]
    refine br_t (nI_le (Nat.le_refl _) (by omega)) ?_
    refine pk_eq (rb_hit on q r) kk (fun e => ?_) (fun e => ?_)
    · rw [if_pos e] at h
      exact nm_e h
    · rw [if_neg e, Int32.add_zero] at h
      exact h
  | succ j ih =>
    intro r hr hb
    rw [wY_hits_37]
    have hc := hq r (by omega)
    refine br_f (nI_ge (by omega) (by omega)) ⟨vp_in_nI (by omega) (by omega), ?_⟩
    rw [nI_clamp (n := r) (by omega), hco r (by omega), rb_ix6, nI_clamp (by omega)]
    refine ⟨vp_in_nI (by omega) (by omega), ?_⟩
    have es : rb_hit on q (r + 1) = rb_hit on q r + (if on (6 * r + rb_at q r) = 0 then 0 else 1) := rfl
    refine br_c (fun z => ?_) (fun z => ?_)
    · have es2 : rb_hit on q (r + 1) = rb_hit on q r := by rw [es, if_pos z]; rfl
      refine nm_r (nI_1 r) ?_
      rw [← es2]
      exact ih (r + 1) (by omega) (by omega)
    · rw [if_neg z] at es
      refine nm_r (nI_1 _) (nm_r (nI_1 r) ?_)
      rw [← es]
      exact ih (r + 1) (by omega) (by omega)
theorem rb_yhits_l {post : Int32 → SY → Prop} {kk : Nat} (hN : N ≤ 6) (hkk : kk ≤ N)
    (hok : ∀ r c, r < N → c < N → (ok r c = true ↔ (¬ ya = 0 ∨ ¬ on (6 * r + c) = 0))) :
    ∀ rest q acc co, rb_gd N N ok q rest → rb_co co q → (∀ co, post (acc + rb_ls (fun q => if rb_hit on q N = kk then 1 else 0) (q :: rest)) ((nI N), 0, 0, 0, ya, on, we, co)) →
      wY_hits_27 post (nI kk) (rest.length + 2) acc 1 (nI N) (nI q.length) (nI (rb_cn N q)) (nI (rb_tk N q)) ya on we co := by
  intro rest
  induction rest with
  | nil =>
    intro q acc co hq hco h
    show wY_hits_27 post (nI kk) (1 + 1) acc 1 _ _ _ _ _ _ _ _
    rw [wY_hits_27]
    refine br_f (by decide) ⟨N + 1, ?_⟩
    refine rb_yhit (q := q) kk hN hkk (fun r hr => rb_co_at q r hco (by have := hq.2.1; omega)) (rb_full hq) ?_ N 0 (by omega) (Nat.le_refl _)
    unfold wY_hits_85
    refine rb_nx0 hN (Nat.le_refl N) hok hq (fun _ co => ?_) (fun q2 r2 e => nomatch e) co hco
    show wY_hits_27 post (nI kk) (0 + 1) _ 0 _ _ _ _ _ _ _ _
    rw [wY_hits_27]
    refine br_t rfl ?_
    have h := h co
    rw [rb_ls, rb_ls, Int32.add_zero] at h
    exact h
  | cons q2 rest ih =>
    intro q acc co hq hco h
    show wY_hits_27 post (nI kk) ((rest.length + 2) + 1) acc 1 _ _ _ _ _ _ _ _
    rw [wY_hits_27]
    refine br_f (by decide) ⟨N + 1, ?_⟩
    refine rb_yhit (q := q) kk hN hkk (fun r hr => rb_co_at q r hco (by have := hq.2.1; omega)) (rb_full hq) ?_ N 0 (by omega) (Nat.le_refl _)
    unfold wY_hits_85
    refine rb_nx0 hN (Nat.le_refl N) hok hq (fun e => nomatch e) (fun q3 r3 e hq3 co hco => ?_) co hco
    cases e
    refine ih q2 _ co hq3 hco (fun co => ?_)
    have h := h co
    rw [rb_ls, ← Int32.add_assoc] at h
    exact h
theorem rb_yhits {post : Int32 → SY → Prop} {kk : Nat} (hN0 : 0 < N) (hN : N ≤ 6) (hkk : kk ≤ N)
    (h : ∀ yr yp yt ya co, post (rb_ls (fun q => if rb_hit on q N = kk then 1 else 0) (rb_pl N N (fun _ _ => true) N [])) ((nI N), yr, yp, yt, ya, on, we, co)) : wpY_hits post ((nI N), yr, yp, yt, ya, on, we, co) (nI kk) := by
  have hok : ∀ r c, r < N → c < N → ((fun _ _ => true : Nat → Nat → Bool) r c = true ↔ (¬ (1 : Int32) = 0 ∨ ¬ on (6 * r + c) = 0)) := fun r c _ _ => ⟨fun _ => Or.inl (by decide), fun _ => rfl⟩
  unfold wpY_hits
  refine rb_ybad0 hN hkk (br_t rfl (rb_ybegin1 ?_))
  refine rb_nx1 hN0 hN (Nat.le_refl N) hok (fun e co => ?_) (fun q rest e hq co hco => ?_) co
  · refine ⟨1, ?_⟩
    rw [wY_hits_27]
    have h := h 0 0 0 1 co
    rw [e] at h
    exact br_t rfl h
  · refine ⟨rest.length + 2, rb_yhits_l hN hkk hok rest q 0 co hq hco (fun co => ?_)⟩
    have h := h 0 0 0 1 co
    rw [← e, Int32.zero_add]
    exact h
theorem rb_yworth {post : Int32 → Prop} {q : List Nat} (hN : N ≤ 6) (hco : ∀ r, r < N → co r = nI (rb_at q r)) (hq : ∀ r, r < N → rb_at q r ≤ N) (h : post (rb_wor N we q N)) : wpY_worth post ((nI N), yr, yp, yt, ya, on, we, co) := by
  have key : ∀ j r, r + j = N → wY_worth_4 post (nI N) yr yp yt ya on we co (j + 1) (rb_wor N we q r) (nI r) := by
    intro j
    induction j with
    | zero =>
      intro r hr
      have e : r = N := by omega
      subst e
      rw [wY_worth_4]
      exact br_t (nI_le (Nat.le_refl _) (by omega)) h
    | succ j ih =>
      intro r hr
      rw [wY_worth_4]
      have hc := hq r (by omega)
      have es : rb_wor N we q (r + 1) = rb_wor N we q r * (if rb_at q r < N then we (6 * r + rb_at q r) else 1) := rfl
      refine br_f (nI_ge (by omega) (by omega)) ⟨vp_in_nI (by omega) (by omega), ?_⟩
      rw [nI_clamp (n := r) (by omega), hco r (by omega)]
      refine pk_le N (rb_at q r) (fun z => ?_) (fun z => ?_)
      · rw [if_neg (by omega), Int32.mul_one] at es
        refine nm_r (nI_1 r) ?_
        rw [← es]
        exact ih (r + 1) (by omega)
      · rw [if_pos z] at es
        refine ⟨vp_in_nI (by omega) (by omega), ?_⟩
        rw [rb_ix6, nI_clamp (by omega)]
        refine ⟨vp_in_nI (by omega) (by omega), nm_r es.symm (nm_r (nI_1 r) ?_)⟩
        exact ih (r + 1) (by omega)
  unfold wpY_worth
  exact ⟨N + 1, key N 0 (by omega)⟩
theorem rb_ysum_l {post : Int32 → SY → Prop} (hN : N ≤ 6) (hk : k ≤ N)
    (hok : ∀ r c, r < N → c < N → (ok r c = true ↔ (¬ ya = 0 ∨ ¬ on (6 * r + c) = 0))) :
    ∀ rest q acc co, rb_gd N k ok q rest → rb_co co q → (∀ co, post (acc + rb_ls (fun q => rb_wor N we q N) (q :: rest)) ((nI N), 0, 0, 0, ya, on, we, co)) →
      wY_sum_24 post (nI k) (rest.length + 2) acc 1 (nI N) (nI q.length) (nI (rb_cn N q)) (nI (rb_tk N q)) ya on we co := by
  intro rest
  induction rest with
  | nil =>
    intro q acc co hq hco h
    show wY_sum_24 post (nI k) (1 + 1) acc 1 _ _ _ _ _ _ _ _
    rw [wY_sum_24]
    refine br_f (by decide) (rb_yworth hN (fun r hr => rb_co_at q r hco (by have := hq.2.1; omega)) (fun r hr => rb_va_at q r hq.1 (by have := hq.2.1; omega)) (nm_e ?_))
    refine rb_nx0 hN hk hok hq (fun _ co => ?_) (fun q2 r2 e => nomatch e) co hco
    show wY_sum_24 post (nI k) (0 + 1) _ 0 _ _ _ _ _ _ _ _
    rw [wY_sum_24]
    refine br_t rfl ?_
    have h := h co
    rw [rb_ls, rb_ls, Int32.add_zero] at h
    exact h
  | cons q2 rest ih =>
    intro q acc co hq hco h
    show wY_sum_24 post (nI k) ((rest.length + 2) + 1) acc 1 _ _ _ _ _ _ _ _
    rw [wY_sum_24]
    refine br_f (by decide) (rb_yworth hN (fun r hr => rb_co_at q r hco (by have := hq.2.1; omega)) (fun r hr => rb_va_at q r hq.1 (by have := hq.2.1; omega)) (nm_e ?_))
    refine rb_nx0 hN hk hok hq (fun e => nomatch e) (fun q3 r3 e hq3 co hco => ?_) co hco
    cases e
    refine ih q2 _ co hq3 hco (fun co => ?_)
    have h := h co
    rw [rb_ls, ← Int32.add_assoc] at h
    exact h
theorem rb_ysum {post : Int32 → SY → Prop} (hN0 : 0 < N) (hN : N ≤ 6) (hk : k ≤ N)
    (hok : ∀ r c, r < N → c < N → (ok r c = true ↔ (¬ (0 : Int32) = 0 ∨ ¬ on (6 * r + c) = 0)))
    (h : ∀ yr yp yt ya co, post (rb_ls (fun q => rb_wor N we q N) (rb_pl N k ok N [])) ((nI N), yr, yp, yt, ya, on, we, co)) : wpY_sum post ((nI N), yr, yp, yt, ya, on, we, co) (nI k) := by
  unfold wpY_sum
  refine rb_ybad0 hN hk (br_t rfl (rb_ybegin0 ?_))
  refine rb_nx1 hN0 hN hk hok (fun e co => ?_) (fun q rest e hq co hco => ?_) co
  · refine ⟨1, ?_⟩
    rw [wY_sum_24]
    have h := h 0 0 0 0 co
    rw [e] at h
    exact br_t rfl h
  · refine ⟨rest.length + 2, rb_ysum_l hN hk hok rest q 0 co hq hco (fun co => ?_)⟩
    have h := h 0 0 0 0 co
    rw [← e, Int32.zero_add]
    exact h
theorem rb_neg1 (x : Int32) : -x = x * (-1) := by grind
theorem rb_ysign {post : Int32 → Prop} {q : List Nat} (hN : N ≤ 6) (hco : ∀ r, r < N → co r = nI (rb_at q r)) (hq : ∀ r, r < N → rb_at q r < N) (h : post (rb_sgn N q N)) : wpY_sign post ((nI N), yr, yp, yt, ya, on, we, co) := by
  have inner : ∀ (J : Int32 → Int32 → Prop) (r : Nat) (acc : Int32), r < N → J (acc * rb_sgr q r N) (nI (r + 1)) → ∀ j s, s + j = N → r < s → wY_sign_16 post J (nI r) (nI N) yr yp yt ya on we co (j + 1) (acc * rb_sgr q r s) (nI s) := by
    intro J r acc hr hJ j
    induction j with
    | zero =>
      intro s hs _
      have e : s = N := by omega
      subst e
      rw [wY_sign_16]
      exact br_t (nI_le (Nat.le_refl _) (by omega)) (nm_r (nI_1 r) hJ)
    | succ j ih =>
      intro s hs hrs
      rw [wY_sign_16]
      have h1 := hq r hr
      have h2 := hq s (by omega)
      have es : rb_sgr q r (s + 1) = rb_sgr q r s * (if r < s ∧ rb_at q s < rb_at q r then -1 else 1) := rfl
      refine br_f (nI_ge (by omega) (by omega)) ⟨vp_in_nI (by omega) (by omega), vp_in_nI (by omega) (by omega), ?_⟩
      rw [nI_clamp (n := r) (by omega), nI_clamp (n := s) (by omega), hco r hr, hco s (by omega)]
      refine pk_le (rb_at q r) (rb_at q s) (fun z => ?_) (fun z => ?_)
      · rw [if_neg (by omega), Int32.mul_one] at es
        refine nm_r (nI_1 s) ?_
        rw [← es]
        exact ih (s + 1) (by omega) (by omega)
      · rw [if_pos ⟨hrs, z⟩] at es
        refine nm_r (e' := acc * rb_sgr q r (s + 1)) (by rw [es, rb_neg1, Int32.mul_assoc]) (nm_r (nI_1 s) ?_)
        exact ih (s + 1) (by omega) (by omega)
  have key : ∀ j r, r + j = N → wY_sign_4 post (nI N) yr yp yt ya on we co (j + 1) (rb_sgn N q r) (nI r) := by
    intro j
    induction j with
    | zero =>
      intro r hr
      have e : r = N := by omega
      subst e
      rw [wY_sign_4]
      exact br_t (nI_le (Nat.le_refl _) (by omega)) h
    | succ j ih =>
      intro r hr
      rw [wY_sign_4]
      refine br_f (nI_ge (by omega) (by omega)) (nm_r (nI_1 r) ⟨N - (r + 1) + 1, ?_⟩)
      have e1 : rb_sgr q r (r + 1) = 1 := rb_pr_1 _ (fun i hi => if_neg (by omega))
      have := inner (wY_sign_4 post (nI N) yr yp yt ya on we co (j + 1)) r (rb_sgn N q r) (by omega) (ih (r + 1) (by omega)) (N - (r + 1)) (r + 1) (by omega) (by omega)
      rw [e1, Int32.mul_one] at this
      exact this
  unfold wpY_sign
  exact ⟨N + 1, key N 0 (by omega)⟩
theorem rb_yss_l {post : Int32 → SY → Prop} (hN : N ≤ 6)
    (hok : ∀ r c, r < N → c < N → (ok r c = true ↔ (¬ ya = 0 ∨ ¬ on (6 * r + c) = 0))) :
    ∀ rest q acc co, rb_gd N N ok q rest → rb_co co q → (∀ co, post (acc + rb_ls (fun q => rb_sgn N q N * rb_wor N we q N) (q :: rest)) ((nI N), 0, 0, 0, ya, on, we, co)) →
      wY_signedSum_17 post (rest.length + 2) acc 1 (nI N) (nI q.length) (nI (rb_cn N q)) (nI (rb_tk N q)) ya on we co := by
  intro rest
  induction rest with
  | nil =>
    intro q acc co hq hco h
    show wY_signedSum_17 post (1 + 1) acc 1 _ _ _ _ _ _ _ _
    rw [wY_signedSum_17]
    refine br_f (by decide) (rb_yworth hN (fun r hr => rb_co_at q r hco (by have := hq.2.1; omega)) (fun r hr => rb_va_at q r hq.1 (by have := hq.2.1; omega)) (rb_ysign hN (fun r hr => rb_co_at q r hco (by have := hq.2.1; omega)) (rb_full hq) (nm_e ?_)))
    refine rb_nx0 hN (Nat.le_refl N) hok hq (fun _ co => ?_) (fun q2 r2 e => nomatch e) co hco
    show wY_signedSum_17 post (0 + 1) _ 0 _ _ _ _ _ _ _ _
    rw [wY_signedSum_17]
    refine br_t rfl ?_
    have h := h co
    rw [rb_ls, rb_ls, Int32.add_zero] at h
    exact h
  | cons q2 rest ih =>
    intro q acc co hq hco h
    show wY_signedSum_17 post ((rest.length + 2) + 1) acc 1 _ _ _ _ _ _ _ _
    rw [wY_signedSum_17]
    refine br_f (by decide) (rb_yworth hN (fun r hr => rb_co_at q r hco (by have := hq.2.1; omega)) (fun r hr => rb_va_at q r hq.1 (by have := hq.2.1; omega)) (rb_ysign hN (fun r hr => rb_co_at q r hco (by have := hq.2.1; omega)) (rb_full hq) (nm_e ?_)))
    refine rb_nx0 hN (Nat.le_refl N) hok hq (fun e => nomatch e) (fun q3 r3 e hq3 co hco => ?_) co hco
    cases e
    refine ih q2 _ co hq3 hco (fun co => ?_)
    have h := h co
    rw [rb_ls, ← Int32.add_assoc] at h
    exact h
theorem rb_yss {post : Int32 → SY → Prop} (hN0 : 0 < N) (hN : N ≤ 6)
    (hok : ∀ r c, r < N → c < N → (ok r c = true ↔ (¬ (0 : Int32) = 0 ∨ ¬ on (6 * r + c) = 0)))
    (h : ∀ yr yp yt ya co, post (rb_ls (fun q => rb_sgn N q N * rb_wor N we q N) (rb_pl N N ok N [])) ((nI N), yr, yp, yt, ya, on, we, co)) : wpY_signedSum post ((nI N), yr, yp, yt, ya, on, we, co) := by
  unfold wpY_signedSum
  refine rb_ybegin0 ?_
  refine rb_nx1 hN0 hN (Nat.le_refl N) hok (fun e co => ?_) (fun q rest e hq co hco => ?_) co
  · refine ⟨1, ?_⟩
    rw [wY_signedSum_17]
    have h := h 0 0 0 0 co
    rw [e] at h
    exact br_t rfl h
  · refine ⟨rest.length + 2, rb_yss_l hN hok rest q 0 co hq hco (fun co => ?_)⟩
    have h := h 0 0 0 0 co
    rw [← e, Int32.zero_add]
    exact h
theorem rb_ycol_l {post : Int32 → SY → Prop} {i r : Nat} (hN : N ≤ 6) (hk : k ≤ N) (hi : i < 2 ^ 31) (hr : r < N)
    (hok : ∀ r c, r < N → c < N → (ok r c = true ↔ (¬ ya = 0 ∨ ¬ on (6 * r + c) = 0))) :
    ∀ rest q m co, rb_gd N k ok q rest → rb_co co q → m ≤ i →
      (∀ q', (q :: rest)[i - m]? = some q' → ∀ yr yp yt co, post (nI (rb_at q' r)) ((nI N), yr, yp, yt, ya, on, we, co)) →
      ((q :: rest)[i - m]? = none → ∀ yr yp yt co, post (-4) ((nI N), yr, yp, yt, ya, on, we, co)) →
      wY_column_41 post (nI k) (nI i) (nI r) (rest.length + 2) 1 (nI m) (nI N) (nI q.length) (nI (rb_cn N q)) (nI (rb_tk N q)) ya on we co := by
  intro rest
  induction rest with
  | nil =>
    intro q m co hq hco hm h1 h2
    show wY_column_41 post (nI k) (nI i) (nI r) (1 + 1) 1 (nI m) _ _ _ _ _ _ _ _
    rw [wY_column_41]
    refine pk_le i m (fun z => ?_) (fun z => ?_)
    · unfold wY_column_66
      have h := h1 q (by rw [show i - m = 0 by omega]; rfl) (nI q.length) (nI (rb_cn N q)) (nI (rb_tk N q)) co
      refine br_f (by decide) ⟨vp_in_nI (by omega) (by omega), ?_⟩
      rw [nI_clamp (by omega), rb_co_at q r hco (by have := hq.2.1; omega)]
      exact h
    · refine br_f (by decide) ?_
      refine rb_nx0 hN hk hok hq (fun _ co => nm_r (nI_1 m) ?_) (fun q2 r2 e => nomatch e) co hco
      have h := h2 (by obtain ⟨d, hd⟩ : ∃ d, i - m = d + 1 := ⟨i - m - 1, by omega⟩; rw [hd]; rfl) 0 0 0 co
      show wY_column_41 post (nI k) (nI i) (nI r) (0 + 1) 0 _ _ _ _ _ _ _ _ _
      rw [wY_column_41]
      have h66 : wY_column_66 post (nI r) 0 (nI N) 0 0 0 ya on we co := by
        unfold wY_column_66
        exact br_t rfl h
      exact br_c (fun _ => h66) (fun _ => br_t rfl h66)
  | cons q2 rest ih =>
    intro q m co hq hco hm h1 h2
    show wY_column_41 post (nI k) (nI i) (nI r) ((rest.length + 2) + 1) 1 (nI m) _ _ _ _ _ _ _ _
    rw [wY_column_41]
    refine pk_le i m (fun z => ?_) (fun z => ?_)
    · unfold wY_column_66
      have h := h1 q (by rw [show i - m = 0 by omega]; rfl) (nI q.length) (nI (rb_cn N q)) (nI (rb_tk N q)) co
      refine br_f (by decide) ⟨vp_in_nI (by omega) (by omega), ?_⟩
      rw [nI_clamp (by omega), rb_co_at q r hco (by have := hq.2.1; omega)]
      exact h
    · refine br_f (by decide) ?_
      refine rb_nx0 hN hk hok hq (fun e => nomatch e) (fun q3 r3 e hq3 co hco => nm_r (nI_1 m) ?_) co hco
      cases e
      have ei : i - m = (i - (m + 1)) + 1 := by omega
      rw [ei] at h1 h2
      exact ih q2 (m + 1) co hq3 hco (by omega) h1 h2
theorem rb_most_l {post : Int32 → SY → Prop} {m : Nat} (hN0 : 0 < N) (hN : N ≤ 6)
    (hok : ∀ r c, r < N → c < N → (ok r c = true ↔ (¬ (0 : Int32) = 0 ∨ ¬ on (6 * r + c) = 0)))
    (h1 : rb_pl N m ok N [] ≠ []) (h2 : ∀ k, m < k → k ≤ N → rb_pl N k ok N [] = [])
    (h : ∀ yr yp yt ya co, post (nI m) ((nI N), yr, yp, yt, ya, on, we, co)) :
    ∀ j k yr yp yt ya co, k = m + j → k ≤ N → wY_most_7 post (j + 2) (nI k) 0 (nI N) yr yp yt ya on we co := by
  intro j
  induction j with
  | zero =>
    intro k yr yp yt ya co hk hkN
    have e : k = m := by omega
    subst e
    rw [wY_most_7]
    refine br_t rfl (rb_ybegin0 ?_)
    refine rb_nx1 hN0 hN hkN hok (fun e => absurd e h1) (fun q rest e hq co hco => ?_) co
    refine br_f (by decide) ?_
    show wY_most_7 post (0 + 1) _ 1 _ _ _ _ _ _ _ _
    rw [wY_most_7]
    exact br_f (by decide) (h _ _ _ _ _)
  | succ j ih =>
    intro k yr yp yt ya co hk hkN
    show wY_most_7 post ((j + 2) + 1) _ 0 _ _ _ _ _ _ _ _
    rw [wY_most_7]
    refine br_t rfl (rb_ybegin0 ?_)
    refine rb_nx1 hN0 hN hkN hok (fun e co => ?_) (fun q rest e => ?_) co
    · obtain ⟨k', rfl⟩ : ∃ k', k = k' + 1 := ⟨k - 1, by omega⟩
      exact br_t rfl (nm_r (pk_m1 k') (ih k' _ _ _ _ _ (by omega) (by omega)))
    · rw [h2 k (by omega) hkN] at e
      exact nomatch e
theorem rb_ymost {post : Int32 → SY → Prop} {m : Nat} (hN0 : 0 < N) (hN : N ≤ 6) (hm : m ≤ N)
    (hok : ∀ r c, r < N → c < N → (ok r c = true ↔ (¬ (0 : Int32) = 0 ∨ ¬ on (6 * r + c) = 0)))
    (h1 : rb_pl N m ok N [] ≠ []) (h2 : ∀ k, m < k → k ≤ N → rb_pl N k ok N [] = [])
    (h : ∀ yr yp yt ya co, post (nI m) ((nI N), yr, yp, yt, ya, on, we, co)) : wpY_most post ((nI N), yr, yp, yt, ya, on, we, co) := by
  unfold wpY_most
  exact ⟨N - m + 2, rb_most_l hN0 hN hok h1 h2 h (N - m) N yr yp yt ya co (by omega) (Nat.le_refl N)⟩
end
end
section
/-! X's small methods -/
def rb_bd (N : Nat) (B : Nat → Nat) (bd : Nat → Int32) : Prop := ∀ r, r < 6 → bd r = nI (B r) ∧ B r < 2 ^ N
theorem rb_bd64 {N : Nat} {B : Nat → Nat} {bd : Nat → Int32} (hN : N ≤ 6) (h : rb_bd N B bd) {r : Nat} (hr : r < 6) : B r < 64 :=
  Nat.lt_of_lt_of_le (h r hr).2 (rb_pN hN)
def rb_lb (F : Nat) : Nat := if F.testBit 0 then 0 else if F.testBit 1 then 1 else if F.testBit 2 then 2 else if F.testBit 3 then 3 else if F.testBit 4 then 4 else 5
theorem rb_low : ∀ F, F < 64 → 0 < F → rb_lb F < 6 ∧ F.testBit (rb_lb F) = true ∧ nI F &&& (-nI F) = nI (2 ^ rb_lb F) ∧ F ^^^ 2 ^ rb_lb F < F ∧ rb_pc (2 ^ rb_lb F - 1) 6 = rb_lb F := by decide +kernel
theorem rb_sm_bit {F c n : Nat} (g : Nat → Int32) (h : F.testBit c = true) (hc : c < n) : rb_sm (fun d => if F.testBit d then g d else 0) n = g c + rb_sm (fun d => if (F ^^^ 2 ^ c).testBit d then g d else 0) n := by
  have e : rb_sm (fun d => if F.testBit d then g d else 0) n = rb_sm (fun d => (if d = c then g c else 0) + (if (F ^^^ 2 ^ c).testBit d then g d else 0)) n := by
    apply rb_sm_congr
    intro d _
    rw [Nat.testBit_xor, rb_tbp]
    by_cases z : d = c
    · subst z
      rw [h]; simp
    · rw [if_neg z, decide_eq_false (fun y => z y.symm), Bool.xor_false, Int32.zero_add]
  rw [e, rb_sm_add, rb_sm_one, if_pos hc]
theorem rb_sm_ext {f : Nat → Int32} {n : Nat} : ∀ m, n ≤ m → (∀ i, n ≤ i → i < m → f i = 0) → rb_sm f m = rb_sm f n := by
  intro m
  induction m with
  | zero => intro h _; rw [show n = 0 by omega]
  | succ m ih =>
    intro h hz
    by_cases e : n = m + 1
    · rw [e]
    · rw [rb_sm, hz m (by omega) (by omega), ih (by omega) (fun i a b => hz i a (by omega)), Int32.add_zero]
theorem rb_ix64 (r c : Nat) : (64 : Int32) * nI r + nI c = nI (64 * r + c) := by
  show nI 64 * nI r + nI c = _
  rw [pk_mul, nI_add]
theorem rb_sh1 {N : Nat} (h : N ≤ 6) : (1 : Int32) <<< (nI N &&& 31) = nI (2 ^ N) := rb_shl N (by omega)
section
variable {N k : Nat} {B : Nat → Nat} {ft : Int32} {bd we wy nx su la fa ch ro pr pc : Nat → Int32}
theorem rb_xsize {post : Int32 → Prop} {a : Nat} (ha : a < 64) (h : post (nI (rb_pc a 6))) : wpX_sizeOf post ((nI N), ft, bd, we, wy, nx, su, la, fa, ch, ro, pr, pc) (nI a) := by
  have key : ∀ j c, c + j = 6 → wX_sizeOf_4 post (nI a) (nI N) ft bd we wy nx su la fa ch ro pr pc (j + 1) (nI (rb_pc a c)) (nI c) := by
    intro j
    induction j with
    | zero =>
      intro c hc
      have e : c = 6 := by omega
      subst e
      rw [wX_sizeOf_4]
      exact br_t (nI_le (a := 6) (b := 6) (by omega) (by omega)) h
    | succ j ih =>
      intro c hc
      rw [wX_sizeOf_4]
      refine br_f (nI_ge (b := 6) (by omega) (by omega)) (nm_r (e' := nI (rb_pc a (c + 1))) ?_ (nm_r (nI_1 c) (ih (c + 1) (by omega))))
      rw [rb_bitv (by omega) (by omega), nI_add]
      rfl
  unfold wpX_sizeOf
  exact ⟨7, key 6 0 rfl⟩
theorem rb_xbadc0 {post : Int32 → Prop} {r c : Nat} (hN : N ≤ 6) (hr : r < N) (hc : c < N) (h : post 0) : wpX_badCell post ((nI N), ft, bd, we, wy, nx, su, la, fa, ch, ro, pr, pc) (nI (6 * r + c)) := by
  unfold wpX_badCell
  refine br_f (nI_pos (by omega)) ⟨by decide, ?_⟩
  have e := rb_mod6 (r := r) (c := c) (by omega) (by omega)
  rw [rb_div6 (by omega) (by omega)] at e ⊢
  rw [e]
  exact br_f (nI_ge hr (by omega)) ⟨by decide, br_t (nI_lt hc (by omega)) h⟩
theorem rb_xbadn0 {post : Int32 → Prop} {j : Nat} (hN : N ≤ 6) (hj : j ≤ N) (h : post 0) : wpX_badNumber post ((nI N), ft, bd, we, wy, nx, su, la, fa, ch, ro, pr, pc) (nI j) := by
  unfold wpX_badNumber
  exact br_f (nI_pos (by omega)) (br_t (nI_le hj (by omega)) h)
theorem rb_xbadn1 {post : Int32 → Prop} {x : Int32} (hx : x < 0 ∨ (¬ x < 0 ∧ ¬ x ≤ nI N)) (h : post 1) : wpX_badNumber post ((nI N), ft, bd, we, wy, nx, su, la, fa, ch, ro, pr, pc) x := by
  unfold wpX_badNumber
  rcases hx with hx | ⟨h1, h2⟩
  · exact br_t hx h
  · exact br_f h1 (br_f h2 h)
/-- an argument is a cell of the board, or both sides refuse it -/
theorem rb_cell (hN : N ≤ 6) {yr yp yt ya : Int32} {on co : Nat → Int32} (x : Int32) : (∃ r c, r < N ∧ c < N ∧ x = nI (6 * r + c)) ∨ ((∀ post : Int32 → Prop, post 1 → wpX_badCell post ((nI N), ft, bd, we, wy, nx, su, la, fa, ch, ro, pr, pc) x) ∧ (∀ post : Int32 → Prop, post 1 → wpY_noCell post ((nI N), yr, yp, yt, ya, on, we, co) x)) := by
  by_cases h : x < 0
  · refine Or.inr ⟨fun post hp => ?_, fun post hp => ?_⟩
    · unfold wpX_badCell; exact br_t h hp
    · unfold wpY_noCell; exact br_t h hp
  · obtain ⟨j, hj, rfl⟩ := nI_of h
    have ed : nI j / 6 = nI (j / 6) := pk_div (d := 6) hj (by omega) (by omega)
    have em : nI j - nI j / 6 * 6 = nI (j % 6) := pk_rem (d := 6) hj (by omega) (by omega)
    by_cases h1 : N ≤ j / 6
    · refine Or.inr ⟨fun post hp => ?_, fun post hp => ?_⟩
      · unfold wpX_badCell
        refine br_f h ⟨by decide, br_t ?_ hp⟩
        rw [ed]; exact nI_le h1 (by omega)
      · unfold wpY_noCell
        refine br_f h (br_c (fun _ => hp) (fun _ => ⟨by decide, br_t ?_ hp⟩))
        rw [ed]; exact nI_le h1 (by omega)
    · by_cases h2 : j % 6 < N
      · exact Or.inl ⟨j / 6, j % 6, by omega, h2, by rw [show 6 * (j / 6) + j % 6 = j by omega]⟩
      · refine Or.inr ⟨fun post hp => ?_, fun post hp => ?_⟩
        · unfold wpX_badCell
          refine br_f h ⟨by decide, br_f ?_ ⟨by decide, br_f ?_ hp⟩⟩
          · rw [ed]; exact nI_ge (by omega) (by omega)
          · rw [em]; exact nI_nlt (by omega) (by omega)
        · unfold wpY_noCell
          refine br_f h (br_c (fun _ => hp) (fun _ => ⟨by decide, br_f ?_ ⟨by decide, br_f ?_ hp⟩⟩))
          · rw [ed]; exact nI_ge (by omega) (by omega)
          · rw [em]; exact nI_nlt (by omega) (by omega)
theorem rb_xcells {post : Int32 → Prop} (hN : N ≤ 6) (hB : rb_bd N B bd) (h : post (nI (rb_sn (fun r => rb_pc (B r) 6) N))) : wpX_cells post ((nI N), ft, bd, we, wy, nx, su, la, fa, ch, ro, pr, pc) := by
  have key : ∀ j r, r + j = N → wX_cells_4 post (nI N) ft bd we wy nx su la fa ch ro pr pc (j + 1) (nI (rb_sn (fun r => rb_pc (B r) 6) r)) (nI r) := by
    intro j
    induction j with
    | zero =>
      intro r hr
      have e : r = N := by omega
      subst e
      rw [wX_cells_4]
      exact br_t (nI_le (Nat.le_refl _) (by omega)) h
    | succ j ih =>
      intro r hr
      rw [wX_cells_4]
      refine br_f (nI_ge (by omega) (by omega)) ⟨vp_in_nI (by omega) (by omega), ?_⟩
      rw [nI_clamp (by omega), (hB r (by omega)).1]
      refine rb_xsize (rb_bd64 hN hB (by omega)) (nm_r (e' := nI (rb_sn (fun r => rb_pc (B r) 6) (r + 1))) ?_ (nm_r (nI_1 r) (ih (r + 1) (by omega))))
      rw [nI_add]; rfl
  unfold wpX_cells
  exact ⟨N + 1, key N 0 (by omega)⟩
end
end
section
/-! X's findWays: the number of ways for each row and set -/
def rb_ct (N : Nat) (ok : Nat → Nat → Bool) : Nat → Nat → Nat → Nat
  | 0, k, _ => if k = 0 then 1 else 0
  | m + 1, k, T => rb_ct N ok m k T + (if k = 0 then 0 else rb_sn (fun c => if ok (N - 1 - m) c && !T.testBit c then rb_ct N ok m (k - 1) (T ||| 2 ^ c) else 0) N)
def rb_ok (B : Nat → Nat) (r c : Nat) : Bool := (B r).testBit c
def rb_wy (N k : Nat) (B : Nat → Nat) (wy : Nat → Int32) : Prop := ∀ r T, r ≤ N → T < 2 ^ N → wy (64 * r + T) = nI (rb_ct N (rb_ok B) (N - r) k T)
theorem rb_ct_0 (N : Nat) (ok : Nat → Nat → Bool) : ∀ m T, rb_ct N ok m 0 T = 1 := by
  intro m
  induction m with
  | zero => intro T; rfl
  | succ m ih => intro T; rw [rb_ct, ih, if_pos rfl]
/-- the free columns of a row: what countRow adds -/
theorem rb_ct_s {N k r T : Nat} {B : Nat → Nat} {wy : Nat → Int32} (hN : N ≤ 6) (hr : r < N) (hT : T < 2 ^ N) (hb : B r < 2 ^ N) (hw : rb_wy N k B wy) :
    nI (rb_ct N (rb_ok B) (N - (r + 1)) (k + 1) T) + rb_sm (fun c => if (B r &&& (63 ^^^ T)).testBit c then wy (64 * (r + 1) + (T ||| 2 ^ c)) else 0) 6 = nI (rb_ct N (rb_ok B) (N - r) (k + 1) T) := by
  rw [show N - r = (N - (r + 1)) + 1 by omega, rb_ct, if_neg (by omega), ← nI_add, rb_sm_nI, show N - 1 - (N - (r + 1)) = r by omega]
  congr 1
  rw [rb_sm_ext (n := N) 6 hN]
  · apply rb_sm_congr
    intro c hc
    try dsimp only
    rw [rb_tbn _ _ (by omega : c < 6)]
    unfold rb_ok
    cases h : ((B r).testBit c && !T.testBit c) with
    | false => rfl
    | true =>
      rw [if_pos rfl, if_pos rfl, hw (r + 1) (T ||| 2 ^ c) (by omega) (rb_orN hT hc), Nat.add_sub_cancel]
      rfl
  · intro c h1 h2
    try dsimp only
    rw [rb_tbn _ _ h2, rb_hi hb h1]
    rfl
section
variable {N k : Nat} {B : Nat → Nat} {ft : Int32} {bd we wy nx su la fa ch ro pr pc : Nat → Int32}
theorem rb_xcr38 {post : SX → Prop} {J : Int32 → (Nat → Int32) → (Nat → Int32) → (Nat → Int32) → (Nat → Int32) → (Nat → Int32) → (Nat → Int32) → (Nat → Int32) → (Nat → Int32) → (Nat → Int32) → (Nat → Int32) → (Nat → Int32) → Prop} {r t : Nat} (hr : r < 6) (ht : t < 64) :
    ∀ n F acc, F < n → F < 64 → J (nI (t + 1)) bd we wy (upd nx (64 * r + t) (acc + rb_sm (fun c => if F.testBit c then wy (64 * (r + 1) + (t ||| 2 ^ c)) else 0) 6)) su la fa ch ro pr pc →
      wX_countRow_38 post J (nI r) (nI t) (nI N) ft bd we wy nx su la fa ch ro pr pc n acc (nI F) := by
  intro n
  induction n with
  | zero => intro F acc h; omega
  | succ n ih =>
    intro F acc hF hF2 h
    rw [wX_countRow_38]
    refine pk_eq F 0 (fun e => ?_) (fun e => ?_)
    · subst e
      rw [rb_ix64, nI_clamp (by omega)]
      rw [rb_sm_z 6 (fun i _ => by rw [Nat.zero_testBit]; rfl), Int32.add_zero] at h
      exact ⟨vp_in_nI (by omega) (by omega), nm_e (nm_r (nI_1 t) h)⟩
    · obtain ⟨h1, h2, h3, h4, -⟩ := rb_low F hF2 (by omega)
      refine nm_r h3 (nm_r (nx_xor F (2 ^ rb_lb F)) ?_)
      have h5 := rb_or64 ht (rb_p64 h1)
      rw [nI_1, rb_or, rb_ix64, nI_clamp (by omega)]
      refine ⟨vp_in_nI (by omega) (by omega), nm_e (ih _ _ (by omega) (by omega) ?_)⟩
      rw [rb_sm_bit (fun c => wy (64 * (r + 1) + (t ||| 2 ^ c))) h2 h1, ← Int32.add_assoc] at h
      exact h
theorem rb_xcr {post : SX → Prop} {r : Nat} (hN : N ≤ 6) (hr : r < N) (hB : rb_bd N B bd)
    (h : ∀ nx' : Nat → Int32, (∀ T, T < 2 ^ N → nx' (64 * r + T) = nx (64 * (r + 1) + T) + rb_sm (fun c => if (B r &&& (63 ^^^ T)).testBit c then wy (64 * (r + 1) + (T ||| 2 ^ c)) else 0) 6) → (∀ j, 64 * (r + 1) ≤ j → nx' j = nx j) → post ((nI N), ft, bd, we, wy, nx', su, la, fa, ch, ro, pr, pc)) :
    wpX_countRow post ((nI N), ft, bd, we, wy, nx, su, la, fa, ch, ro, pr, pc) (nI r) := by
  have h64 := rb_pN hN
  have key : ∀ j t nx', t + j = 2 ^ N → (∀ T, T < t → nx' (64 * r + T) = nx (64 * (r + 1) + T) + rb_sm (fun c => if (B r &&& (63 ^^^ T)).testBit c then wy (64 * (r + 1) + (T ||| 2 ^ c)) else 0) 6) → (∀ j, 64 * (r + 1) ≤ j → nx' j = nx j) →
      wX_countRow_2 post (nI r) (nI N) ft (j + 1) (nI t) bd we wy nx' su la fa ch ro pr pc := by
    intro j
    induction j with
    | zero =>
      intro t nx' ht h1 h2
      have e : t = 2 ^ N := by omega
      subst e
      rw [wX_countRow_2, rb_sh1 hN]
      exact br_t (nI_le (Nat.le_refl _) (by omega)) (h nx' h1 h2)
    | succ j ih =>
      intro t nx' ht h1 h2
      rw [wX_countRow_2, rb_sh1 hN]
      refine br_f (nI_ge (by omega) (by omega)) ?_
      rw [nI_1, rb_ix64, nI_clamp (by omega), nI_clamp (n := r) (by omega)]
      refine ⟨vp_in_nI (by omega) (by omega), nm_e ⟨vp_in_nI (by omega) (by omega), ?_⟩⟩
      rw [(hB r (by omega)).1, rb_andn _ (rb_bd64 hN hB (by omega)) t (by omega)]
      refine nm_e ⟨65, ?_⟩
      refine rb_xcr38 (by omega) (by omega) 65 _ _ (Nat.lt_succ_of_lt (rb_and64 (rb_bd64 hN hB (by omega)) _)) (rb_and64 (rb_bd64 hN hB (by omega)) _) ?_
      refine ih (t + 1) _ (by omega) ?_ ?_
      · intro T hT
        by_cases e : T = t
        · subst e
          rw [pk_us, h2 _ (by omega)]
        · rw [pk_un (by omega)]
          exact h1 T (by omega)
      · intro i hi
        rw [pk_un (by omega)]
        exact h2 i hi
  unfold wpX_countRow
  exact ⟨2 ^ N + 1, key (2 ^ N) 0 nx (by omega) (fun T hT => absurd hT (Nat.not_lt_zero T)) (fun _ _ => rfl)⟩
theorem rb_n1 (hN : N ≤ 6) : (64 : Int32) * (nI N + 1) = nI (64 * (N + 1)) := by
  rw [nI_1]
  show nI 64 * nI (N + 1) = _
  rw [pk_mul]
theorem rb_xtake {post : SX → Prop} (hN : N ≤ 6)
    (h : ∀ wy', (∀ i, i < 64 * (N + 1) → wy' i = nx i) → post ((nI N), ft, bd, we, wy', nx, su, la, fa, ch, ro, pr, pc)) : wpX_takeNext post ((nI N), ft, bd, we, wy, nx, su, la, fa, ch, ro, pr, pc) := by
  have key : ∀ j t wy', t + j = 64 * (N + 1) → (∀ i, i < t → wy' i = nx i) → wX_takeNext_2 post (nI N) ft (j + 1) (nI t) bd we wy' nx su la fa ch ro pr pc := by
    intro j
    induction j with
    | zero =>
      intro t wy' ht h1
      have e : t = 64 * (N + 1) := by omega
      subst e
      rw [wX_takeNext_2, rb_n1 hN]
      exact br_t (nI_le (Nat.le_refl _) (by omega)) (h wy' h1)
    | succ j ih =>
      intro t wy' ht h1
      rw [wX_takeNext_2, rb_n1 hN]
      refine br_f (nI_ge (by omega) (by omega)) ?_
      rw [nI_clamp (by omega)]
      refine ⟨vp_in_nI (by omega) (by omega), vp_in_nI (by omega) (by omega), nm_e (nm_r (nI_1 t) (ih (t + 1) _ (by omega) ?_))⟩
      intro i hi
      by_cases e : i = t
      · subst e; rw [pk_us]
      · rw [pk_un e]; exact h1 i (by omega)
  unfold wpX_takeNext
  exact ⟨64 * (N + 1) + 1, key (64 * (N + 1)) 0 wy (by omega) (fun i hi => absurd hi (Nat.not_lt_zero i))⟩
theorem rb_xfw71 {post : SX → Prop} {J : Int32 → Int32 → Int32 → (Nat → Int32) → (Nat → Int32) → (Nat → Int32) → (Nat → Int32) → (Nat → Int32) → (Nat → Int32) → (Nat → Int32) → (Nat → Int32) → (Nat → Int32) → (Nat → Int32) → (Nat → Int32) → Prop} {x1 : Int32} {k : Nat} (hN : N ≤ 6) (hB : rb_bd N B bd) (hw : rb_wy N k B wy)
    (h : ∀ wy' nx', rb_wy N (k + 1) B wy' → J (nI (k + 2)) (nI N) ft bd we wy' nx' su la fa ch ro pr pc) :
    ∀ t nx', t ≤ N → (∀ r T, t ≤ r → r ≤ N → T < 2 ^ N → nx' (64 * r + T) = nI (rb_ct N (rb_ok B) (N - r) (k + 1) T)) → wX_findWays_71 post J x1 (nI (k + 1)) (t + 1) (nI t + (-1)) (nI N) ft bd we wy nx' su la fa ch ro pr pc := by
  intro t
  induction t with
  | zero =>
    intro nx' _ h1
    rw [wX_findWays_71]
    refine br_t (by decide) ?_
    refine rb_xtake hN (fun wy' h2 => nm_r (nI_1 (k + 1)) (h wy' nx' ?_))
    intro r T hr hT
    have := rb_pN hN
    rw [h2 _ (by omega), h1 r T (by omega) hr hT]
  | succ t ih =>
    intro nx' ht h1
    rw [wX_findWays_71, pk_m1]
    refine br_f (nI_pos (by omega)) ?_
    refine rb_xcr hN (by omega) hB (fun nx2 h2 h3 => nm_e (ih nx2 (by omega) ?_))
    intro r T hr1 hr2 hT
    by_cases e : r = t
    · subst e
      rw [h2 T hT, h1 (r + 1) T (by omega) (by omega) hT, rb_ct_s hN (by omega) hT (hB r (by omega)).2 hw]
    · rw [h3 _ (by omega)]
      exact h1 r T (by omega) hr2 hT
theorem rb_xfw37 {post : SX → Prop} {J : Int32 → Int32 → Int32 → (Nat → Int32) → (Nat → Int32) → (Nat → Int32) → (Nat → Int32) → (Nat → Int32) → (Nat → Int32) → (Nat → Int32) → (Nat → Int32) → (Nat → Int32) → (Nat → Int32) → (Nat → Int32) → Prop} {x1 : Int32} {k : Nat} (hN0 : 0 < N) (hN : N ≤ 6) (hB : rb_bd N B bd) (hw : rb_wy N k B wy)
    (h : ∀ wy' nx', rb_wy N (k + 1) B wy' → J (nI (k + 2)) (nI N) ft bd we wy' nx' su la fa ch ro pr pc) :
    ∀ j t nx', t + j = 64 → (∀ i, i < t → nx' (64 * N + i) = 0) → wX_findWays_37 post J x1 (nI (k + 1)) (nI N) ft (j + 1) (nI t) bd we wy nx' su la fa ch ro pr pc := by
  intro j
  induction j with
  | zero =>
    intro t nx' ht h1
    have e : t = 64 := by omega
    subst e
    rw [wX_findWays_37]
    refine br_t (nI_le (a := 64) (b := 64) (by omega) (by omega)) (nm_r (e' := nI N + (-1)) ?_ ⟨N + 1, ?_⟩)
    · obtain ⟨n, rfl⟩ : ∃ n, N = n + 1 := ⟨N - 1, by omega⟩
      rw [nI_pred, pk_m1]
    · refine rb_xfw71 hN hB hw h N nx' (Nat.le_refl N) ?_
      intro r T h2 h3 hT
      have e : r = N := by omega
      subst e
      have := rb_pN hN
      rw [h1 T (by omega), Nat.sub_self]
      rfl
  | succ j ih =>
    intro t nx' ht h1
    rw [wX_findWays_37]
    refine br_f (nI_ge (b := 64) (by omega) (by omega)) ?_
    rw [rb_ix64, nI_clamp (by omega)]
    refine ⟨vp_in_nI (by omega) (by omega), nm_e (nm_r (nI_1 t) (ih (t + 1) _ (by omega) ?_))⟩
    intro i hi
    by_cases e : i = t
    · subst e; rw [pk_us]
    · rw [pk_un (by omega)]; exact h1 i (by omega)
theorem rb_xfw30 {post : SX → Prop} {k : Nat} (hN0 : 0 < N) (hN : N ≤ 6) (hk : k ≤ N) (hB : rb_bd N B bd)
    (h : ∀ wy' nx', rb_wy N k B wy' → post ((nI N), ft, bd, we, wy', nx', su, la, fa, ch, ro, pr, pc)) :
    ∀ j t wy nx, t + j = k → rb_wy N t B wy → wX_findWays_30 post (nI k) (j + 1) (nI (t + 1)) (nI N) ft bd we wy nx su la fa ch ro pr pc := by
  intro j
  induction j with
  | zero =>
    intro t wy nx ht h1
    have e : t = k := by omega
    subst e
    rw [wX_findWays_30]
    exact br_t (nI_lt (by omega) (by omega)) (h wy nx h1)
  | succ j ih =>
    intro t wy nx ht h1
    rw [wX_findWays_30]
    refine br_f (nI_nlt (by omega) (by omega)) ⟨65, ?_⟩
    exact rb_xfw37 hN0 hN hB h1 (fun wy' nx' hw' => ih (t + 1) wy' nx' (by omega) hw') 64 0 nx rfl (fun i hi => absurd hi (Nat.not_lt_zero i))
theorem rb_xfw {post : SX → Prop} {k : Nat} (hN0 : 0 < N) (hN : N ≤ 6) (hk : k ≤ N) (hB : rb_bd N B bd)
    (h : ∀ wy' nx', rb_wy N k B wy' → post ((nI N), ft, bd, we, wy', nx', su, la, fa, ch, ro, pr, pc)) : wpX_findWays post ((nI N), ft, bd, we, wy, nx, su, la, fa, ch, ro, pr, pc) (nI k) := by
  have key : ∀ j t wy', t + j = 64 * (N + 1) → (∀ i, i < t → wy' i = 1) → wX_findWays_2 post (nI k) (nI N) ft (j + 1) (nI t) bd we wy' nx su la fa ch ro pr pc := by
    intro j
    induction j with
    | zero =>
      intro t wy' ht h1
      have e : t = 64 * (N + 1) := by omega
      subst e
      rw [wX_findWays_2, rb_n1 hN]
      refine br_t (nI_le (Nat.le_refl _) (by omega)) ⟨k + 1, rb_xfw30 hN0 hN hk hB h k 0 wy' nx (by omega) ?_⟩
      intro r T hr hT
      have := rb_pN hN
      rw [h1 _ (by omega), rb_ct_0]
      rfl
    | succ j ih =>
      intro t wy' ht h1
      rw [wX_findWays_2, rb_n1 hN]
      refine br_f (nI_ge (by omega) (by omega)) ?_
      rw [nI_clamp (by omega)]
      refine ⟨vp_in_nI (by omega) (by omega), nm_e (nm_r (nI_1 t) (ih (t + 1) _ (by omega) ?_))⟩
      intro i hi
      by_cases e : i = t
      · subst e; rw [pk_us]
      · rw [pk_un e]; exact h1 i (by omega)
  unfold wpX_findWays
  exact ⟨64 * (N + 1) + 1, key (64 * (N + 1)) 0 wy (by omega) (fun i hi => absurd hi (Nat.not_lt_zero i))⟩
theorem rb_xcount {post : Int32 → SX → Prop} {k : Nat} (hN0 : 0 < N) (hN : N ≤ 6) (hk : k ≤ N) (hB : rb_bd N B bd)
    (h : ∀ wy' nx', post (nI (rb_ct N (rb_ok B) N k 0)) ((nI N), ft, bd, we, wy', nx', su, la, fa, ch, ro, pr, pc)) : wpX_countOf post ((nI N), ft, bd, we, wy, nx, su, la, fa, ch, ro, pr, pc) (nI k) := by
  unfold wpX_countOf
  refine rb_xfw hN0 hN hk hB (fun wy' nx' hw => ?_)
  have e := hw 0 0 (by omega) (Nat.two_pow_pos N)
  have h := h wy' nx'
  rw [Nat.sub_zero] at e
  rw [← e] at h
  exact h
end
end
section
/-! pure: sums over the list of placements, its length, placements through a cell -/
theorem rb_sm_front (f : Nat → Int32) : ∀ n, rb_sm f (n + 1) = f 0 + rb_sm (fun i => f (i + 1)) n := by
  intro n
  induction n with
  | zero => show 0 + f 0 = f 0 + 0; rw [Int32.zero_add, Int32.add_zero]
  | succ n ih => rw [rb_sm, ih, rb_sm, Int32.add_assoc]
theorem rb_sn_front (f : Nat → Nat) : ∀ n, rb_sn f (n + 1) = f 0 + rb_sn (fun i => f (i + 1)) n := by
  intro n
  induction n with
  | zero => show 0 + f 0 = f 0 + 0; omega
  | succ n ih => rw [rb_sn, ih, rb_sn, Nat.add_assoc]
theorem rb_ls_cat (val : List Nat → Int32) (g : Nat → List (List Nat)) : ∀ d f, rb_ls val (rb_cat g d f) = rb_sm (fun i => rb_ls val (g (f + i))) d := by
  intro d
  induction d with
  | zero => intro f; rfl
  | succ d ih =>
    intro f
    rw [rb_cat, rb_ls_app, ih, rb_sm_front, Nat.add_zero]
    congr 1
    apply rb_sm_congr
    intro i _
    try dsimp only
    rw [show f + 1 + i = f + (i + 1) by omega]
theorem rb_len_cat (g : Nat → List (List Nat)) : ∀ d f, (rb_cat g d f).length = rb_sn (fun i => (g (f + i)).length) d := by
  intro d
  induction d with
  | zero => intro f; rfl
  | succ d ih =>
    intro f
    rw [rb_cat, List.length_append, ih, rb_sn_front, Nat.add_zero]
    congr 1
    apply rb_sn_congr
    intro i _
    try dsimp only
    rw [show f + 1 + i = f + (i + 1) by omega]
section
variable {N k : Nat} {ok : Nat → Nat → Bool}
theorem rb_ch_lt {m c : Nat} {s : List Nat} (h : c < N) : rb_ch N k ok m s c = if rb_fit N ok s c then rb_pl N k ok m (c :: s) else [] := by
  unfold rb_ch rb_op
  rw [decide_eq_false (by omega), decide_eq_true h, Bool.false_or, Bool.true_and]
theorem rb_ch_N {m : Nat} {s : List Nat} : rb_ch N k ok m s N = rb_pl N k ok m (N :: s) := by
  unfold rb_ch rb_op
  rw [decide_eq_true rfl, Bool.true_or, if_pos rfl]
theorem rb_ls_pl (val : List Nat → Int32) (m : Nat) (s : List Nat) : rb_ls val (rb_pl N k ok (m + 1) s) = rb_sm (fun c => if rb_fit N ok s c then rb_ls val (rb_pl N k ok m (c :: s)) else 0) N + rb_ls val (rb_pl N k ok m (N :: s)) := by
  rw [rb_pl_s]
  unfold rb_pf
  rw [rb_ls_cat, Nat.sub_zero, rb_sm, Nat.zero_add, rb_ch_N]
  congr 1
  apply rb_sm_congr
  intro c hc
  rw [Nat.zero_add, rb_ch_lt hc]
  split <;> rfl
theorem rb_len_pl (m : Nat) (s : List Nat) : (rb_pl N k ok (m + 1) s).length = rb_sn (fun c => if rb_fit N ok s c then (rb_pl N k ok m (c :: s)).length else 0) N + (rb_pl N k ok m (N :: s)).length := by
  rw [rb_pl_s]
  unfold rb_pf
  rw [rb_len_cat, Nat.sub_zero, rb_sn, Nat.zero_add, rb_ch_N]
  congr 1
  apply rb_sn_congr
  intro c hc
  rw [Nat.zero_add, rb_ch_lt hc]
  split <;> rfl
theorem rb_len_ct : ∀ m s, s.length + m = N → (rb_pl N k ok m s).length = if rb_cn N s ≤ k then rb_ct N ok m (k - rb_cn N s) (rb_tk N s) else 0 := by
  intro m
  induction m with
  | zero =>
    intro s hs
    rw [rb_pl, rb_ct]
    by_cases h : rb_cn N s = k
    · rw [if_pos h, if_pos (by omega), if_pos (by omega)]; rfl
    · rw [if_neg h]
      by_cases h2 : rb_cn N s ≤ k
      · rw [if_pos h2, if_neg (by omega)]; rfl
      · rw [if_neg h2]; rfl
  | succ m ih =>
    intro s hs
    rw [rb_len_pl, ih (N :: s) (by rw [List.length_cons]; omega), rb_cn_N, rb_tk_N, rb_ct, show N - 1 - m = s.length by omega]
    have e : rb_sn (fun c => if rb_fit N ok s c then (rb_pl N k ok m (c :: s)).length else 0) N = if rb_cn N s < k then rb_sn (fun c => if ok s.length c && !(rb_tk N s).testBit c then rb_ct N ok m (k - rb_cn N s - 1) (rb_tk N s ||| 2 ^ c) else 0) N else 0 := by
      by_cases h : rb_cn N s < k
      · rw [if_pos h]
        apply rb_sn_congr
        intro c hc
        rw [ih (c :: s) (by rw [List.length_cons]; omega), rb_cn_lt hc, rb_tk_lt hc, if_pos (show rb_cn N s + 1 ≤ k by omega), show k - (rb_cn N s + 1) = k - rb_cn N s - 1 by omega]
        rfl
      · rw [if_neg h]
        apply rb_sn_z
        intro c hc
        rw [ih (c :: s) (by rw [List.length_cons]; omega), rb_cn_lt hc, if_neg (show ¬ rb_cn N s + 1 ≤ k by omega)]
        all_goals (split <;> rfl)
    rw [e]
    by_cases h : rb_cn N s < k
    · rw [if_pos h, if_pos (by omega), if_pos (by omega), if_neg (by omega)]; omega
    · rw [if_neg h]
      by_cases h2 : rb_cn N s ≤ k
      · rw [if_pos h2, if_pos h2, if_pos (by omega)]; omega
      · rw [if_neg h2, if_neg h2]
theorem rb_len0 : (rb_pl N k ok N []).length = rb_ct N ok N k 0 := by
  rw [rb_len_ct N [] (by rw [List.length_nil]; omega), if_pos (show rb_cn N [] ≤ k from Nat.zero_le _)]
  rfl
theorem rb_ct_le (hN : N ≤ 6) : ∀ m k T, rb_ct N ok m k T ≤ 7 ^ m := by
  intro m
  induction m with
  | zero => intro k T; rw [rb_ct]; split <;> omega
  | succ m ih =>
    intro k T
    rw [rb_ct]
    have h1 := ih k T
    have h2 : (if k = 0 then 0 else rb_sn (fun c => if ok (N - 1 - m) c && !T.testBit c then rb_ct N ok m (k - 1) (T ||| 2 ^ c) else 0) N) ≤ N * 7 ^ m := by
      split
      · exact Nat.zero_le _
      · rw [← rb_sn_const]
        apply rb_sn_le
        intro c _
        try dsimp only
        split
        · exact ih _ _
        · exact Nat.zero_le _
    have h3 : N * 7 ^ m ≤ 6 * 7 ^ m := Nat.mul_le_mul_right _ hN
    rw [Nat.pow_succ]
    omega
theorem rb_ct_b (hN : N ≤ 6) (m k T : Nat) (hm : m ≤ N) : rb_ct N ok m k T ≤ 117649 := by
  have h1 := rb_ct_le (ok := ok) hN m k T
  have h2 : 7 ^ m ≤ 7 ^ 6 := Nat.pow_le_pow_right (by omega) (by omega)
  omega
def rb_wo (ok : Nat → Nat → Bool) (r0 c0 r c : Nat) : Bool := ok r c && !(decide (r = r0) && decide (c = c0))
def rb_e (r0 c0 : Nat) (s : List Nat) : Int32 := if r0 < s.length ∧ rb_at s r0 = c0 then 0 else 1
theorem rb_e_le {r0 c0 : Nat} {s : List Nat} (h : s.length ≤ r0) : rb_e r0 c0 s = 1 := if_neg (fun z => by omega)
theorem rb_e_gt {r0 c0 c : Nat} {s : List Nat} (h : r0 < s.length) : rb_e r0 c0 (c :: s) = rb_e r0 c0 s := by
  unfold rb_e
  rw [rb_at_t h, List.length_cons]
  have e : (r0 < s.length + 1 ∧ rb_at s r0 = c0) ↔ (r0 < s.length ∧ rb_at s r0 = c0) := ⟨fun z => ⟨h, z.2⟩, fun z => ⟨by omega, z.2⟩⟩
  simp only [e]
theorem rb_e_eq {c0 c : Nat} {s : List Nat} : rb_e s.length c0 (c :: s) = if c = c0 then 0 else 1 := by
  unfold rb_e
  rw [rb_at_h, List.length_cons]
  have e : (s.length < s.length + 1 ∧ c = c0) ↔ (c = c0) := ⟨fun z => z.2, fun z => ⟨by omega, z⟩⟩
  simp only [e]
theorem rb_fit_ne {r0 c0 c : Nat} {s : List Nat} (h : ¬ s.length = r0) : rb_fit N (rb_wo ok r0 c0) s c = rb_fit N ok s c := by
  unfold rb_fit rb_wo
  rw [decide_eq_false h, Bool.false_and, Bool.not_false, Bool.and_true]
theorem rb_thr_t {r0 c0 c : Nat} {s : List Nat} (L : Int32) : (if rb_fit N ok s c then rb_e r0 c0 (c :: s) * L else 0) = rb_e r0 c0 s * (if rb_fit N (rb_wo ok r0 c0) s c then L else 0) := by
  rcases Nat.lt_trichotomy s.length r0 with h1 | h1 | h1
  · rw [rb_e_le (c0 := c0) (s := c :: s) (by rw [List.length_cons]; omega), rb_e_le (Nat.le_of_lt h1), rb_fit_ne (by omega), Int32.one_mul, Int32.one_mul]
  · subst h1
    rw [rb_e_eq, rb_e_le (Nat.le_refl _), Int32.one_mul]
    unfold rb_fit rb_wo
    by_cases e : c = c0
    · rw [if_pos e, decide_eq_true e, decide_eq_true rfl, Int32.zero_mul]
      simp
    · rw [if_neg e, decide_eq_false e, Int32.one_mul]
      simp
  · rw [rb_e_gt h1, rb_fit_ne (by omega)]
    split
    · rfl
    · rw [Int32.mul_zero]
theorem rb_eN {r0 c0 : Nat} {s : List Nat} (h : c0 < N) : rb_e r0 c0 (N :: s) = rb_e r0 c0 s := by
  rcases Nat.lt_trichotomy s.length r0 with h1 | h1 | h1
  · rw [rb_e_le (c0 := c0) (s := N :: s) (by rw [List.length_cons]; omega), rb_e_le (Nat.le_of_lt h1)]
  · subst h1
    rw [rb_e_eq, rb_e_le (Nat.le_refl _), if_neg (by omega)]
  · rw [rb_e_gt h1]
theorem rb_thr_l {r0 c0 : Nat} (hr : r0 < N) (hc : c0 < N) : ∀ m s, s.length + m = N → rb_ls (fun q => if rb_at q r0 = c0 then 0 else 1) (rb_pl N k ok m s) = rb_e r0 c0 s * nI (rb_pl N k (rb_wo ok r0 c0) m s).length := by
  intro m
  induction m with
  | zero =>
    intro s hs
    rw [rb_pl, rb_pl]
    by_cases h : rb_cn N s = k
    · rw [if_pos h]
      show (if rb_at s r0 = c0 then (0 : Int32) else 1) + 0 = rb_e r0 c0 s * 1
      unfold rb_e
      have e : (r0 < s.length ∧ rb_at s r0 = c0) ↔ (rb_at s r0 = c0) := ⟨fun z => z.2, fun z => ⟨by omega, z⟩⟩
      simp only [e]
      rw [Int32.add_zero, Int32.mul_one]
    · rw [if_neg h]
      show (0 : Int32) = rb_e r0 c0 s * 0
      rw [Int32.mul_zero]
  | succ m ih =>
    intro s hs
    rw [rb_ls_pl, rb_len_pl, ih (N :: s) (by rw [List.length_cons]; omega), rb_eN hc, ← nI_add, rb_sm_nI, Int32.mul_add, ← rb_sm_mul]
    congr 1
    apply rb_sm_congr
    intro c hcN
    try dsimp only
    rw [ih (c :: s) (by rw [List.length_cons]; omega), rb_thr_t]
    congr 1
    split <;> rfl
theorem rb_ls_add (f g : List Nat → Int32) : ∀ l, rb_ls (fun q => f q + g q) l = rb_ls f l + rb_ls g l := by
  intro l
  induction l with
  | nil => rfl
  | cons q l ih => rw [rb_ls, rb_ls, rb_ls, ih]; grind
theorem rb_ls_congr {f g : List Nat → Int32} : ∀ l, (∀ q, f q = g q) → rb_ls f l = rb_ls g l := by
  intro l h
  rw [show f = g from funext h]
theorem rb_thr {r0 c0 : Nat} (hr : r0 < N) (hc : c0 < N) : rb_ls (fun q => if rb_at q r0 = c0 then 1 else 0) (rb_pl N k ok N []) = nI (rb_ct N ok N k 0) - nI (rb_ct N (rb_wo ok r0 c0) N k 0) := by
  have h1 := rb_thr_l (k := k) (ok := ok) hr hc N [] (by rw [List.length_nil]; omega)
  have h2 : rb_e r0 c0 [] = 1 := if_neg (by rw [List.length_nil]; omega)
  rw [h2, Int32.one_mul, rb_len0] at h1
  have h3 : rb_ls (fun q => (if rb_at q r0 = c0 then 1 else 0) + (if rb_at q r0 = c0 then 0 else 1)) (rb_pl N k ok N []) = nI (rb_ct N ok N k 0) := by
    rw [← rb_len0, ← rb_ls_1]
    apply rb_ls_congr
    intro q
    split <;> rfl
  rw [rb_ls_add, h1] at h3
  rw [← h3]
  grind
theorem rb_ct_congr {ok' : Nat → Nat → Bool} (h : ∀ r c, r < N → c < N → ok r c = ok' r c) : ∀ m k T, m ≤ N → rb_ct N ok m k T = rb_ct N ok' m k T := by
  intro m
  induction m with
  | zero => intro k T _; rfl
  | succ m ih =>
    intro k T hm
    rw [rb_ct, rb_ct, ih k T (by omega)]
    congr 1
    split
    · rfl
    · apply rb_sn_congr
      intro c hc
      try dsimp only
      rw [h (N - 1 - m) c (by omega) hc, ih _ _ (by omega)]
end
end
section
/-! pure: hits -/
def rb_D (N : Nat) (ok : Nat → Nat → Bool) : Nat → Nat → (Nat → Int32) → Int32
  | 0, _, p => p 0
  | m + 1, T, p => rb_sm (fun c => if T.testBit c then 0 else rb_D N ok m (T ||| 2 ^ c) (fun h => p (if ok (N - 1 - m) c then h + 1 else h))) N
def rb_cb : Nat → Nat → Nat
  | _, 0 => 1
  | 0, _ + 1 => 0
  | n + 1, k + 1 => rb_cb n k + rb_cb n (k + 1)
def rb_fc : Nat → Nat
  | 0 => 1
  | n + 1 => rb_fc n * (n + 1)
def rb_fr (N T : Nat) : Int32 := rb_sm (fun c => if T.testBit c then 0 else 1) N
theorem rb_fr_or {N T c : Nat} (hc : c < N) (h : T.testBit c = false) : rb_fr N T = rb_fr N (T ||| 2 ^ c) + 1 := by
  unfold rb_fr
  have e : rb_sm (fun d => if T.testBit d then (0 : Int32) else 1) N = rb_sm (fun d => (if (T ||| 2 ^ c).testBit d then (0 : Int32) else 1) + (if d = c then 1 else 0)) N := by
    apply rb_sm_congr
    intro d _
    rw [rb_tbor]
    by_cases z : d = c
    · subst z; rw [h]; simp
    · rw [if_neg z, decide_eq_false (fun y => z y.symm), Bool.or_false, Int32.add_zero]
  rw [e, rb_sm_add, rb_sm_one, if_pos hc]
theorem rb_fr_0 (N : Nat) : rb_fr N 0 = nI N := by
  unfold rb_fr
  induction N with
  | zero => rfl
  | succ n ih => rw [rb_sm, ih, Nat.zero_testBit, ← nI_1]; rfl
theorem rb_orc (T c d : Nat) : T ||| 2 ^ c ||| 2 ^ d = T ||| 2 ^ d ||| 2 ^ c := by
  rw [Nat.or_assoc, Nat.or_comm (2 ^ c), ← Nat.or_assoc]
section
variable {N : Nat} {ok : Nat → Nat → Bool}
theorem rb_R_s (m j T : Nat) : nI (rb_ct N ok (m + 1) (j + 1) T) = nI (rb_ct N ok m (j + 1) T) + rb_sm (fun d => if ok (N - 1 - m) d && !T.testBit d then nI (rb_ct N ok m j (T ||| 2 ^ d)) else 0) N := by
  rw [rb_ct, if_neg (by omega), ← nI_add, rb_sm_nI, Nat.add_sub_cancel]
  congr 1
  apply rb_sm_congr
  intro c _
  try dsimp only
  split <;> rfl
/-- each placement of j rooks leaves all free columns but j free -/
theorem rb_dc : ∀ m j T, rb_sm (fun c => if T.testBit c then 0 else nI (rb_ct N ok m j (T ||| 2 ^ c))) N = (rb_fr N T - nI j) * nI (rb_ct N ok m j T) := by
  intro m
  induction m with
  | zero =>
    intro j T
    cases j with
    | zero =>
      show rb_sm (fun c => if T.testBit c then 0 else (1 : Int32)) N = (rb_fr N T - 0) * 1
      rw [Int32.mul_one, Int32.sub_zero]
      rfl
    | succ j =>
      show rb_sm (fun c => if T.testBit c then 0 else (0 : Int32)) N = (rb_fr N T - nI (j + 1)) * 0
      rw [Int32.mul_zero]
      exact rb_sm_z N (fun i _ => by split <;> rfl)
  | succ m ih =>
    intro j T
    cases j with
    | zero =>
      rw [rb_ct_0]
      show _ = (rb_fr N T - 0) * 1
      rw [Int32.mul_one, Int32.sub_zero]
      unfold rb_fr
      apply rb_sm_congr
      intro c _
      rw [rb_ct_0]
      rfl
    | succ j =>
      have e1 : rb_sm (fun c => if T.testBit c then 0 else nI (rb_ct N ok (m + 1) (j + 1) (T ||| 2 ^ c))) N = rb_sm (fun c => (if T.testBit c then 0 else nI (rb_ct N ok m (j + 1) (T ||| 2 ^ c))) + rb_sm (fun d => if T.testBit c then 0 else (if ok (N - 1 - m) d && !(T ||| 2 ^ c).testBit d then nI (rb_ct N ok m j (T ||| 2 ^ c ||| 2 ^ d)) else 0)) N) N := by
        apply rb_sm_congr
        intro c _
        try dsimp only
        by_cases h : T.testBit c = true
        · rw [if_pos h, if_pos h, rb_sm_z N (fun i _ => by rw [if_pos h])]; rfl
        · rw [if_neg h, if_neg h, rb_R_s]
          congr 1
          apply rb_sm_congr
          intro d _
          rw [if_neg h]
      have e2 : rb_sm (fun d => rb_sm (fun c => if T.testBit c then 0 else (if ok (N - 1 - m) d && !(T ||| 2 ^ c).testBit d then nI (rb_ct N ok m j (T ||| 2 ^ c ||| 2 ^ d)) else 0)) N) N = rb_sm (fun d => (rb_fr N T - nI (j + 1)) * (if ok (N - 1 - m) d && !T.testBit d then nI (rb_ct N ok m j (T ||| 2 ^ d)) else 0)) N := by
        apply rb_sm_congr
        intro d hd
        try dsimp only
        by_cases h : (ok (N - 1 - m) d && !T.testBit d) = true
        · rw [if_pos h]
          rw [Bool.and_eq_true] at h
          have hT : T.testBit d = false := by have := h.2; simpa using this
          have e3 : rb_fr N T - nI (j + 1) = rb_fr N (T ||| 2 ^ d) - nI j := by
            rw [rb_fr_or hd hT, ← nI_1]; grind
          rw [e3, ← ih j (T ||| 2 ^ d)]
          apply rb_sm_congr
          intro c _
          try dsimp only
          rw [rb_tbor, rb_tbor, h.1, hT, Bool.false_or, Bool.true_and]
          by_cases hc : T.testBit c = true
          · rw [if_pos hc, hc, Bool.true_or, if_pos rfl]
          · have hc' : T.testBit c = false := by simpa using hc
            rw [hc', Bool.false_or, rb_orc]
            by_cases z : c = d
            · subst z; simp
            · rw [decide_eq_false z, decide_eq_false (fun y => z y.symm)]; simp
        · rw [if_neg h, Int32.mul_zero]
          apply rb_sm_z
          intro c _
          by_cases hc : T.testBit c = true
          · rw [if_pos hc]
          · rw [if_neg hc, if_neg]
            intro z
            apply h
            rw [Bool.and_eq_true] at z ⊢
            refine ⟨z.1, ?_⟩
            have := z.2
            rw [rb_tbor] at this
            cases hd : T.testBit d with
            | false => rfl
            | true => rw [hd] at this; simp at this
      rw [e1, rb_sm_add, ih, rb_sm_comm, e2, rb_sm_mul, rb_R_s, Int32.mul_add]
theorem rb_ct_z : ∀ m j T, m < j → rb_ct N ok m j T = 0 := by
  intro m
  induction m with
  | zero => intro j T h; rw [rb_ct, if_neg (by omega)]
  | succ m ih =>
    intro j T h
    rw [rb_ct, ih j T (by omega), if_neg (by omega), Nat.zero_add]
    apply rb_sn_z
    intro c _
    rw [ih _ _ (by omega)]
    split <;> rfl
theorem rb_D_congr : ∀ m T (p q : Nat → Int32), (∀ h, h ≤ m → p h = q h) → rb_D N ok m T p = rb_D N ok m T q := by
  intro m
  induction m with
  | zero => intro T p q h; exact h 0 (Nat.le_refl 0)
  | succ m ih =>
    intro T p q h
    rw [rb_D, rb_D]
    apply rb_sm_congr
    intro c _
    split
    · rfl
    · exact ih _ _ _ (fun x hx => h _ (by split <;> omega))
theorem rb_D_add : ∀ m T (p q : Nat → Int32), rb_D N ok m T (fun h => p h + q h) = rb_D N ok m T p + rb_D N ok m T q := by
  intro m
  induction m with
  | zero => intro T p q; rfl
  | succ m ih =>
    intro T p q
    rw [rb_D, rb_D, rb_D, ← rb_sm_add]
    apply rb_sm_congr
    intro c _
    try dsimp only
    by_cases hc : T.testBit c = true
    · rw [if_pos hc, if_pos hc, if_pos hc]; rfl
    · rw [if_neg hc, if_neg hc, if_neg hc, ← ih]
theorem rb_D_mul (x : Int32) : ∀ m T (p : Nat → Int32), rb_D N ok m T (fun h => x * p h) = x * rb_D N ok m T p := by
  intro m
  induction m with
  | zero => intro T p; rfl
  | succ m ih =>
    intro T p
    rw [rb_D, rb_D, ← rb_sm_mul]
    apply rb_sm_congr
    intro c _
    try dsimp only
    by_cases hc : T.testBit c = true
    · rw [if_pos hc, if_pos hc, Int32.mul_zero]
    · rw [if_neg hc, if_neg hc, ← ih]
theorem rb_D_0 (m T : Nat) : rb_D N ok m T (fun _ => 0) = 0 := by
  have h1 := rb_D_mul (N := N) (ok := ok) 0 m T (fun _ => 0)
  have h2 : (0 : Int32) * rb_D N ok m T (fun _ => 0) = 0 := Int32.zero_mul
  exact (rb_D_congr m T _ _ (fun _ _ => rfl)).trans (h1.trans h2)
theorem rb_D_sm (m T : Nat) (p : Nat → Nat → Int32) : ∀ n, rb_D N ok m T (fun h => rb_sm (fun i => p i h) n) = rb_sm (fun i => rb_D N ok m T (p i)) n := by
  intro n
  induction n with
  | zero => exact rb_D_0 m T
  | succ n ih =>
    rw [rb_sm, ← ih, ← rb_D_add]
    rfl
theorem rb_nmul (a b : Nat) : nI a * nI b = nI (a * b) := pk_mul a b
/-- all permutations, each with j of its hits: placements of j rooks, and the others at will -/
theorem rb_D_cb : ∀ m T j, rb_fr N T = nI m → rb_D N ok m T (fun h => nI (rb_cb h j)) = nI (rb_fc (m - j)) * nI (rb_ct N ok m j T) := by
  intro m
  induction m with
  | zero =>
    intro T j _
    cases j with
    | zero => rfl
    | succ j => rw [Nat.zero_sub]; rfl
  | succ m ih =>
    intro T j hT
    have hfr : ∀ c, c < N → T.testBit c = false → rb_fr N (T ||| 2 ^ c) = nI m := by
      intro c hc h
      have := rb_fr_or hc h
      rw [hT, ← nI_1] at this
      grind
    cases j with
    | zero =>
      have e : rb_D N ok (m + 1) T (fun h => nI (rb_cb h 0)) = rb_sm (fun c => nI (rb_fc m) * (if T.testBit c then 0 else nI (rb_ct N ok m 0 (T ||| 2 ^ c)))) N := by
        rw [rb_D]
        apply rb_sm_congr
        intro c hc
        by_cases h : T.testBit c = true
        · rw [if_pos h, if_pos h, Int32.mul_zero]
        · rw [if_neg h, if_neg h]
          have := ih (T ||| 2 ^ c) 0 (hfr c hc (by simpa using h))
          rw [Nat.sub_zero] at this
          rw [← this]
          apply rb_D_congr
          intro h _
          split <;> simp [rb_cb]
      rw [e, rb_sm_mul, rb_dc, hT, rb_ct_0, rb_ct_0, Nat.sub_zero, rb_fc, ← rb_nmul]
      show nI (rb_fc m) * ((nI (m + 1) - 0) * 1) = nI (rb_fc m) * nI (m + 1) * 1
      rw [Int32.sub_zero, Int32.mul_one, Int32.mul_one]
    | succ j =>
      have e : rb_D N ok (m + 1) T (fun h => nI (rb_cb h (j + 1))) = rb_sm (fun c => nI (rb_fc (m - (j + 1))) * (if T.testBit c then 0 else nI (rb_ct N ok m (j + 1) (T ||| 2 ^ c))) + nI (rb_fc (m - j)) * (if ok (N - 1 - m) c && !T.testBit c then nI (rb_ct N ok m j (T ||| 2 ^ c)) else 0)) N := by
        rw [rb_D]
        apply rb_sm_congr
        intro c hc
        by_cases h : T.testBit c = true
        · rw [if_pos h, if_pos h, h, Bool.not_true, Bool.and_false, Int32.mul_zero]
          simp
        · have h' : T.testBit c = false := by simpa using h
          rw [if_neg h, if_neg h, h', Bool.not_false, Bool.and_true, ← ih (T ||| 2 ^ c) (j + 1) (hfr c hc h')]
          by_cases ho : ok (N - 1 - m) c = true
          · rw [ho, if_pos rfl, ← ih (T ||| 2 ^ c) j (hfr c hc h'), ← rb_D_add]
            apply rb_D_congr
            intro h _
            rw [if_pos rfl, rb_cb, ← nI_add, Int32.add_comm]
          · have ho' : ok (N - 1 - m) c = false := by simpa using ho
            rw [ho']
            simp
      rw [e, rb_sm_add, rb_sm_mul, rb_sm_mul, rb_dc, hT, rb_R_s, show m + 1 - (j + 1) = m - j by omega]
      by_cases hj : j < m
      · have e2 : nI (rb_fc (m - (j + 1))) * (nI (m + 1) - nI (j + 1)) = nI (rb_fc (m - j)) := by
          rw [pk_sub (by omega), rb_nmul, show m - j = (m - (j + 1)) + 1 by omega, rb_fc]
          congr 2
          omega
        rw [← Int32.mul_assoc, e2, Int32.mul_add]
      · rw [rb_ct_z m (j + 1) T (by omega)]
        show nI (rb_fc (m - (j + 1))) * ((nI (m + 1) - nI (j + 1)) * 0) + _ = nI (rb_fc (m - j)) * (0 + _)
        rw [Int32.mul_zero, Int32.mul_zero, Int32.zero_add, Int32.zero_add]
/-- the list of all permutations by hits -/
theorem rb_ls_D {on : Nat → Int32} (hon : ∀ r c, r < N → c < N → (ok r c = true ↔ ¬ on (6 * r + c) = 0)) (p : Nat → Int32) : ∀ m s, s.length + m = N → rb_cn N s = s.length → rb_ls (fun q => p (rb_hit on q N)) (rb_pl N N (fun _ _ => true) m s) = rb_D N ok m (rb_tk N s) (fun h => p (rb_hit on s s.length + h)) := by
  intro m
  induction m with
  | zero =>
    intro s hs hc
    rw [rb_pl, if_pos (by omega), rb_ls, rb_ls, rb_D, Int32.add_zero, Nat.add_zero, show s.length = N by omega]
  | succ m ih =>
    intro s hs hc
    rw [rb_ls_pl, rb_pl_z m (N :: s) (Or.inr (by rw [rb_cn_N]; omega)), rb_ls, Int32.add_zero, rb_D]
    apply rb_sm_congr
    intro c hcN
    unfold rb_fit
    try dsimp only
    rw [Bool.true_and]
    by_cases h : (rb_tk N s).testBit c = true
    · rw [if_pos h, h]; rfl
    · have h' : (rb_tk N s).testBit c = false := by simpa using h
      rw [if_neg h, h', Bool.not_false, if_pos rfl, ih (c :: s) (by rw [List.length_cons]; omega) (by rw [rb_cn_lt hcN, List.length_cons, hc]), rb_tk_lt hcN]
      apply rb_D_congr
      intro x _
      try dsimp only
      congr 1
      have e1 : rb_hit on (c :: s) (c :: s).length = rb_hit on s s.length + (if on (6 * s.length + c) = 0 then 0 else 1) := by
        rw [List.length_cons]
        unfold rb_hit
        rw [rb_sn, rb_at_h]
        congr 1
        apply rb_sn_congr
        intro i hi
        rw [rb_at_t hi]
      rw [e1, show N - 1 - m = s.length by omega]
      by_cases ho : ok s.length c = true
      · rw [if_pos ho, if_neg ((hon s.length c (by omega) hcN).mp ho)]; omega
      · rw [if_neg ho, if_pos]
        · omega
        · cases Decidable.em (on (6 * s.length + c) = 0) with
          | inl z => exact z
          | inr z => exact absurd ((hon s.length c (by omega) hcN).mpr z) ho
def rb_sg (i : Nat) : Int32 := if i % 2 = 0 then 1 else -1
theorem rb_inv : ∀ n, n < 7 → ∀ k, k < n + 1 → ∀ h, h < n + 1 → rb_sm (fun i => rb_sg i * nI (rb_cb (k + i) k) * nI (rb_cb h (k + i))) (n + 1 - k) = if h = k then 1 else 0 := by decide +kernel
theorem rb_hits {on : Nat → Int32} {kk : Nat} (hN : N ≤ 6) (hk : kk ≤ N) (hon : ∀ r c, r < N → c < N → (ok r c = true ↔ ¬ on (6 * r + c) = 0)) :
    rb_ls (fun q => if rb_hit on q N = kk then 1 else 0) (rb_pl N N (fun _ _ => true) N []) = rb_sm (fun i => rb_sg i * (nI (rb_ct N ok N (kk + i) 0) * nI (rb_fc (N - (kk + i))) * nI (rb_cb (kk + i) kk))) (N + 1 - kk) := by
  rw [rb_ls_D hon (fun h => if h = kk then 1 else 0) N [] (by rw [List.length_nil]; omega) rfl]
  have e1 : rb_D N ok N 0 (fun h => rb_sm (fun i => rb_sg i * nI (rb_cb (kk + i) kk) * nI (rb_cb h (kk + i))) (N + 1 - kk)) = rb_D N ok N (rb_tk N []) (fun h => if rb_hit on [] ([] : List Nat).length + h = kk then 1 else 0) := by
    apply rb_D_congr
    intro h hh
    rw [rb_inv N (by omega) kk (by omega) h (by omega)]
    have : rb_hit on [] ([] : List Nat).length + h = h := by rw [List.length_nil]; exact Nat.zero_add h
    rw [this]
  rw [← e1, rb_D_sm]
  apply rb_sm_congr
  intro i hi
  rw [rb_D_mul, rb_D_cb N 0 (kk + i) (rb_fr_0 N)]
  grind
end
end
section
/-! pure: sums of products, signs -/
def rb_U (N : Nat) (ok : Nat → Nat → Bool) (g : Nat → Nat → Nat → Int32) (mp : Int32) (P : Nat → Int32) : Nat → Nat → Int32
  | 0, T => P T
  | m + 1, T => mp * rb_U N ok g mp P m T + rb_sm (fun c => if ok (N - 1 - m) c && !T.testBit c then g (N - 1 - m) T c * rb_U N ok g mp P m (T ||| 2 ^ c) else 0) N
theorem rb_pr_mul (f g : Nat → Int32) (n : Nat) : rb_pr (fun i => f i * g i) n = rb_pr f n * rb_pr g n := by
  induction n with
  | zero => rfl
  | succ n ih => rw [rb_pr, rb_pr, rb_pr, ih]; grind
theorem rb_wor_s {N c : Nat} {we : Nat → Int32} {s : List Nat} : rb_wor N we (c :: s) (s.length + 1) = rb_wor N we s s.length * (if c < N then we (6 * s.length + c) else 1) := by
  show rb_wor N we (c :: s) s.length * (if rb_at (c :: s) s.length < N then we (6 * s.length + rb_at (c :: s) s.length) else 1) = _
  rw [rb_at_h]
  congr 1
  apply rb_pr_congr
  intro i hi
  rw [rb_at_t hi]
def rb_sp (q : List Nat) (n : Nat) : Int32 := rb_pr (fun r => rb_sgr q r n) n
theorem rb_sp_s {c : Nat} {s : List Nat} : rb_sp (c :: s) (s.length + 1) = rb_sp s s.length * rb_pr (fun r => if c < rb_at s r then -1 else 1) s.length := by
  unfold rb_sp
  rw [rb_pr]
  have e1 : rb_sgr (c :: s) s.length (s.length + 1) = 1 := rb_pr_1 _ (fun i hi => if_neg (by omega))
  rw [e1, Int32.mul_one, ← rb_pr_mul]
  apply rb_pr_congr
  intro r hr
  show rb_sgr (c :: s) r s.length * (if r < s.length ∧ rb_at (c :: s) s.length < rb_at (c :: s) r then -1 else 1) = _
  rw [rb_at_h, rb_at_t hr]
  congr 1
  · apply rb_pr_congr
    intro i hi
    rw [rb_at_t hi, rb_at_t hr]
  · by_cases h : c < rb_at s r
    · rw [if_pos ⟨hr, h⟩, if_pos h]
    · rw [if_neg (fun z => h z.2), if_neg h]
def rb_ds (N : Nat) : List Nat → Prop
  | [] => True
  | d :: s => d < N ∧ (rb_tk N s).testBit d = false ∧ rb_ds N s
theorem rb_ds_cn {N : Nat} : ∀ s, rb_ds N s → rb_cn N s = s.length := by
  intro s
  induction s with
  | nil => intro _; rfl
  | cons c s ih => intro h; rw [rb_cn_lt h.1, ih h.2.2]; rfl
theorem rb_ds_pc {N : Nat} : ∀ s, rb_ds N s → rb_pc (rb_tk N s) N = s.length := by
  intro s
  induction s with
  | nil => intro _; exact rb_pc_0 N
  | cons c s ih => intro h; rw [rb_tk_lt h.1, rb_pc_or h.2.1, ih h.2.2, if_pos h.1]; rfl
theorem rb_pc_full {a : Nat} : ∀ n, rb_pc a n = n → ∀ d, d < n → a.testBit d = true := by
  intro n
  induction n with
  | zero => intro _ d h; omega
  | succ n ih =>
    intro h d hd
    rw [rb_pc] at h
    have h1 := rb_pc_le a n
    by_cases hb : a.testBit n = true
    · rw [if_pos hb] at h
      by_cases e : d = n
      · subst e; exact hb
      · exact ih (by omega) d (by omega)
    · rw [if_neg hb] at h; omega
theorem rb_allones {a n : Nat} (h : a < 2 ^ n) (hp : rb_pc a n = n) : a = 2 ^ n - 1 := by
  apply Nat.eq_of_testBit_eq
  intro i
  rw [Nat.testBit_two_pow_sub_one]
  by_cases hi : i < n
  · rw [rb_pc_full n hp i hi, decide_eq_true hi]
  · rw [rb_hi h (by omega), decide_eq_false hi]
theorem rb_pc_sh {T c d : Nat} (h : T.testBit d = false) : ∀ n, rb_pc ((T ||| 2 ^ d) / 2 ^ c) n = rb_pc (T / 2 ^ c) n + (if c ≤ d ∧ d < c + n then 1 else 0) := by
  intro n
  induction n with
  | zero => rw [if_neg (by omega)]; rfl
  | succ n ih =>
    rw [rb_pc, rb_pc, ih, Nat.testBit_div_two_pow, Nat.testBit_div_two_pow, rb_tbor]
    by_cases e : d = n + c
    · subst e
      rw [h, decide_eq_true rfl, if_neg (show ¬ (c ≤ n + c ∧ n + c < c + n) by omega), if_pos (show c ≤ n + c ∧ n + c < c + (n + 1) by omega)]
      simp
    · rw [decide_eq_false e, Bool.or_false]
      by_cases z : c ≤ d ∧ d < c + n
      · rw [if_pos z, if_pos (show c ≤ d ∧ d < c + (n + 1) by omega)]; omega
      · rw [if_neg z, if_neg (show ¬ (c ≤ d ∧ d < c + (n + 1)) by omega)]; omega
theorem rb_par {N c : Nat} (hN : N ≤ 6) : ∀ s, rb_ds N s → (rb_tk N s).testBit c = false → rb_pr (fun r => if c < rb_at s r then -1 else 1) s.length = if rb_pc (rb_tk N s / 2 ^ c) 6 % 2 = 1 then -1 else 1 := by
  intro s
  induction s with
  | nil =>
    intro _ _
    show (1 : Int32) = if rb_pc (0 / 2 ^ c) 6 % 2 = 1 then -1 else 1
    rw [Nat.zero_div, rb_pc_0]
    rfl
  | cons d s ih =>
    intro hd hc
    obtain ⟨h1, h2, h3⟩ := hd
    rw [rb_tk_lt h1, rb_tbor] at hc
    have hc1 : (rb_tk N s).testBit c = false := by
      cases e : (rb_tk N s).testBit c with
      | false => rfl
      | true => rw [e] at hc; simp at hc
    have hdc : ¬ d = c := by
      intro e
      rw [decide_eq_true e, Bool.or_true] at hc
      exact absurd hc (by decide)
    rw [List.length_cons, rb_pr, rb_at_h, rb_tk_lt h1, rb_pc_sh h2]
    have e1 : rb_pr (fun r => if c < rb_at (d :: s) r then (-1 : Int32) else 1) s.length = rb_pr (fun r => if c < rb_at s r then -1 else 1) s.length := by
      apply rb_pr_congr
      intro i hi
      rw [rb_at_t hi]
    rw [e1, ih h3 hc1]
    by_cases hcd : c < d
    · rw [if_pos hcd, if_pos (show c ≤ d ∧ d < c + 6 by omega)]
      by_cases hp : rb_pc (rb_tk N s / 2 ^ c) 6 % 2 = 1
      · rw [if_pos hp, if_neg (show ¬ (rb_pc (rb_tk N s / 2 ^ c) 6 + 1) % 2 = 1 by omega)]; rfl
      · rw [if_neg hp, if_pos (show (rb_pc (rb_tk N s / 2 ^ c) 6 + 1) % 2 = 1 by omega)]; rfl
    · rw [if_neg hcd, if_neg (show ¬ (c ≤ d ∧ d < c + 6) by omega), Int32.mul_one]
      rfl
section
variable {N k : Nat} {ok : Nat → Nat → Bool} {we : Nat → Int32}
theorem rb_sum_l (hN : N ≤ 6) : ∀ m s, s.length + m = N → rb_pc (rb_tk N s) 6 = rb_cn N s →
    rb_ls (fun q => rb_wor N we q N) (rb_pl N k ok m s) = rb_wor N we s s.length * rb_U N ok (fun r _ c => we (6 * r + c)) 1 (fun T => if rb_pc T 6 = k then 1 else 0) m (rb_tk N s) := by
  intro m
  induction m with
  | zero =>
    intro s hs hp
    rw [rb_pl, rb_U, hp, show s.length = N by omega]
    by_cases h : rb_cn N s = k
    · rw [if_pos h, if_pos h, rb_ls, rb_ls, Int32.add_zero, Int32.mul_one]
    · rw [if_neg h, if_neg h, rb_ls, Int32.mul_zero]
  | succ m ih =>
    intro s hs hp
    rw [rb_ls_pl, rb_U, ih (N :: s) (by rw [List.length_cons]; omega) (by rw [rb_cn_N, rb_tk_N]; exact hp), List.length_cons, rb_wor_s, if_neg (Nat.lt_irrefl N), rb_tk_N, Int32.mul_one, Int32.one_mul, Int32.mul_add, ← rb_sm_mul, Int32.add_comm, show N - 1 - m = s.length by omega]
    congr 1
    apply rb_sm_congr
    intro c hc
    unfold rb_fit
    by_cases h : (ok s.length c && !(rb_tk N s).testBit c) = true
    · rw [if_pos h, if_pos h]
      have h' : (rb_tk N s).testBit c = false := by
        rw [Bool.and_eq_true] at h
        have := h.2
        simpa using this
      rw [ih (c :: s) (by rw [List.length_cons]; omega) (by rw [rb_cn_lt hc, rb_tk_lt hc, rb_pc_or h', hp, if_pos (by omega)]), List.length_cons, rb_wor_s, if_pos hc, rb_tk_lt hc, Int32.mul_assoc]
    · rw [if_neg h, if_neg h, Int32.mul_zero]
theorem rb_sum (hN : N ≤ 6) : rb_ls (fun q => rb_wor N we q N) (rb_pl N k ok N []) = rb_U N ok (fun r _ c => we (6 * r + c)) 1 (fun T => if rb_pc T 6 = k then 1 else 0) N 0 := by
  rw [rb_sum_l hN N [] (by rw [List.length_nil]; omega) (rb_pc_0 6)]
  show 1 * rb_U _ _ _ _ _ _ 0 = _
  rw [Int32.one_mul]
def rb_gs (we : Nat → Int32) (r T c : Nat) : Int32 := if rb_pc (T / 2 ^ c) 6 % 2 = 1 then -we (6 * r + c) else we (6 * r + c)
theorem rb_ss_l (hN : N ≤ 6) : ∀ m s, s.length + m = N → rb_ds N s →
    rb_ls (fun q => rb_sgn N q N * rb_wor N we q N) (rb_pl N N ok m s) = rb_sp s s.length * rb_wor N we s s.length * rb_U N ok (rb_gs we) 0 (fun T => if T = 2 ^ N - 1 then 1 else 0) m (rb_tk N s) := by
  intro m
  induction m with
  | zero =>
    intro s hs hd
    have hl : s.length = N := by omega
    have e : rb_tk N s = 2 ^ N - 1 := rb_allones (rb_tk_b s) (by rw [rb_ds_pc s hd, hl])
    rw [rb_pl, rb_U, if_pos e, if_pos (by rw [rb_ds_cn s hd, hl]), rb_ls, rb_ls, Int32.add_zero, Int32.mul_one, hl]
    rfl
  | succ m ih =>
    intro s hs hd
    rw [rb_ls_pl, rb_U, rb_pl_z m (N :: s) (Or.inr (by rw [rb_cn_N, rb_ds_cn s hd]; omega)), rb_ls, Int32.add_zero, Int32.zero_mul, Int32.zero_add, ← rb_sm_mul, show N - 1 - m = s.length by omega]
    apply rb_sm_congr
    intro c hc
    unfold rb_fit
    by_cases h : (ok s.length c && !(rb_tk N s).testBit c) = true
    · rw [if_pos h, if_pos h]
      have h' : (rb_tk N s).testBit c = false := by
        rw [Bool.and_eq_true] at h
        have := h.2
        simpa using this
      rw [ih (c :: s) (by rw [List.length_cons]; omega) ⟨hc, h', hd⟩, List.length_cons, rb_wor_s, if_pos hc, rb_tk_lt hc, rb_sp_s, rb_par hN s hd h']
      unfold rb_gs
      by_cases hp : rb_pc (rb_tk N s / 2 ^ c) 6 % 2 = 1
      · rw [if_pos hp, if_pos hp]; grind
      · rw [if_neg hp, if_neg hp]; grind
    · rw [if_neg h, if_neg h, Int32.mul_zero]
theorem rb_ss (hN : N ≤ 6) : rb_ls (fun q => rb_sgn N q N * rb_wor N we q N) (rb_pl N N ok N []) = rb_U N ok (rb_gs we) 0 (fun T => if T = 2 ^ N - 1 then 1 else 0) N 0 := by
  rw [rb_ss_l hN N [] (by rw [List.length_nil]; omega) trivial]
  show 1 * 1 * rb_U _ _ _ _ _ _ 0 = _
  rw [Int32.one_mul, Int32.one_mul]
theorem rb_sm_split (f : Nat → Int32) (a : Nat) : ∀ n, rb_sm f (a + n) = rb_sm f a + rb_sm (fun i => f (a + i)) n := by
  intro n
  induction n with
  | zero => rw [Nat.add_zero, rb_sm, Int32.add_zero]
  | succ n ih => rw [← Nat.add_assoc, rb_sm, ih, rb_sm, Int32.add_assoc]
theorem rb_sm_dm (f : Nat → Nat → Int32) (hN : 0 < N) : ∀ M, rb_sm (fun t => f (t / N) (t % N)) (M * N) = rb_sm (fun T => rb_sm (fun c => f T c) N) M := by
  intro M
  induction M with
  | zero => rw [Nat.zero_mul]; rfl
  | succ M ih =>
    rw [Nat.succ_mul, rb_sm_split, ih, rb_sm]
    congr 1
    apply rb_sm_congr
    intro c hc
    try dsimp only
    rw [Nat.mul_comm M N, Nat.mul_add_div hN, Nat.mul_add_mod, Nat.div_eq_of_lt hc, Nat.mod_eq_of_lt hc, Nat.add_zero]
end
end
section
/-! X's sums -/
def rb_g (x2 : Int32) (we : Nat → Int32) (r T c : Nat) : Int32 := if ¬ x2 = 0 ∧ rb_pc (T / 2 ^ c) 6 % 2 = 1 then -we (6 * r + c) else we (6 * r + c)
def rb_tm (x2 : Int32) (B : Nat → Nat) (we su : Nat → Int32) (r : Nat) (P : Nat → Int32) (T c : Nat) : Int32 := if rb_ok B r c && !T.testBit c then su T * rb_g x2 we r T c * P (T ||| 2 ^ c) else 0
section
variable {N k : Nat} {B : Nat → Nat} {ft : Int32} {bd we wy nx su la fa ch ro pr pc : Nat → Int32}
theorem rb_xclear {post : SX → Prop} (h : ∀ su' : Nat → Int32, su' 0 = 1 → (∀ i, i < 64 → 0 < i → su' i = 0) → post ((nI N), ft, bd, we, wy, nx, su', la, fa, ch, ro, pr, pc)) : wpX_clearSums post ((nI N), ft, bd, we, wy, nx, su, la, fa, ch, ro, pr, pc) := by
  have key : ∀ j t su', t + j = 64 → (∀ i, i < t → su' i = 0) → wX_clearSums_2 post (nI N) ft (j + 1) (nI t) bd we wy nx su' la fa ch ro pr pc := by
    intro j
    induction j with
    | zero =>
      intro t su' ht h1
      have e : t = 64 := by omega
      subst e
      rw [wX_clearSums_2]
      refine br_t (nI_le (a := 64) (b := 64) (by omega) (by omega)) (nm_e (h _ pk_us (fun i hi h0 => ?_)))
      rw [pk_un (by omega)]
      exact h1 i hi
    | succ j ih =>
      intro t su' ht h1
      rw [wX_clearSums_2]
      refine br_f (nI_ge (b := 64) (by omega) (by omega)) ?_
      rw [nI_clamp (by omega)]
      refine ⟨vp_in_nI (by omega) (by omega), nm_e (nm_r (nI_1 t) (ih (t + 1) _ (by omega) ?_))⟩
      intro i hi
      by_cases e : i = t
      · subst e; rw [pk_us]
      · rw [pk_un e]; exact h1 i (by omega)
  unfold wpX_clearSums
  exact ⟨65, key 64 0 su (by omega) (fun i hi => absurd hi (Nat.not_lt_zero i))⟩
theorem rb_xsr195 {post : SX → Prop} (h : ∀ su' : Nat → Int32, (∀ i, i < 64 → su' i = la i) → post ((nI N), ft, bd, we, wy, nx, su', la, fa, ch, ro, pr, pc)) :
    ∀ j t su', t + j = 64 → (∀ i, i < t → su' i = la i) → wX_sumRow_195 post (nI N) ft (j + 1) (nI t) bd we wy nx su' la fa ch ro pr pc := by
  intro j
  induction j with
  | zero =>
    intro t su' ht h1
    have e : t = 64 := by omega
    subst e
    rw [wX_sumRow_195]
    exact br_t (nI_le (a := 64) (b := 64) (by omega) (by omega)) (h _ h1)
  | succ j ih =>
    intro t su' ht h1
    rw [wX_sumRow_195]
    refine br_f (nI_ge (b := 64) (by omega) (by omega)) ?_
    rw [nI_clamp (by omega)]
    refine ⟨vp_in_nI (by omega) (by omega), vp_in_nI (by omega) (by omega), nm_e (nm_r (nI_1 t) (ih (t + 1) _ (by omega) ?_))⟩
    intro i hi
    by_cases e : i = t
    · subst e; rw [pk_us]
    · rw [pk_un e]; exact h1 i (by omega)
/-- one cell of the table: skipped, or its worth is added -/
theorem rb_xsr101 {post : SX → Prop} {J : Int32 → (Nat → Int32) → (Nat → Int32) → (Nat → Int32) → (Nat → Int32) → (Nat → Int32) → (Nat → Int32) → (Nat → Int32) → (Nat → Int32) → (Nat → Int32) → (Nat → Int32) → (Nat → Int32) → Prop} {x2 z0 : Int32} {r T c t : Nat} (hr : r < 6) (hT : T < 64) (hc : c < 6)
    (hz : z0 = if rb_ok B r c && !T.testBit c then 1 else 0)
    (h : ∀ la' : Nat → Int32, (∀ P : Nat → Int32, rb_sm (fun i => la' i * P i) 64 = rb_sm (fun i => la i * P i) 64 + rb_tm x2 B we su r P T c) → J (nI (t + 1)) bd we wy nx su la' fa ch ro pr pc) :
    wX_sumRow_101 post J (nI r) x2 (nI t) (nI T) (nI c) z0 (nI N) ft bd we wy nx su la fa ch ro pr pc := by
  unfold wX_sumRow_101
  by_cases hf : (rb_ok B r c && !T.testBit c) = true
  · rw [if_pos hf] at hz
    subst hz
    refine br_f (by decide) ?_
    rw [nI_clamp (n := T) (by omega)]
    refine ⟨vp_in_nI (by omega) (by omega), br_c (fun z => ?_) (fun z => ?_)⟩
    · refine nm_r (nI_1 t) (h la (fun P => ?_))
      unfold rb_tm
      rw [if_pos hf, z, Int32.zero_mul, Int32.zero_mul, Int32.add_zero]
    · have ho := rb_or64 hT (rb_p64 hc)
      rw [pk_shrN (by omega) (nI c &&& 31) c (s_l c (by omega)), rb_shl c (by omega), rb_or, rb_ix6, nI_clamp (n := T ||| 2 ^ c) (by omega), nI_clamp (n := 6 * r + c) (by omega)]
      have hp : ∀ x : Int32, (∀ P : Nat → Int32, x * P (T ||| 2 ^ c) = rb_tm x2 B we su r P T c) → J (nI (t + 1)) bd we wy nx su (upd la (T ||| 2 ^ c) (la (T ||| 2 ^ c) + x)) fa ch ro pr pc := by
        intro x hx
        refine h _ (fun P => ?_)
        rw [rb_sm_upd la P _ x 64 ho, hx]
      refine rb_xsize (Nat.lt_of_le_of_lt (Nat.div_le_self _ _) hT) ?_
      refine ⟨vp_in_nI (by omega) (by omega), vp_in_nI (by omega) (by omega), nm_e ⟨vp_in_nI ho (by omega), ?_⟩⟩
      refine br_c (fun y => ?_) (fun y => ?_)
      · refine ⟨vp_in_nI ho (by omega), nm_e (nm_r (nI_1 t) (hp _ (fun P => ?_)))⟩
        unfold rb_tm rb_g
        rw [if_pos hf, if_neg (fun w => w.1 y)]
      · have hb := rb_pc_le (T / 2 ^ c) 6
        have e1 : nI (rb_pc (T / 2 ^ c) 6) &&& 1 = nI (rb_pc (T / 2 ^ c) 6 % 2) := pk_andN (by omega) 1 (by decide)
        rw [e1]
        refine pk_eq (rb_pc (T / 2 ^ c) 6 % 2) 1 (fun w => ?_) (fun w => ?_)
        · refine ⟨vp_in_nI ho (by omega), nm_e (nm_r (nI_1 t) (hp _ (fun P => ?_)))⟩
          unfold rb_tm rb_g
          rw [if_pos hf, if_pos ⟨y, w⟩]
          grind
        · refine ⟨vp_in_nI ho (by omega), nm_e (nm_r (nI_1 t) (hp _ (fun P => ?_)))⟩
          unfold rb_tm rb_g
          rw [if_pos hf, if_neg (fun v => w v.2)]
  · rw [if_neg hf] at hz
    subst hz
    refine br_t rfl (nm_r (nI_1 t) (h la (fun P => ?_)))
    unfold rb_tm
    rw [if_neg hf, Int32.add_zero]
theorem rb_xsr41 {post : SX → Prop} {x2 : Int32} {r : Nat} (hN0 : 0 < N) (hN : N ≤ 6) (hr : r < N) (hB : rb_bd N B bd)
    (h : ∀ su' la' : Nat → Int32, (∀ P : Nat → Int32, rb_sm (fun i => su' i * P i) 64 = rb_sm (fun i => la i * P i) 64 + rb_sm (fun t => rb_tm x2 B we su r P (t / N) (t % N)) (64 * N)) → post ((nI N), ft, bd, we, wy, nx, su', la', fa, ch, ro, pr, pc)) :
    ∀ j t la', t + j = 64 * N → (∀ P : Nat → Int32, rb_sm (fun i => la' i * P i) 64 = rb_sm (fun i => la i * P i) 64 + rb_sm (fun t => rb_tm x2 B we su r P (t / N) (t % N)) t) → wX_sumRow_41 post (nI r) x2 (nI N) ft (j + 1) (nI t) bd we wy nx su la' fa ch ro pr pc := by
  have e64 : (64 : Int32) * nI N = nI (64 * N) := by
    show nI 64 * nI N = _
    rw [pk_mul]
  intro j
  induction j with
  | zero =>
    intro t la' ht h1
    have e : t = 64 * N := by omega
    subst e
    rw [wX_sumRow_41, e64]
    refine br_t (nI_le (Nat.le_refl _) (by omega)) ⟨65, rb_xsr195 (fun su' hs => h su' la' (fun P => ?_)) 64 0 su (by omega) (fun i hi => absurd hi (Nat.not_lt_zero i))⟩
    rw [← h1 P]
    apply rb_sm_congr
    intro i hi
    try dsimp only
    rw [hs i hi]
  | succ j ih =>
    intro t la' ht h1
    rw [wX_sumRow_41, e64]
    have hT : t / N < 64 := Nat.div_lt_of_lt_mul (by rw [Nat.mul_comm]; omega)
    have hc : t % N < N := Nat.mod_lt _ hN0
    refine br_f (nI_ge (by omega) (by omega)) ⟨nI_ne0 hN0 (by omega), nm_r (pk_div (by omega) hN0 (by omega)) ⟨nI_ne0 hN0 (by omega), nm_r (pk_rem (by omega) hN0 (by omega)) ⟨vp_in_nI (by omega) (by omega), ?_⟩⟩⟩
    have hJ : ∀ la2 : Nat → Int32, (∀ P : Nat → Int32, rb_sm (fun i => la2 i * P i) 64 = rb_sm (fun i => la' i * P i) 64 + rb_tm x2 B we su r P (t / N) (t % N)) → wX_sumRow_41 post (nI r) x2 (nI N) ft (j + 1) (nI (t + 1)) bd we wy nx su la2 fa ch ro pr pc := by
      intro la2 h2
      refine ih (t + 1) la2 (by omega) (fun P => ?_)
      rw [h2 P, h1 P, Int32.add_assoc]
      rfl
    rw [nI_clamp (n := r) (by omega), (hB r (by omega)).1]
    have hb64 := rb_bd64 hN hB (show r < 6 by omega)
    have hz0 : (rb_ok B r (t % N) && !(t / N).testBit (t % N)) = false → wX_sumRow_100 post (wX_sumRow_41 post (nI r) x2 (nI N) ft (j + 1)) (nI r) x2 (nI t) (nI (t / N)) (nI (t % N)) (nI N) ft bd we wy nx su la' fa ch ro pr pc := by
      intro hz
      unfold wX_sumRow_100
      refine rb_xsr101 (B := B) (by omega) hT (by omega) ?_ hJ
      rw [hz]; rfl
    refine br_c (fun y => ?_) (fun y => ?_)
    · rw [rb_bit1 (by omega) (by omega)] at y
      refine br_c (fun w => ?_) (fun w => ?_)
      · rw [rb_bit0 (by omega) (by omega)] at w
        refine rb_xsr101 (B := B) (by omega) hT (by omega) ?_ hJ
        unfold rb_ok
        rw [y, w]; rfl
      · rw [rb_bit0 (by omega) (by omega)] at w
        apply hz0
        have : (t / N).testBit (t % N) = true := by simpa using w
        rw [this]; simp
    · rw [rb_bit1 (by omega) (by omega)] at y
      apply hz0
      have : rb_ok B r (t % N) = false := by unfold rb_ok; simpa using y
      rw [this]; rfl
theorem rb_xsr {post : SX → Prop} {x2 x3 : Int32} {r : Nat} (hN0 : 0 < N) (hN : N ≤ 6) (hr : r < N) (hB : rb_bd N B bd)
    (h : ∀ su' la' : Nat → Int32, (∀ P : Nat → Int32, rb_sm (fun T => su' T * P T) 64 = rb_sm (fun T => su T * ((if x3 = 0 then 0 else 1) * P T + rb_sm (fun c => if rb_ok B r c && !T.testBit c then rb_g x2 we r T c * P (T ||| 2 ^ c) else 0) N)) 64) → post ((nI N), ft, bd, we, wy, nx, su', la', fa, ch, ro, pr, pc)) : wpX_sumRow post ((nI N), ft, bd, we, wy, nx, su, la, fa, ch, ro, pr, pc) (nI r) x2 x3 := by
  have key : ∀ j t la', t + j = 64 → (∀ i, i < t → la' i = if x3 = 0 then 0 else su i) → wX_sumRow_3 post (nI r) x2 x3 (nI N) ft (j + 1) (nI t) bd we wy nx su la' fa ch ro pr pc := by
    intro j
    induction j with
    | zero =>
      intro t la' ht h1
      have e : t = 64 := by omega
      subst e
      rw [wX_sumRow_3]
      refine br_t (nI_le (a := 64) (b := 64) (by omega) (by omega)) ⟨64 * N + 1, rb_xsr41 (la := la') hN0 hN hr hB (fun su' la2 h2 => h su' la2 (fun P => ?_)) (64 * N) 0 la' (by omega) (fun P => by rw [rb_sm]; simp)⟩
      rw [h2 P, rb_sm_dm (fun T c => rb_tm x2 B we su r P T c) hN0 64, ← rb_sm_add]
      apply rb_sm_congr
      intro T hT
      try dsimp only
      rw [h1 T hT, Int32.mul_add, ← rb_sm_mul]
      congr 1
      · split
        · simp
        · rw [Int32.one_mul]
      · apply rb_sm_congr
        intro c _
        unfold rb_tm
        split
        · rw [Int32.mul_assoc]
        · rw [Int32.mul_zero]
    | succ j ih =>
      intro t la' ht h1
      rw [wX_sumRow_3]
      refine br_f (nI_ge (b := 64) (by omega) (by omega)) ?_
      rw [nI_clamp (by omega)]
      refine br_c (fun z => ?_) (fun z => ?_)
      · refine ⟨vp_in_nI (by omega) (by omega), nm_e (nm_r (nI_1 t) (ih (t + 1) _ (by omega) ?_))⟩
        intro i hi
        by_cases e : i = t
        · subst e; rw [pk_us, if_pos z]
        · rw [pk_un e]; exact h1 i (by omega)
      · refine ⟨vp_in_nI (by omega) (by omega), vp_in_nI (by omega) (by omega), nm_e (nm_r (nI_1 t) (ih (t + 1) _ (by omega) ?_))⟩
        intro i hi
        by_cases e : i = t
        · subst e; rw [pk_us, if_neg z]
        · rw [pk_un e]; exact h1 i (by omega)
  unfold wpX_sumRow
  exact ⟨65, key 64 0 la (by omega) (fun i hi => absurd hi (Nat.not_lt_zero i))⟩
/-- the invariant: the sums so far against what is still to come -/
def rb_si (N : Nat) (B : Nat → Nat) (we : Nat → Int32) (x2 mp : Int32) (P : Nat → Int32) (r : Nat) (su : Nat → Int32) : Prop :=
  rb_sm (fun T => su T * rb_U N (rb_ok B) (rb_g x2 we) mp P (N - r) T) 64 = rb_U N (rb_ok B) (rb_g x2 we) mp P N 0
theorem rb_si_0 {x2 mp : Int32} {P : Nat → Int32} {su : Nat → Int32} (h0 : su 0 = 1) (h : ∀ i, i < 64 → 0 < i → su i = 0) : rb_si N B we x2 mp P 0 su := by
  unfold rb_si
  rw [Nat.sub_zero, rb_sm_front (fun T => su T * rb_U N (rb_ok B) (rb_g x2 we) mp P N T) 63, h0, Int32.one_mul, rb_sm_z 63, Int32.add_zero]
  intro i hi
  rw [h (i + 1) (by omega) (by omega), Int32.zero_mul]
theorem rb_si_s {x2 x3 : Int32} {P : Nat → Int32} {r : Nat} {su su' : Nat → Int32} (hr : r < N) (hi : rb_si N B we x2 (if x3 = 0 then 0 else 1) P r su)
    (h : ∀ P : Nat → Int32, rb_sm (fun T => su' T * P T) 64 = rb_sm (fun T => su T * ((if x3 = 0 then 0 else 1) * P T + rb_sm (fun c => if rb_ok B r c && !T.testBit c then rb_g x2 we r T c * P (T ||| 2 ^ c) else 0) N)) 64) : rb_si N B we x2 (if x3 = 0 then 0 else 1) P (r + 1) su' := by
  unfold rb_si at hi ⊢
  rw [h, ← hi, show N - r = (N - (r + 1)) + 1 by omega]
  apply rb_sm_congr
  intro T _
  try dsimp only
  rw [rb_U, show N - 1 - (N - (r + 1)) = r by omega]
theorem rb_xsum41 {post : Int32 → SX → Prop} (hN : N ≤ 6) (hk : k ≤ N) (h : post (rb_sm (fun T => su T * (if rb_pc T 6 = k then 1 else 0)) 64) ((nI N), ft, bd, we, wy, nx, su, la, fa, ch, ro, pr, pc)) :
    ∀ j t, t + j = 64 → wX_sum_41 post (nI k) (nI N) ft bd we wy nx su la fa ch ro pr pc (j + 1) (rb_sm (fun T => su T * (if rb_pc T 6 = k then 1 else 0)) t) (nI t) := by
  intro j
  induction j with
  | zero =>
    intro t ht
    have e : t = 64 := by omega
    subst e
    rw [wX_sum_41]
    exact br_t (nI_le (a := 64) (b := 64) (by omega) (by omega)) h
  | succ j ih =>
    intro t ht
    rw [wX_sum_41]
    refine br_f (nI_ge (b := 64) (by omega) (by omega)) (rb_xsize (by omega) ?_)
    have hb := rb_pc_le t 6
    have es : rb_sm (fun T => su T * (if rb_pc T 6 = k then 1 else 0)) (t + 1) = rb_sm (fun T => su T * (if rb_pc T 6 = k then 1 else 0)) t + su t * (if rb_pc t 6 = k then 1 else 0) := rfl
    refine pk_eq (rb_pc t 6) k (fun e => ?_) (fun e => ?_)
    · rw [if_pos e, Int32.mul_one] at es
      rw [nI_clamp (by omega)]
      exact ⟨vp_in_nI (by omega) (by omega), nm_r es.symm (nm_r (nI_1 t) (ih (t + 1) (by omega)))⟩
    · rw [if_neg e, Int32.mul_zero, Int32.add_zero] at es
      rw [← es]
      exact nm_r (nI_1 t) (ih (t + 1) (by omega))
theorem rb_xsum {post : Int32 → SX → Prop} (hN0 : 0 < N) (hN : N ≤ 6) (hk : k ≤ N) (hB : rb_bd N B bd)
    (h : ∀ su la, post (rb_U N (rb_ok B) (rb_g 0 we) 1 (fun T => if rb_pc T 6 = k then 1 else 0) N 0) ((nI N), ft, bd, we, wy, nx, su, la, fa, ch, ro, pr, pc)) : wpX_sum post ((nI N), ft, bd, we, wy, nx, su, la, fa, ch, ro, pr, pc) (nI k) := by
  have key : ∀ j r su la, r + j = N → rb_si N B we 0 (if (1 : Int32) = 0 then 0 else 1) (fun T => if rb_pc T 6 = k then 1 else 0) r su → wX_sum_16 post (nI k) (j + 1) (nI r) (nI N) ft bd we wy nx su la fa ch ro pr pc := by
    intro j
    induction j with
    | zero =>
      intro r su la hr h1
      have e : r = N := by omega
      subst e
      rw [wX_sum_16]
      refine br_t (nI_le (Nat.le_refl _) (by omega)) ⟨65, rb_xsum41 hN hk ?_ 64 0 rfl⟩
      have h := h su la
      unfold rb_si at h1
      rw [Nat.sub_self, if_neg (by decide)] at h1
      rw [← h1] at h
      exact h
    | succ j ih =>
      intro r su la hr h1
      rw [wX_sum_16]
      refine br_f (nI_ge (by omega) (by omega)) ?_
      refine rb_xsr hN0 hN (by omega) hB (fun su' la' h2 => nm_r (nI_1 r) (ih (r + 1) su' la' (by omega) (rb_si_s (by omega) h1 h2)))
  unfold wpX_sum
  refine rb_xbadn0 hN hk (br_t rfl (rb_xclear (fun su' h0 hz => ⟨N + 1, key N 0 su' la (by omega) (rb_si_0 h0 hz)⟩)))
theorem rb_xss {post : Int32 → SX → Prop} (hN0 : 0 < N) (hN : N ≤ 6) (hB : rb_bd N B bd)
    (h : ∀ su la, post (rb_U N (rb_ok B) (rb_g 1 we) 0 (fun T => if T = 2 ^ N - 1 then 1 else 0) N 0) ((nI N), ft, bd, we, wy, nx, su, la, fa, ch, ro, pr, pc)) : wpX_signedSum post ((nI N), ft, bd, we, wy, nx, su, la, fa, ch, ro, pr, pc) := by
  have h64 := rb_pN hN
  have hpos := Nat.two_pow_pos N
  have key : ∀ j r su la, r + j = N → rb_si N B we 1 (if (0 : Int32) = 0 then 0 else 1) (fun T => if T = 2 ^ N - 1 then 1 else 0) r su → wX_signedSum_6 post (j + 1) (nI r) (nI N) ft bd we wy nx su la fa ch ro pr pc := by
    intro j
    induction j with
    | zero =>
      intro r su la hr h1
      have e : r = N := by omega
      subst e
      have e1 : nI (2 ^ r) - 1 = nI (2 ^ r - 1) := pk_sub (b := 1) hpos
      rw [wX_signedSum_6]
      dsimp only
      rw [rb_sh1 hN, e1, nI_clamp (by omega)]
      refine br_t (nI_le (Nat.le_refl _) (by omega)) ⟨vp_in_nI (by omega) (by omega), ?_⟩
      have h := h su la
      unfold rb_si at h1
      rw [Nat.sub_self, if_pos rfl] at h1
      rw [← h1] at h
      have e2 : rb_sm (fun T => su T * rb_U r (rb_ok B) (rb_g 1 we) 0 (fun T => if T = 2 ^ r - 1 then 1 else 0) 0 T) 64 = rb_sm (fun T => if T = 2 ^ r - 1 then su (2 ^ r - 1) else 0) 64 := by
        apply rb_sm_congr
        intro T _
        show su T * (if T = 2 ^ r - 1 then 1 else 0) = _
        by_cases z : T = 2 ^ r - 1
        · rw [if_pos z, if_pos z, Int32.mul_one, z]
        · rw [if_neg z, if_neg z, Int32.mul_zero]
      rw [e2, rb_sm_one, if_pos (by omega)] at h
      exact h
    | succ j ih =>
      intro r su la hr h1
      rw [wX_signedSum_6]
      refine br_f (nI_ge (by omega) (by omega)) ?_
      refine rb_xsr hN0 hN (by omega) hB (fun su' la' h2 => nm_r (nI_1 r) (ih (r + 1) su' la' (by omega) (rb_si_s (by omega) h1 h2)))
  unfold wpX_signedSum
  exact rb_xclear (fun su' h0 hz => ⟨N + 1, key N 0 su' la (by omega) (rb_si_0 h0 hz)⟩)
end
end
section
/-! the relation; X's rooks, hits, through -/
def rb_on (B : Nat → Nat) (on : Nat → Int32) : Prop := ∀ r c, r < 6 → c < 6 → on (6 * r + c) = if (B r).testBit c then 1 else 0
def rb_tb (fa ch : Nat → Int32) : Prop := (∀ i, i < 7 → fa i = nI (rb_fc i)) ∧ (∀ i j, i < 7 → j ≤ i → ch (7 * i + j) = nI (rb_cb i j))
def rb_R (N : Nat) (B : Nat → Nat) (bd on fa ch : Nat → Int32) : Prop := 0 < N ∧ N ≤ 6 ∧ rb_bd N B bd ∧ (∀ r, N ≤ r → r < 6 → B r = 0) ∧ rb_on B on ∧ rb_tb fa ch
/-- the relation: one size, one board (masks there, truth values here), the same weights, the tables; all else at will -/
def i_Rel (k : Nat) (u : SX) (v : SY) : Prop := ∃ N B ft bd we wy nx su la fa ch ro pr pc yr yp yt ya on co, rb_R N B bd on fa ch ∧ u = ((nI N), ft, bd, we, wy, nx, su, la, fa, ch, ro, pr, pc) ∧ v = ((nI N), yr, yp, yt, ya, on, we, co)
theorem i_up {k : Nat} {u : SX} {v : SY} (h : i_Rel k u v) : i_Rel (k + 4) u v := h
theorem rb_el {P : SX → SY → Prop} {k : Nat} {u : SX} {v : SY} (I : i_Rel k u v) (h : ∀ N B ft bd we wy nx su la fa ch ro pr pc yr yp yt ya on co, rb_R N B bd on fa ch → P ((nI N), ft, bd, we, wy, nx, su, la, fa, ch, ro, pr, pc) ((nI N), yr, yp, yt, ya, on, we, co)) : P u v := by
  obtain ⟨N, B, ft, bd, we, wy, nx, su, la, fa, ch, ro, pr, pc, yr, yp, yt, ya, on, co, hR, hu, hv⟩ := I
  rw [hu, hv]
  exact h N B ft bd we wy nx su la fa ch ro pr pc yr yp yt ya on co hR
section
variable {N k : Nat} {B : Nat → Nat} {ft : Int32} {bd we wy nx su la fa ch ro pr pc : Nat → Int32} {yr yp yt ya : Int32} {on co : Nat → Int32}
theorem rb_in (hR : rb_R N B bd on fa ch) : i_Rel k ((nI N), ft, bd, we, wy, nx, su, la, fa, ch, ro, pr, pc) ((nI N), yr, yp, yt, ya, on, we, co) :=
  ⟨N, B, ft, bd, we, wy, nx, su, la, fa, ch, ro, pr, pc, yr, yp, yt, ya, on, co, hR, rfl, rfl⟩
theorem rb_hok (hN : N ≤ 6) (h : rb_on B on) : ∀ r c, r < N → c < N → (rb_ok B r c = true ↔ (¬ (0 : Int32) = 0 ∨ ¬ on (6 * r + c) = 0)) := by
  intro r c hr hc
  rw [h r c (by omega) (by omega)]
  unfold rb_ok
  cases (B r).testBit c with
  | false => exact ⟨(fun z => nomatch z), fun z => by rcases z with z | z <;> exact absurd rfl z⟩
  | true => exact ⟨fun _ => Or.inr (by decide), fun _ => rfl⟩
theorem rb_hon (hN : N ≤ 6) (h : rb_on B on) : ∀ r c, r < N → c < N → (rb_ok B r c = true ↔ ¬ on (6 * r + c) = 0) := by
  intro r c hr hc
  rw [rb_hok hN h r c hr hc]
  exact ⟨fun z => by rcases z with z | z; exact absurd rfl z; exact z, Or.inr⟩
theorem rb_xrooks {post : Int32 → SX → Prop} (hN0 : 0 < N) (hN : N ≤ 6) (hk : k ≤ N) (hB : rb_bd N B bd)
    (h : ∀ wy nx, post (nI (rb_ct N (rb_ok B) N k 0)) ((nI N), ft, bd, we, wy, nx, su, la, fa, ch, ro, pr, pc)) : wpX_rooks post ((nI N), ft, bd, we, wy, nx, su, la, fa, ch, ro, pr, pc) (nI k) := by
  unfold wpX_rooks
  exact rb_xbadn0 hN hk (br_t rfl (rb_xcount hN0 hN hk hB h))
theorem rb_ix7 (r c : Nat) : (7 : Int32) * nI r + nI c = nI (7 * r + c) := by
  show nI 7 * nI r + nI c = _
  rw [pk_mul, nI_add]
theorem rb_xhits {post : Int32 → SX → Prop} {kk : Nat} (hN0 : 0 < N) (hN : N ≤ 6) (hk : kk ≤ N) (hB : rb_bd N B bd) (ht : rb_tb fa ch)
    (h : ∀ wy nx, post (rb_sm (fun i => rb_sg i * (nI (rb_ct N (rb_ok B) N (kk + i) 0) * nI (rb_fc (N - (kk + i))) * nI (rb_cb (kk + i) kk))) (N + 1 - kk)) ((nI N), ft, bd, we, wy, nx, su, la, fa, ch, ro, pr, pc)) : wpX_hits post ((nI N), ft, bd, we, wy, nx, su, la, fa, ch, ro, pr, pc) (nI kk) := by
  have key : ∀ d i wy nx, kk + i + d = N + 1 → wX_hits_14 post (nI kk) (d + 1) (rb_sm (fun i => rb_sg i * (nI (rb_ct N (rb_ok B) N (kk + i) 0) * nI (rb_fc (N - (kk + i))) * nI (rb_cb (kk + i) kk))) i) (nI (kk + i)) (nI N) ft bd we wy nx su la fa ch ro pr pc := by
    intro d
    induction d with
    | zero =>
      intro i wy nx hd
      have e : i = N + 1 - kk := by omega
      subst e
      rw [wX_hits_14]
      exact br_t (nI_lt (by omega) (by omega)) (h wy nx)
    | succ d ih =>
      intro i wy nx hd
      rw [wX_hits_14]
      refine br_f (nI_nlt (by omega) (by omega)) (rb_xcount hN0 hN (by omega) hB (fun wy nx => ?_))
      have e1 : nI N - nI (kk + i) = nI (N - (kk + i)) := pk_sub (by omega)
      have e2 : nI (kk + i) - nI kk = nI i := by rw [pk_sub (by omega), show kk + i - kk = i by omega]
      have e3 : nI i &&& 1 = nI (i % 2) := pk_andN (by omega) 1 (by decide)
      show vp_in (nI N - nI (kk + i)) 7 ∧ _
      rw [e1, rb_ix7, e2, e3, nI_clamp (n := N - (kk + i)) (by omega), nI_clamp (n := 7 * (kk + i) + kk) (by omega), ht.1 _ (by omega), ht.2 _ _ (by omega) (by omega)]
      refine ⟨vp_in_nI (by omega) (by omega), vp_in_nI (by omega) (by omega), nm_e ?_⟩
      have es := rb_sm.eq_2 (fun i => rb_sg i * (nI (rb_ct N (rb_ok B) N (kk + i) 0) * nI (rb_fc (N - (kk + i))) * nI (rb_cb (kk + i) kk))) i
      have hi := ih (i + 1) wy nx (by omega)
      rw [es] at hi
      refine pk_eq (i % 2) 0 (fun z => ?_) (fun z => ?_)
      · have hg : rb_sg i = 1 := if_pos z
        rw [hg, Int32.one_mul] at hi
        exact nm_e (nm_r (nI_1 (kk + i)) hi)
      · have hg : rb_sg i = -1 := if_neg z
        rw [hg] at hi
        refine nm_r ?_ (nm_r (nI_1 (kk + i)) hi)
        grind
  unfold wpX_hits
  exact rb_xbadn0 hN hk (br_t rfl ⟨N + 1 - kk + 1, key (N + 1 - kk) 0 wy nx (by omega)⟩)
theorem rb_and0 : ∀ a, a < 64 → ∀ c, c < 6 → ((nI a &&& nI (2 ^ c) = 0) ↔ a.testBit c = false) := by decide +kernel
theorem rb_back : ∀ a, a < 64 → ∀ c, c < 6 → a.testBit c = true → (a &&& (63 ^^^ 2 ^ c)) ||| 2 ^ c = a := by decide +kernel
def rb_Bw (B : Nat → Nat) (r0 c0 : Nat) : Nat → Nat := fun r => if r = r0 then B r0 &&& (63 ^^^ 2 ^ c0) else B r
theorem rb_xthr {post : Int32 → SX → Prop} {r0 c0 : Nat} (hN0 : 0 < N) (hN : N ≤ 6) (hk : k ≤ N) (hr : r0 < N) (hc : c0 < N) (hB : rb_bd N B bd)
    (h : ∀ bd wy nx, rb_bd N B bd → post (rb_ls (fun q => if rb_at q r0 = c0 then 1 else 0) (rb_pl N k (rb_ok B) N [])) ((nI N), ft, bd, we, wy, nx, su, la, fa, ch, ro, pr, pc)) : wpX_countThrough post ((nI N), ft, bd, we, wy, nx, su, la, fa, ch, ro, pr, pc) (nI (6 * r0 + c0)) (nI k) := by
  rw [rb_thr hr hc] at h
  have hb := rb_bd64 hN hB (show r0 < 6 by omega)
  have hp := rb_p64 (show c0 < 6 by omega)
  have em := rb_mod6 (r := r0) (c := c0) (by omega) (by omega)
  rw [rb_div6 (by omega) (by omega)] at em
  unfold wpX_countThrough
  refine ⟨by decide, nm_r (rb_div6 (by omega) (by omega)) ⟨by decide, ?_⟩⟩
  rw [rb_div6 (by omega) (by omega), em]
  refine nm_r (rb_shl c0 (by omega)) ⟨vp_in_nI (by omega) (by omega), ?_⟩
  rw [nI_clamp (by omega), (hB r0 (by omega)).1, rb_and0 _ hb _ (by omega)]
  refine br_c (fun z => ?_) (fun z => ?_)
  · have h := h bd wy nx hB
    have e : rb_ct N (rb_wo (rb_ok B) r0 c0) N k 0 = rb_ct N (rb_ok B) N k 0 := by
      apply rb_ct_congr _ N k 0 (Nat.le_refl N)
      intro r c _ _
      unfold rb_wo rb_ok
      by_cases e : r = r0 ∧ c = c0
      · rw [e.1, e.2, z]; rfl
      · have : (decide (r = r0) && decide (c = c0)) = false := by
          cases h1 : (decide (r = r0) && decide (c = c0)) with
          | false => rfl
          | true =>
            rw [Bool.and_eq_true, decide_eq_true_iff, decide_eq_true_iff] at h1
            exact absurd h1 e
        rw [this]; simp
    rw [e, Int32.sub_self] at h
    exact h
  · have z' : (B r0).testBit c0 = true := by simpa using z
    refine pk_eq k 0 (fun y => ?_) (fun y => ?_)
    · have h := h bd wy nx hB
      rw [y, rb_ct_0, rb_ct_0, Int32.sub_self] at h
      exact h
    · refine rb_xcount hN0 hN hk hB (fun wy nx => ⟨vp_in_nI (by omega) (by omega), vp_in_nI (by omega) (by omega), ?_⟩)
      rw [(hB r0 (by omega)).1, rb_andn _ hb _ hp, rb_nb8 (Nat.lt_trans (rb_and64 hb _) (by omega))]
      refine nm_e ?_
      have hB2 : rb_bd N (rb_Bw B r0 c0) (upd bd r0 (nI (B r0 &&& (63 ^^^ 2 ^ c0)))) := by
        intro r hr
        unfold rb_Bw
        by_cases e : r = r0
        · rw [e, pk_us, if_pos rfl]
          exact ⟨rfl, Nat.lt_of_le_of_lt Nat.and_le_left (hB r0 (by omega)).2⟩
        · rw [pk_un e, if_neg e]
          exact hB r hr
      refine rb_xcount hN0 hN hk hB2 (fun wy nx => ⟨vp_in_nI (by omega) (by omega), vp_in_nI (by omega) (by omega), ?_⟩)
      rw [pk_us, rb_or, rb_back _ hb _ (by omega) z', rb_nb8 (by omega)]
      refine nm_e ?_
      have e : rb_ct N (rb_ok (rb_Bw B r0 c0)) N k 0 = rb_ct N (rb_wo (rb_ok B) r0 c0) N k 0 := by
        apply rb_ct_congr _ N k 0 (Nat.le_refl N)
        intro r c _ hc
        unfold rb_wo rb_ok rb_Bw
        by_cases e : r = r0
        · rw [if_pos e, rb_tbn _ _ (by omega), rb_tbp, e, decide_eq_true rfl, Bool.true_and]
          by_cases e2 : c = c0
          · rw [e2]
          · rw [decide_eq_false e2, decide_eq_false (fun y => e2 y.symm)]
        · rw [if_neg e, decide_eq_false e]; simp
      rw [e]
      refine h _ _ _ ?_
      intro r hr
      by_cases e : r = r0
      · rw [e, pk_us]
        exact ⟨rfl, (hB r0 (by omega)).2⟩
      · rw [pk_un e, pk_un e]
        exact hB r hr
end
theorem i_vc_rooks {k : Nat} {u : SX} {v : SY} (I : i_Rel k u v) (hk : k + 4 ≤ 2049) (v1 : Int32) : wpX_rooks (fun r u' => wpY_rooks (fun r' v' => r' = r ∧ i_Rel (k + 4) u' v') v v1) u v1 := by
  refine rb_el (P := fun u v => wpX_rooks (fun r u' => wpY_rooks (fun r' v' => r' = r ∧ i_Rel (k + 4) u' v') v v1) u v1) I ?_
  intro N B ft bd we wy nx su la fa ch ro pr pc yr yp yt ya on co hR
  obtain ⟨hN0, hN, hB, hz, ho, ht⟩ := hR
  have hR : rb_R N B bd on fa ch := ⟨hN0, hN, hB, hz, ho, ht⟩
  rcases rb_arg N hN v1 with hx | ⟨j, hj, rfl⟩
  · unfold wpX_rooks
    refine rb_xbadn1 hx (br_f (by decide) ?_)
    unfold wpY_rooks
    exact rb_ybad1 hx (br_f (by decide) ⟨rfl, rb_in hR⟩)
  · refine rb_xrooks hN0 hN hj hB (fun wy nx => ?_)
    refine rb_yrooks hN0 hN hj (rb_hok hN ho) (fun yr yp yt ya co => ⟨?_, rb_in hR⟩)
    rw [rb_len0]
theorem i_vc_hits {k : Nat} {u : SX} {v : SY} (I : i_Rel k u v) (hk : k + 4 ≤ 2049) (v1 : Int32) : wpX_hits (fun r u' => wpY_hits (fun r' v' => r' = r ∧ i_Rel (k + 4) u' v') v v1) u v1 := by
  refine rb_el (P := fun u v => wpX_hits (fun r u' => wpY_hits (fun r' v' => r' = r ∧ i_Rel (k + 4) u' v') v v1) u v1) I ?_
  intro N B ft bd we wy nx su la fa ch ro pr pc yr yp yt ya on co hR
  obtain ⟨hN0, hN, hB, hz, ho, ht⟩ := hR
  have hR : rb_R N B bd on fa ch := ⟨hN0, hN, hB, hz, ho, ht⟩
  rcases rb_arg N hN v1 with hx | ⟨j, hj, rfl⟩
  · unfold wpX_hits
    refine rb_xbadn1 hx (br_f (by decide) ?_)
    unfold wpY_hits
    exact rb_ybad1 hx (br_f (by decide) ⟨rfl, rb_in hR⟩)
  · refine rb_xhits hN0 hN hj hB ht (fun wy nx => ?_)
    refine rb_yhits hN0 hN hj (fun yr yp yt ya co => ⟨?_, rb_in hR⟩)
    exact rb_hits hN hj (rb_hon hN ho)
theorem i_vc_through {k : Nat} {u : SX} {v : SY} (I : i_Rel k u v) (hk : k + 4 ≤ 2049) (v1 : Int32) (v2 : Int32) : wpX_through (fun r u' => wpY_through (fun r' v' => r' = r ∧ i_Rel (k + 4) u' v') v v1 v2) u v1 v2 := by
  refine rb_el (P := fun u v => wpX_through (fun r u' => wpY_through (fun r' v' => r' = r ∧ i_Rel (k + 4) u' v') v v1 v2) u v1 v2) I ?_
  intro N B ft bd we wy nx su la fa ch ro pr pc yr yp yt ya on co hR
  obtain ⟨hN0, hN, hB, hz, ho, ht⟩ := hR
  have hR : rb_R N B bd on fa ch := ⟨hN0, hN, hB, hz, ho, ht⟩
  rcases rb_cell (N := N) (ft := ft) (bd := bd) (we := we) (wy := wy) (nx := nx) (su := su) (la := la) (fa := fa) (ch := ch) (ro := ro) (pr := pr) (pc := pc) hN (yr := yr) (yp := yp) (yt := yt) (ya := ya) (on := on) (co := co) v1 with ⟨r, c, hr, hc, rfl⟩ | ⟨h1, h2⟩
  · rcases rb_arg N hN v2 with hx | ⟨j, hj, rfl⟩
    · unfold wpX_through
      refine rb_xbadc0 hN hr hc (br_t rfl (rb_xbadn1 hx (br_f (by decide) ?_)))
      unfold wpY_through
      exact rb_ynoc0 hN hr hc (br_t rfl (rb_ybad1 hx (br_f (by decide) ⟨rfl, rb_in hR⟩)))
    · unfold wpX_through
      refine rb_xbadc0 hN hr hc (br_t rfl (rb_xbadn0 hN hj (br_t rfl ?_)))
      refine rb_xthr hN0 hN hj hr hc hB (fun bd wy nx hB => ?_)
      exact rb_ythrough hN0 hN hj hr hc (rb_hok hN ho) (fun yr yp yt ya co => ⟨rfl, rb_in ⟨hN0, hN, hB, hz, ho, ht⟩⟩)
  · unfold wpX_through
    refine h1 _ (br_f (by decide) ?_)
    unfold wpY_through
    exact h2 _ (br_f (by decide) ⟨rfl, rb_in hR⟩)
theorem i_vc_sum {k : Nat} {u : SX} {v : SY} (I : i_Rel k u v) (hk : k + 4 ≤ 2049) (v1 : Int32) : wpX_sum (fun r u' => wpY_sum (fun r' v' => r' = r ∧ i_Rel (k + 4) u' v') v v1) u v1 := by
  refine rb_el (P := fun u v => wpX_sum (fun r u' => wpY_sum (fun r' v' => r' = r ∧ i_Rel (k + 4) u' v') v v1) u v1) I ?_
  intro N B ft bd we wy nx su la fa ch ro pr pc yr yp yt ya on co hR
  obtain ⟨hN0, hN, hB, hz, ho, ht⟩ := hR
  have hR : rb_R N B bd on fa ch := ⟨hN0, hN, hB, hz, ho, ht⟩
  rcases rb_arg N hN v1 with hx | ⟨j, hj, rfl⟩
  · unfold wpX_sum
    refine rb_xbadn1 hx (br_f (by decide) ?_)
    unfold wpY_sum
    exact rb_ybad1 hx (br_f (by decide) ⟨rfl, rb_in hR⟩)
  · refine rb_xsum hN0 hN hj hB (fun su la => ?_)
    refine rb_ysum hN0 hN hj (rb_hok hN ho) (fun yr yp yt ya co => ⟨?_, rb_in hR⟩)
    rw [rb_sum hN]
    have e : (fun r _ c => we (6 * r + c)) = rb_g 0 we := by
      funext r T c
      unfold rb_g
      rw [if_neg (fun z => z.1 rfl)]
    rw [e]
theorem i_vc_signedSum {k : Nat} {u : SX} {v : SY} (I : i_Rel k u v) (hk : k + 4 ≤ 2049) : wpX_signedSum (fun r u' => wpY_signedSum (fun r' v' => r' = r ∧ i_Rel (k + 4) u' v') v) u := by
  refine rb_el (P := fun u v => wpX_signedSum (fun r u' => wpY_signedSum (fun r' v' => r' = r ∧ i_Rel (k + 4) u' v') v) u) I ?_
  intro N B ft bd we wy nx su la fa ch ro pr pc yr yp yt ya on co hR
  obtain ⟨hN0, hN, hB, hz, ho, ht⟩ := hR
  have hR : rb_R N B bd on fa ch := ⟨hN0, hN, hB, hz, ho, ht⟩
  refine rb_xss hN0 hN hB (fun su la => ?_)
  refine rb_yss hN0 hN (rb_hok hN ho) (fun yr yp yt ya co => ⟨?_, rb_in hR⟩)
  rw [rb_ss hN]
  have e : rb_gs we = rb_g 1 we := by
    funext r T c
    unfold rb_g rb_gs
    by_cases h : rb_pc (T / 2 ^ c) 6 % 2 = 1
    · rw [if_pos h, if_pos ⟨by decide, h⟩]
    · rw [if_neg h, if_neg (fun z => h z.2)]
  rw [e]
end
section
/-! cells, set, weight, complement -/
theorem rb_sn_split (f : Nat → Nat) (a : Nat) : ∀ n, rb_sn f (a + n) = rb_sn f a + rb_sn (fun i => f (a + i)) n := by
  intro n
  induction n with
  | zero => rfl
  | succ n ih => rw [← Nat.add_assoc, rb_sn, ih, rb_sn, Nat.add_assoc]
theorem rb_sn_pc (a : Nat) : ∀ n, rb_sn (fun c => if a.testBit c then 1 else 0) n = rb_pc a n := by
  intro n
  induction n with
  | zero => rfl
  | succ n ih => rw [rb_sn, ih, rb_pc]
theorem rb_vb0 : vp_nar .boolean 0 = 0 := by decide
theorem rb_vb1 : vp_nar .boolean 1 = 1 := by decide
theorem rb_cells_eq {N : Nat} {B : Nat → Nat} {on : Nat → Int32} (hN : N ≤ 6) (hz : ∀ r, N ≤ r → r < 6 → B r = 0) (ho : rb_on B on) : rb_sn (fun x => if on x = 0 then 0 else 1) 36 = rb_sn (fun r => rb_pc (B r) 6) N := by
  have h1 : ∀ m, m ≤ 6 → rb_sn (fun x => if on x = 0 then 0 else 1) (6 * m) = rb_sn (fun r => rb_pc (B r) 6) m := by
    intro m
    induction m with
    | zero => intro _; rfl
    | succ m ih =>
      intro hm
      rw [Nat.mul_succ, rb_sn_split, ih (by omega)]
      show _ + _ = rb_sn (fun r => rb_pc (B r) 6) m + rb_pc (B m) 6
      rw [← rb_sn_pc]
      congr 1
      apply rb_sn_congr
      intro c hc
      rw [ho m c (by omega) hc]
      cases (B m).testBit c <;> rfl
  have h2 : ∀ m, N ≤ m → m ≤ 6 → rb_sn (fun r => rb_pc (B r) 6) m = rb_sn (fun r => rb_pc (B r) 6) N := by
    intro m
    induction m with
    | zero => intro h _; rw [show N = 0 by omega]
    | succ m ih =>
      intro h h6
      by_cases e : N = m + 1
      · rw [e]
      · rw [rb_sn, ih (by omega) (by omega), hz m (by omega) (by omega), rb_pc_0, Nat.add_zero]
  exact (h1 6 (by omega)).trans (h2 6 hN (by omega))
def rb_Bs (B : Nat → Nat) (r b : Nat) : Nat → Nat := fun x => if x = r then b else B x
section
variable {N k : Nat} {B : Nat → Nat} {ft : Int32} {bd we wy nx su la fa ch ro pr pc : Nat → Int32} {yr yp yt ya : Int32} {on co : Nat → Int32}
theorem rb_ycells {post : Int32 → Prop} (h : post (nI (rb_sn (fun x => if on x = 0 then 0 else 1) 36))) : wpY_cells post ((nI N), yr, yp, yt, ya, on, we, co) := by
  have key : ∀ j t, t + j = 36 → wY_cells_4 post (nI N) yr yp yt ya on we co (j + 1) (nI (rb_sn (fun x => if on x = 0 then 0 else 1) t)) (nI t) := by
    intro j
    induction j with
    | zero =>
      intro t ht
      have e : t = 36 := by omega
      subst e
      rw [wY_cells_4]
      exact br_t (nI_le (a := 36) (b := 36) (by omega) (by omega)) h
    | succ j ih =>
      intro t ht
      rw [wY_cells_4]
      have es : rb_sn (fun x => if on x = 0 then 0 else 1) (t + 1) = rb_sn (fun x => if on x = 0 then 0 else 1) t + (if on t = 0 then 0 else 1) := rfl
      refine br_f (nI_ge (b := 36) (by omega) (by omega)) ⟨vp_in_nI (by omega) (by omega), ?_⟩
      rw [nI_clamp (by omega)]
      have hi := ih (t + 1) (by omega)
      rw [es] at hi
      refine br_c (fun z => ?_) (fun z => ?_)
      · rw [if_pos z] at hi
        exact nm_r (nI_1 t) hi
      · rw [if_neg z] at hi
        exact nm_r (nI_1 _) (nm_r (nI_1 t) hi)
  unfold wpY_cells
  exact ⟨37, key 36 0 rfl⟩
theorem rb_R_set {r b : Nat} {on' : Nat → Int32} (hR : rb_R N B bd on fa ch) (hr : r < N) (hb : b < 2 ^ N) (ho : rb_on (rb_Bs B r b) on') : rb_R N (rb_Bs B r b) (upd bd r (nI b)) on' fa ch := by
  obtain ⟨hN0, hN, hB, hz, _, ht⟩ := hR
  refine ⟨hN0, hN, ?_, ?_, ho, ht⟩
  · intro x hx
    unfold rb_Bs
    by_cases e : x = r
    · rw [e, pk_us, if_pos rfl]; exact ⟨rfl, hb⟩
    · rw [pk_un e, if_neg e]; exact hB x hx
  · intro x h1 h2
    unfold rb_Bs
    rw [if_neg (by omega)]
    exact hz x h1 h2
theorem rb_on_set {r c b : Nat} {v : Int32} (hr : r < 6) (hc : c < 6) (ho : rb_on B on) (hb : ∀ d, d < 6 → ¬ d = c → b.testBit d = (B r).testBit d) (hv : v = if b.testBit c then 1 else 0) : rb_on (rb_Bs B r b) (upd on (6 * r + c) v) := by
  intro x d hx hd
  unfold rb_Bs
  by_cases e : x = r
  · rw [if_pos e]
    by_cases e2 : d = c
    · rw [e, e2, pk_us, hv]
    · rw [pk_un (by omega), e, ho r d hr hd, hb d hd e2]
  · rw [if_neg e, pk_un (by omega)]
    exact ho x d hx hd
theorem rb_xset {post : Int32 → SX → Prop} {r c : Nat} {p1 : Int32} (hN : N ≤ 6) (hr : r < N) (hc : c < N) (hB : rb_bd N B bd)
    (h : post (if (B r).testBit c then 1 else 0) ((nI N), ft, upd bd r (nI (if p1 = 0 then B r &&& (63 ^^^ 2 ^ c) else B r ||| 2 ^ c)), we, wy, nx, su, la, fa, ch, ro, pr, pc)) : wpX_set post ((nI N), ft, bd, we, wy, nx, su, la, fa, ch, ro, pr, pc) (nI (6 * r + c)) p1 := by
  have hb := rb_bd64 hN hB (show r < 6 by omega)
  have hp := rb_p64 (show c < 6 by omega)
  have em := rb_mod6 (r := r) (c := c) (by omega) (by omega)
  rw [rb_div6 (by omega) (by omega)] at em
  have key : ∀ z0, z0 = (if (B r).testBit c then (1 : Int32) else 0) → wX_set_40 post p1 (nI r) (nI (2 ^ c)) z0 (nI N) ft bd we wy nx su la fa ch ro pr pc := by
    intro z0 hz
    unfold wX_set_40
    rw [nI_clamp (by omega), (hB r (by omega)).1]
    subst hz
    refine br_c (fun z => ?_) (fun z => ?_)
    · rw [if_pos z] at h
      refine ⟨vp_in_nI (by omega) (by omega), vp_in_nI (by omega) (by omega), ?_⟩
      rw [rb_andn _ hb _ hp, rb_nb8 (Nat.lt_trans (rb_and64 hb _) (by omega))]
      exact nm_e h
    · rw [if_neg z] at h
      refine ⟨vp_in_nI (by omega) (by omega), vp_in_nI (by omega) (by omega), ?_⟩
      rw [rb_or, rb_nb8 (Nat.lt_trans (rb_or64 hb hp) (by omega))]
      exact nm_e h
  unfold wpX_set
  refine rb_xbadc0 hN hr hc (br_t rfl ⟨by decide, nm_r (rb_div6 (by omega) (by omega)) ⟨by decide, ?_⟩⟩)
  rw [rb_div6 (by omega) (by omega), em]
  refine nm_r (rb_shl c (by omega)) ⟨vp_in_nI (by omega) (by omega), ?_⟩
  rw [nI_clamp (by omega), (hB r (by omega)).1, rb_and0 _ hb _ (by omega)]
  refine br_c (fun z => key 0 ?_) (fun z => key 1 ?_)
  · rw [z]; rfl
  · have z' : (B r).testBit c = true := by simpa using z
    rw [z']; rfl
theorem rb_yset {post : Int32 → SY → Prop} {r c : Nat} {p1 : Int32} (hN : N ≤ 6) (hr : r < N) (hc : c < N) (ho : rb_on B on)
    (h : post (if (B r).testBit c then 1 else 0) ((nI N), yr, yp, yt, ya, upd on (6 * r + c) (if p1 = 0 then 0 else 1), we, co)) : wpY_set post ((nI N), yr, yp, yt, ya, on, we, co) (nI (6 * r + c)) p1 := by
  have key : ∀ z0, z0 = (if (B r).testBit c then (1 : Int32) else 0) → wY_set_24 post (nI (6 * r + c)) p1 z0 (nI N) yr yp yt ya on we co := by
    intro z0 hz
    unfold wY_set_24
    rw [nI_clamp (by omega), rb_vb0, rb_vb1]
    subst hz
    refine br_c (fun z => ?_) (fun z => ?_)
    · rw [if_pos z] at h
      exact ⟨vp_in_nI (by omega) (by omega), nm_e h⟩
    · rw [if_neg z] at h
      exact ⟨vp_in_nI (by omega) (by omega), nm_e h⟩
  unfold wpY_set
  refine rb_ynoc0 hN hr hc (br_t rfl ⟨vp_in_nI (by omega) (by omega), ?_⟩)
  rw [nI_clamp (by omega), ho r c (by omega) (by omega)]
  cases e : (B r).testBit c with
  | false => exact br_t rfl (key 0 (by rw [e]; rfl))
  | true => exact br_f (by decide) (key 1 (by rw [e]; rfl))
def rb_cm (N a : Nat) : Nat := (2 ^ N - 1) &&& (63 ^^^ a)
theorem rb_cm_t {a c : Nat} (hc : c < 6) : (rb_cm N a).testBit c = (decide (c < N) && !a.testBit c) := by
  unfold rb_cm
  rw [rb_tbn _ _ hc, Nat.testBit_two_pow_sub_one]
theorem rb_cm_b (a : Nat) : rb_cm N a < 2 ^ N := by
  have h : 2 ^ N - 1 < 2 ^ N := by have := Nat.two_pow_pos N; omega
  exact Nat.lt_of_le_of_lt Nat.and_le_left h
def rb_Bc (N : Nat) (B : Nat → Nat) : Nat → Nat := fun r => if r < N then rb_cm N (B r) else 0
theorem rb_xcompl {post : Int32 → SX → Prop} (hN : N ≤ 6) (hB : rb_bd N B bd) (hz : ∀ r, N ≤ r → r < 6 → B r = 0)
    (h : ∀ bd, rb_bd N (rb_Bc N B) bd → post (nI (rb_sn (fun r => rb_pc (rb_Bc N B r) 6) N)) ((nI N), ft, bd, we, wy, nx, su, la, fa, ch, ro, pr, pc)) : wpX_complement post ((nI N), ft, bd, we, wy, nx, su, la, fa, ch, ro, pr, pc) := by
  have hpos := Nat.two_pow_pos N
  have h64 := rb_pN hN
  have key : ∀ j t bd', t + j = N → (∀ r, r < 6 → bd' r = if r < t then nI (rb_cm N (B r)) else nI (B r)) → wX_complement_2 post (nI N) ft (j + 1) (nI t) bd' we wy nx su la fa ch ro pr pc := by
    intro j
    induction j with
    | zero =>
      intro t bd' ht h1
      have e : t = N := by omega
      subst e
      rw [wX_complement_2]
      have hB' : rb_bd t (rb_Bc t B) bd' := by
        intro r hr
        rw [h1 r hr]
        unfold rb_Bc
        by_cases e : r < t
        · rw [if_pos e, if_pos e]; exact ⟨rfl, rb_cm_b _⟩
        · rw [if_neg e, if_neg e, hz r (by omega) hr]; exact ⟨rfl, hpos⟩
      exact br_t (nI_le (Nat.le_refl _) (by omega)) (rb_xcells hN hB' (h bd' hB'))
    | succ j ih =>
      intro t bd' ht h1
      rw [wX_complement_2]
      have e1 : nI (2 ^ N) - 1 = nI (2 ^ N - 1) := pk_sub (b := 1) hpos
      refine br_f (nI_ge (by omega) (by omega)) ⟨vp_in_nI (by omega) (by omega), vp_in_nI (by omega) (by omega), ?_⟩
      rw [nI_clamp (by omega), h1 t (by omega), if_neg (Nat.lt_irrefl t), rb_sh1 hN, e1, rb_andn _ (by omega) _ (rb_bd64 hN hB (by omega)), rb_nb8 (by have := rb_cm_b (N := N) (B t); unfold rb_cm at this; omega)]
      refine nm_e (nm_r (nI_1 t) (ih (t + 1) _ (by omega) ?_))
      intro r hr
      by_cases e : r = t
      · rw [e, pk_us, if_pos (by omega)]; rfl
      · rw [pk_un e, h1 r hr]
        by_cases e2 : r < t
        · rw [if_pos e2, if_pos (by omega)]
        · rw [if_neg e2, if_neg (by omega)]
  unfold wpX_complement
  exact ⟨N + 1, key N 0 bd (by omega) (fun r hr => by rw [if_neg (Nat.not_lt_zero r)]; exact (hB r hr).1)⟩
theorem rb_ynoc1 {post : Int32 → Prop} {t : Nat} (hN : N ≤ 6) (ht : t < 36) (hn : ¬ (t / 6 < N ∧ t % 6 < N)) (h : post 1) : wpY_noCell post ((nI N), yr, yp, yt, ya, on, we, co) (nI t) := by
  have ed : nI t / 6 = nI (t / 6) := pk_div (d := 6) (by omega) (by omega) (by omega)
  have em : nI t - nI t / 6 * 6 = nI (t % 6) := pk_rem (d := 6) (by omega) (by omega) (by omega)
  unfold wpY_noCell
  refine br_f (nI_pos (by omega)) (br_f (nI_nlt (a := 35) (by omega) (by omega)) ⟨by decide, ?_⟩)
  rw [em, ed]
  by_cases h1 : t / 6 < N
  · exact br_f (nI_ge h1 (by omega)) ⟨by decide, br_f (nI_nlt (by omega) (by omega)) h⟩
  · exact br_t (nI_le (by omega) (by omega)) h
theorem rb_ynoc2 {post : Int32 → Prop} {t : Nat} (hN : N ≤ 6) (h1 : t / 6 < N) (h2 : t % 6 < N) (h : post 0) : wpY_noCell post ((nI N), yr, yp, yt, ya, on, we, co) (nI t) := by
  rw [show t = 6 * (t / 6) + t % 6 by omega]
  exact rb_ynoc0 hN h1 h2 h
theorem rb_ycompl {post : Int32 → SY → Prop} (hN : N ≤ 6) (ho : rb_on B on)
    (h : ∀ on, rb_on (rb_Bc N B) on → post (nI (rb_sn (fun x => if on x = 0 then 0 else 1) 36)) ((nI N), yr, yp, yt, ya, on, we, co)) : wpY_complement post ((nI N), yr, yp, yt, ya, on, we, co) := by
  have key : ∀ j t on', t + j = 36 → (∀ r c, r < 6 → c < 6 → on' (6 * r + c) = if 6 * r + c < t then (if (rb_Bc N B r).testBit c then 1 else 0) else (if (B r).testBit c then 1 else 0)) → wY_complement_2 post (nI N) yr yp yt ya (j + 1) (nI t) on' we co := by
    intro j
    induction j with
    | zero =>
      intro t on' ht h1
      have e : t = 36 := by omega
      subst e
      rw [wY_complement_2]
      refine br_t (nI_le (a := 36) (b := 36) (by omega) (by omega)) (rb_ycells (h on' ?_))
      intro r c hr hc
      rw [h1 r c hr hc, if_pos (by omega)]
    | succ j ih =>
      intro t on' ht h1
      rw [wY_complement_2]
      refine br_f (nI_ge (b := 36) (by omega) (by omega)) ?_
      have hv := h1 (t / 6) (t % 6) (by omega) (by omega)
      rw [show 6 * (t / 6) + t % 6 = t by omega, if_neg (Nat.lt_irrefl t)] at hv
      have hs : ∀ x : Int32, x = (if (rb_Bc N B (t / 6)).testBit (t % 6) then 1 else 0) → wY_complement_2 post (nI N) yr yp yt ya (j + 1) (nI (t + 1)) (upd on' t x) we co := by
        intro x hx
        refine ih (t + 1) _ (by omega) ?_
        intro r c hr hc
        by_cases e : 6 * r + c = t
        · rw [e, pk_us, if_pos (by omega), hx, show t / 6 = r by omega, show t % 6 = c by omega]
        · rw [pk_un e, h1 r c hr hc]
          by_cases e2 : 6 * r + c < t
          · rw [if_pos e2, if_pos (show 6 * r + c < t + 1 by omega)]
          · rw [if_neg e2, if_neg (show ¬ 6 * r + c < t + 1 by omega)]
      by_cases hc : t / 6 < N ∧ t % 6 < N
      · apply rb_ynoc2 hN hc.1 hc.2
        refine br_t rfl ⟨vp_in_nI (by omega) (by omega), ?_⟩
        rw [nI_clamp (by omega), hv, rb_vb0, rb_vb1]
        have hb : (rb_Bc N B (t / 6)).testBit (t % 6) = !(B (t / 6)).testBit (t % 6) := by
          unfold rb_Bc
          rw [if_pos hc.1, rb_cm_t (by omega), decide_eq_true hc.2, Bool.true_and]
        cases e : (B (t / 6)).testBit (t % 6) with
        | false => exact br_t rfl ⟨vp_in_nI (by omega) (by omega), nm_e (nm_r (nI_1 t) (hs 1 (by rw [hb, e]; rfl)))⟩
        | true => exact br_f (by decide) ⟨vp_in_nI (by omega) (by omega), nm_e (nm_r (nI_1 t) (hs 0 (by rw [hb, e]; rfl)))⟩
      · refine rb_ynoc1 hN (by omega) hc (br_f (by decide) ⟨vp_in_nI (by omega) (by omega), ?_⟩)
        rw [nI_clamp (by omega), rb_vb0]
        refine nm_e (nm_r (nI_1 t) (hs 0 ?_))
        have hb : (rb_Bc N B (t / 6)).testBit (t % 6) = false := by
          unfold rb_Bc
          by_cases h2 : t / 6 < N
          · rw [if_pos h2, rb_cm_t (by omega), decide_eq_false (fun z => hc ⟨h2, z⟩), Bool.false_and]
          · rw [if_neg h2, Nat.zero_testBit]
        rw [hb]; rfl
  unfold wpY_complement
  exact ⟨37, key 36 0 on rfl (fun r c hr hc => by rw [if_neg (Nat.not_lt_zero _)]; exact ho r c hr hc)⟩
end
theorem i_vc_cells {k : Nat} {u : SX} {v : SY} (I : i_Rel k u v) (hk : k + 4 ≤ 2049) : wpX_cells (fun r => wpY_cells (fun r' => r' = r ∧ i_Rel (k + 4) u v) v) u := by
  refine rb_el (P := fun u v => wpX_cells (fun r => wpY_cells (fun r' => r' = r ∧ i_Rel (k + 4) u v) v) u) I ?_
  intro N B ft bd we wy nx su la fa ch ro pr pc yr yp yt ya on co hR
  obtain ⟨hN0, hN, hB, hz, ho, ht⟩ := hR
  have hR : rb_R N B bd on fa ch := ⟨hN0, hN, hB, hz, ho, ht⟩
  exact rb_xcells hN hB (rb_ycells ⟨by rw [rb_cells_eq hN hz ho], rb_in hR⟩)
theorem i_vc_set {k : Nat} {u : SX} {v : SY} (I : i_Rel k u v) (hk : k + 4 ≤ 2049) (v1 : Int32) (v2 : Int32) : wpX_set (fun r u' => wpY_set (fun r' v' => r' = r ∧ i_Rel (k + 4) u' v') v v1 v2) u v1 v2 := by
  refine rb_el (P := fun u v => wpX_set (fun r u' => wpY_set (fun r' v' => r' = r ∧ i_Rel (k + 4) u' v') v v1 v2) u v1 v2) I ?_
  intro N B ft bd we wy nx su la fa ch ro pr pc yr yp yt ya on co hR
  obtain ⟨hN0, hN, hB, hz, ho, ht⟩ := hR
  have hR : rb_R N B bd on fa ch := ⟨hN0, hN, hB, hz, ho, ht⟩
  rcases rb_cell (N := N) (ft := ft) (bd := bd) (we := we) (wy := wy) (nx := nx) (su := su) (la := la) (fa := fa) (ch := ch) (ro := ro) (pr := pr) (pc := pc) hN (yr := yr) (yp := yp) (yt := yt) (ya := ya) (on := on) (co := co) v1 with ⟨r, c, hr, hc, rfl⟩ | ⟨h1, h2⟩
  · refine rb_xset hN hr hc hB (rb_yset hN hr hc ho ⟨rfl, rb_in (rb_R_set hR hr ?_ (rb_on_set (by omega) (by omega) ho ?_ ?_))⟩)
    · split
      · exact Nat.lt_of_le_of_lt Nat.and_le_left (hB r (by omega)).2
      · exact rb_orN (hB r (by omega)).2 hc
    · intro d hd hne
      split
      · rw [rb_tbn _ _ hd, rb_tbp, decide_eq_false (fun z => hne z.symm)]; simp
      · rw [rb_tbor, decide_eq_false (fun z => hne z.symm)]; simp
    · by_cases z : v2 = 0
      · rw [if_pos z, if_pos z, rb_tbn _ _ (by omega), rb_tbp, decide_eq_true rfl]; simp
      · rw [if_neg z, if_neg z, rb_tbor, decide_eq_true rfl]; simp
  · unfold wpX_set
    refine h1 _ (br_f (by decide) ?_)
    unfold wpY_set
    exact h2 _ (br_f (by decide) ⟨rfl, rb_in hR⟩)
theorem i_vc_weight {k : Nat} {u : SX} {v : SY} (I : i_Rel k u v) (hk : k + 4 ≤ 2049) (v1 : Int32) (v2 : Int32) : wpX_weight (fun r u' => wpY_weight (fun r' v' => r' = r ∧ i_Rel (k + 4) u' v') v v1 v2) u v1 v2 := by
  refine rb_el (P := fun u v => wpX_weight (fun r u' => wpY_weight (fun r' v' => r' = r ∧ i_Rel (k + 4) u' v') v v1 v2) u v1 v2) I ?_
  intro N B ft bd we wy nx su la fa ch ro pr pc yr yp yt ya on co hR
  obtain ⟨hN0, hN, hB, hz, ho, ht⟩ := hR
  have hR : rb_R N B bd on fa ch := ⟨hN0, hN, hB, hz, ho, ht⟩
  rcases rb_cell (N := N) (ft := ft) (bd := bd) (we := we) (wy := wy) (nx := nx) (su := su) (la := la) (fa := fa) (ch := ch) (ro := ro) (pr := pr) (pc := pc) hN (yr := yr) (yp := yp) (yt := yt) (ya := ya) (on := on) (co := co) v1 with ⟨r, c, hr, hc, rfl⟩ | ⟨h1, h2⟩
  · unfold wpX_weight
    refine rb_xbadc0 hN hr hc (br_t rfl ⟨vp_in_nI (by omega) (by omega), nm_e ?_⟩)
    unfold wpY_weight
    exact rb_ynoc0 hN hr hc (br_t rfl ⟨vp_in_nI (by omega) (by omega), nm_e ⟨rfl, rb_in hR⟩⟩)
  · unfold wpX_weight
    refine h1 _ (br_f (by decide) ?_)
    unfold wpY_weight
    exact h2 _ (br_f (by decide) ⟨rfl, rb_in hR⟩)
theorem i_vc_complement {k : Nat} {u : SX} {v : SY} (I : i_Rel k u v) (hk : k + 4 ≤ 2049) : wpX_complement (fun r u' => wpY_complement (fun r' v' => r' = r ∧ i_Rel (k + 4) u' v') v) u := by
  refine rb_el (P := fun u v => wpX_complement (fun r u' => wpY_complement (fun r' v' => r' = r ∧ i_Rel (k + 4) u' v') v) u) I ?_
  intro N B ft bd we wy nx su la fa ch ro pr pc yr yp yt ya on co hR
  obtain ⟨hN0, hN, hB, hz, ho, ht⟩ := hR
  refine rb_xcompl hN hB hz (fun bd hB' => rb_ycompl hN ho (fun on ho' => ?_))
  have hz' : ∀ r, N ≤ r → r < 6 → rb_Bc N B r = 0 := fun r h1 h2 => if_neg (by omega)
  exact ⟨by rw [rb_cells_eq hN hz' ho'], rb_in ⟨hN0, hN, hB', hz', ho', ht⟩⟩
end
section
/-! exchange, turn -/
def rb_s2 (f : Nat → Int32) (x y : Nat) : Nat → Int32 := upd (upd f x (f y)) y (f x)
theorem rb_s2_x {f : Nat → Int32} {x y : Nat} : rb_s2 f x y x = f y := by
  unfold rb_s2
  by_cases e : x = y
  · rw [e, pk_us]
  · rw [pk_un e, pk_us]
theorem rb_s2_y {f : Nat → Int32} {x y : Nat} : rb_s2 f x y y = f x := pk_us
theorem rb_s2_n {f : Nat → Int32} {x y z : Nat} (h1 : ¬ z = x) (h2 : ¬ z = y) : rb_s2 f x y z = f z := by
  unfold rb_s2
  rw [pk_un h2, pk_un h1]
/-- columns below t of the rows i and j exchanged -/
def rb_sw (f : Nat → Int32) (i j : Nat) : Nat → Nat → Int32
  | 0 => f
  | t + 1 => rb_s2 (rb_sw f i j t) (6 * i + t) (6 * j + t)
def rb_sr (i j r : Nat) : Nat := if r = i then j else if r = j then i else r
theorem rb_sw_at {f : Nat → Int32} {i j : Nat} (hi : i < 6) (hj : j < 6) : ∀ t, t ≤ 6 → ∀ r c, r < 6 → c < 6 → rb_sw f i j t (6 * r + c) = if c < t then f (6 * rb_sr i j r + c) else f (6 * r + c) := by
  intro t
  induction t with
  | zero => intro _ r c _ _; rw [if_neg (Nat.not_lt_zero c)]; rfl
  | succ t ih =>
    intro ht r c hr hc
    rw [rb_sw]
    by_cases e : c = t
    · subst e
      rw [if_pos (Nat.lt_succ_self c)]
      by_cases h1 : r = i
      · subst h1
        rw [rb_s2_x, ih (by omega) j c hj hc, if_neg (Nat.lt_irrefl c)]
        unfold rb_sr
        rw [if_pos rfl]
      · by_cases h2 : r = j
        · subst h2
          rw [rb_s2_y, ih (by omega) i c hi hc, if_neg (Nat.lt_irrefl c)]
          unfold rb_sr
          rw [if_neg h1, if_pos rfl]
        · rw [rb_s2_n (by omega) (by omega), ih (by omega) r c hr hc, if_neg (Nat.lt_irrefl c)]
          unfold rb_sr
          rw [if_neg h1, if_neg h2]
    · rw [rb_s2_n (by omega) (by omega), ih (by omega) r c hr hc]
      by_cases h1 : c < t
      · rw [if_pos h1, if_pos (show c < t + 1 by omega)]
      · rw [if_neg h1, if_neg (show ¬ c < t + 1 by omega)]
theorem rb_vb {z : Int32} (h : z = 0 ∨ z = 1) : vp_nar .boolean z = z := by
  rcases h with rfl | rfl
  · exact rb_vb0
  · exact rb_vb1
theorem rb_on01 {B : Nat → Nat} {on : Nat → Int32} (h : rb_on B on) {x : Nat} (hx : x < 36) : on x = 0 ∨ on x = 1 := by
  have := h (x / 6) (x % 6) (by omega) (by omega)
  rw [show 6 * (x / 6) + x % 6 = x by omega] at this
  rw [this]
  cases (B (x / 6)).testBit (x % 6)
  · exact Or.inl rfl
  · exact Or.inr rfl
theorem rb_rowarg (N : Nat) (hN : N ≤ 6) (x : Int32) : (x < 0 ∨ (¬ x < 0 ∧ ¬ x < nI N ∧ nI N ≤ x)) ∨ ∃ j, j < N ∧ x = nI j := by
  by_cases h : x < 0
  · exact Or.inl (Or.inl h)
  · obtain ⟨j, hj, rfl⟩ := nI_of h
    by_cases h2 : j < N
    · exact Or.inr ⟨j, h2, rfl⟩
    · exact Or.inl (Or.inr ⟨h, nI_nlt (by omega) hj, nI_le (by omega) hj⟩)
section
variable {N k : Nat} {B : Nat → Nat} {ft : Int32} {bd we wy nx su la fa ch ro pr pc : Nat → Int32} {yr yp yt ya : Int32} {on co : Nat → Int32}
theorem rb_xexch {post : Int32 → SX → Prop} {i j : Nat} (hN : N ≤ 6) (hi : i < N) (hj : j < N) (hB : rb_bd N B bd)
    (h : ∀ bd, rb_bd N (fun r => B (rb_sr i j r)) bd → post 0 ((nI N), ft, bd, rb_sw we i j N, wy, nx, su, la, fa, ch, ro, pr, pc)) : wpX_exchange post ((nI N), ft, bd, we, wy, nx, su, la, fa, ch, ro, pr, pc) (nI i) (nI j) := by
  have hb1 := rb_bd64 hN hB (show i < 6 by omega)
  have hb2 := rb_bd64 hN hB (show j < 6 by omega)
  have hB' : rb_bd N (fun r => B (rb_sr i j r)) (upd (upd bd i (nI (B j))) j (nI (B i))) := by
    intro r hr
    show _ = nI (B (if r = i then j else if r = j then i else r)) ∧ B (if r = i then j else if r = j then i else r) < 2 ^ N
    by_cases e : r = j
    · rw [e, pk_us]
      by_cases e2 : j = i
      · rw [if_pos e2, e2]; exact ⟨rfl, (hB i (by omega)).2⟩
      · rw [if_neg e2, if_pos rfl]; exact ⟨rfl, (hB i (by omega)).2⟩
    · rw [pk_un e]
      by_cases e2 : r = i
      · rw [e2, pk_us, if_pos rfl]; exact ⟨rfl, (hB j (by omega)).2⟩
      · rw [pk_un e2, if_neg e2, if_neg e]; exact hB r hr
  have key : ∀ d t, t + d = N → wX_exchange_55 post (nI i) (nI j) (nI N) ft (d + 1) (nI t) (upd (upd bd i (nI (B j))) j (nI (B i))) (rb_sw we i j t) wy nx su la fa ch ro pr pc := by
    intro d
    induction d with
    | zero =>
      intro t ht
      have e : t = N := by omega
      subst e
      rw [wX_exchange_55]
      exact br_t (nI_le (Nat.le_refl _) (by omega)) (h _ hB')
    | succ d ih =>
      intro t ht
      rw [wX_exchange_55]
      refine br_f (nI_ge (by omega) (by omega)) ?_
      rw [rb_ix6, rb_ix6, nI_clamp (n := 6 * i + t) (by omega), nI_clamp (n := 6 * j + t) (by omega)]
      exact ⟨vp_in_nI (by omega) (by omega), nm_e ⟨vp_in_nI (by omega) (by omega), vp_in_nI (by omega) (by omega), nm_e ⟨vp_in_nI (by omega) (by omega), nm_e (nm_r (nI_1 t) (ih (t + 1) (by omega)))⟩⟩⟩
  unfold wpX_exchange
  refine br_f (nI_pos (by omega)) (br_f (nI_ge hi (by omega)) (br_f (nI_pos (by omega)) (br_t (nI_lt hj (by omega)) ?_)))
  rw [nI_clamp (n := i) (by omega), nI_clamp (n := j) (by omega), (hB i (by omega)).1, (hB j (by omega)).1, rb_nb (by omega)]
  refine ⟨vp_in_nI (by omega) (by omega), nm_e ⟨vp_in_nI (by omega) (by omega), vp_in_nI (by omega) (by omega), nm_e ⟨vp_in_nI (by omega) (by omega), ?_⟩⟩⟩
  rw [rb_nb (by omega)]
  exact nm_e ⟨N + 1, key N 0 (by omega)⟩
theorem rb_yswap {post : SY → Prop} {x y : Nat} (hx : x < 36) (hy : y < 36) (h1 : on x = 0 ∨ on x = 1) (h2 : on y = 0 ∨ on y = 1)
    (h : post ((nI N), yr, yp, yt, ya, rb_s2 on x y, rb_s2 we x y, co)) : wpY_swap post ((nI N), yr, yp, yt, ya, on, we, co) (nI x) (nI y) := by
  unfold wpY_swap
  dsimp only
  rw [nI_clamp (n := x) (by omega), nI_clamp (n := y) (by omega), rb_vb h2]
  refine ⟨vp_in_nI hx (by omega), nm_e ⟨vp_in_nI hy (by omega), vp_in_nI hx (by omega), nm_e ⟨vp_in_nI hy (by omega), ?_⟩⟩⟩
  rw [rb_vb h1]
  exact nm_e ⟨vp_in_nI hx (by omega), nm_e ⟨vp_in_nI hy (by omega), vp_in_nI hx (by omega), nm_e ⟨vp_in_nI hy (by omega), nm_e h⟩⟩⟩
theorem rb_yexch {post : Int32 → SY → Prop} {i j : Nat} (hN : N ≤ 6) (hi : i < N) (hj : j < N) (ho : rb_on B on)
    (h : post 0 ((nI N), yr, yp, yt, ya, rb_sw on i j N, rb_sw we i j N, co)) : wpY_exchange post ((nI N), yr, yp, yt, ya, on, we, co) (nI i) (nI j) := by
  have h01 : ∀ t, t ≤ 6 → ∀ x, x < 36 → rb_sw on i j t x = 0 ∨ rb_sw on i j t x = 1 := by
    intro t ht x hx
    have := rb_sw_at (f := on) (i := i) (j := j) (by omega) (by omega) t ht (x / 6) (x % 6) (by omega) (by omega)
    rw [show 6 * (x / 6) + x % 6 = x by omega] at this
    rw [this]
    have hs : rb_sr i j (x / 6) < 6 := by
      unfold rb_sr
      split
      · omega
      · split <;> omega
    split
    · exact rb_on01 ho (by omega)
    · exact rb_on01 ho hx
  have key : ∀ d t, t + d = N → wY_exchange_20 post (nI i) (nI j) (d + 1) (nI t) (nI N) yr yp yt ya (rb_sw on i j t) (rb_sw we i j t) co := by
    intro d
    induction d with
    | zero =>
      intro t ht
      have e : t = N := by omega
      subst e
      rw [wY_exchange_20]
      exact br_t (nI_le (Nat.le_refl _) (by omega)) h
    | succ d ih =>
      intro t ht
      rw [wY_exchange_20]
      refine br_f (nI_ge (by omega) (by omega)) ?_
      rw [rb_ix6, rb_ix6]
      exact rb_yswap (by omega) (by omega) (h01 t (by omega) _ (by omega)) (h01 t (by omega) _ (by omega)) (nm_r (nI_1 t) (ih (t + 1) (by omega)))
  unfold wpY_exchange
  have hrow : ∀ (post : Int32 → Prop) (x : Nat), x < N → post 0 → wpY_noRow post ((nI N), yr, yp, yt, ya, on, we, co) (nI x) := by
    intro post x hx hp
    unfold wpY_noRow
    exact br_f (nI_pos (by omega)) (br_t (nI_lt hx (by omega)) hp)
  exact hrow _ i hi (br_t rfl (hrow _ j hj (br_t rfl ⟨N + 1, key N 0 (by omega)⟩)))
theorem rb_ynorow1 {post : Int32 → Prop} {x : Int32} (hx : x < 0 ∨ (¬ x < 0 ∧ ¬ x < nI N ∧ nI N ≤ x)) (h : post 1) : wpY_noRow post ((nI N), yr, yp, yt, ya, on, we, co) x := by
  unfold wpY_noRow
  rcases hx with hx | ⟨h1, h2, _⟩
  · exact br_t hx h
  · exact br_f h1 (br_f h2 h)
theorem rb_ynorow0 {post : Int32 → Prop} {x : Nat} (hN : N ≤ 6) (hx : x < N) (h : post 0) : wpY_noRow post ((nI N), yr, yp, yt, ya, on, we, co) (nI x) := by
  unfold wpY_noRow
  exact br_f (nI_pos (by omega)) (br_t (nI_lt hx (by omega)) h)
end
theorem i_vc_exchange {k : Nat} {u : SX} {v : SY} (I : i_Rel k u v) (hk : k + 4 ≤ 2049) (v1 : Int32) (v2 : Int32) : wpX_exchange (fun r u' => wpY_exchange (fun r' v' => r' = r ∧ i_Rel (k + 4) u' v') v v1 v2) u v1 v2 := by
  refine rb_el (P := fun u v => wpX_exchange (fun r u' => wpY_exchange (fun r' v' => r' = r ∧ i_Rel (k + 4) u' v') v v1 v2) u v1 v2) I ?_
  intro N B ft bd we wy nx su la fa ch ro pr pc yr yp yt ya on co hR
  obtain ⟨hN0, hN, hB, hz, ho, ht⟩ := hR
  have hR : rb_R N B bd on fa ch := ⟨hN0, hN, hB, hz, ho, ht⟩
  rcases rb_rowarg N hN v1 with hx | ⟨i, hi, rfl⟩
  · have hy : wpY_exchange (fun r' v' => r' = -1 ∧ i_Rel (k + 4) ((nI N), ft, bd, we, wy, nx, su, la, fa, ch, ro, pr, pc) v') ((nI N), yr, yp, yt, ya, on, we, co) v1 v2 := by
      unfold wpY_exchange
      exact rb_ynorow1 hx (br_f (by decide) ⟨rfl, rb_in hR⟩)
    unfold wpX_exchange
    rcases hx with hx | ⟨h1, h2, h3⟩
    · exact br_t hx hy
    · exact br_f h1 (br_t h3 hy)
  · rcases rb_rowarg N hN v2 with hx | ⟨j, hj, rfl⟩
    · have hy : wpY_exchange (fun r' v' => r' = -1 ∧ i_Rel (k + 4) ((nI N), ft, bd, we, wy, nx, su, la, fa, ch, ro, pr, pc) v') ((nI N), yr, yp, yt, ya, on, we, co) (nI i) v2 := by
        unfold wpY_exchange
        exact rb_ynorow0 hN hi (br_t rfl (rb_ynorow1 hx (br_f (by decide) ⟨rfl, rb_in hR⟩)))
      unfold wpX_exchange
      refine br_f (nI_pos (by omega)) (br_f (nI_ge hi (by omega)) ?_)
      rcases hx with hx | ⟨h1, h2, h3⟩
      · exact br_t hx hy
      · exact br_f h1 (br_f h2 hy)
    · refine rb_xexch hN hi hj hB (fun bd hB' => rb_yexch hN hi hj ho ⟨rfl, rb_in ⟨hN0, hN, hB', ?_, ?_, ht⟩⟩)
      · intro r h1 h2
        unfold rb_sr
        rw [if_neg (by omega), if_neg (by omega)]
        exact hz r h1 h2
      · intro r c hr hc
        have hs : rb_sr i j r < 6 := by
          unfold rb_sr
          split
          · omega
          · split <;> omega
        rw [rb_sw_at (by omega) (by omega) N hN r c hr hc]
        by_cases h1 : c < N
        · rw [if_pos h1]
          exact ho _ c hs hc
        · rw [if_neg h1, ho r c hr hc, rb_hi (hB r hr).2 (by omega), rb_hi (hB _ hs).2 (by omega)]
end
section
/-! turn -/
def rb_tr (f : Nat → Int32) (S : Nat → Nat → Prop) (g : Nat → Int32) : Prop :=
  (∀ a b, a < b → b < 6 → S a b → g (6 * a + b) = f (6 * b + a) ∧ g (6 * b + a) = f (6 * a + b)) ∧
  (∀ a b, a < b → b < 6 → ¬ S a b → g (6 * a + b) = f (6 * a + b) ∧ g (6 * b + a) = f (6 * b + a)) ∧
  (∀ a, a < 6 → g (7 * a) = f (7 * a)) ∧ (∀ x, 36 ≤ x → g x = f x)
theorem rb_tr_congr {f g : Nat → Int32} {S S' : Nat → Nat → Prop} (h : rb_tr f S g) (e : ∀ a b, a < b → b < 6 → (S a b ↔ S' a b)) : rb_tr f S' g :=
  ⟨fun a b h1 h2 h3 => h.1 a b h1 h2 ((e a b h1 h2).mpr h3), fun a b h1 h2 h3 => h.2.1 a b h1 h2 (fun z => h3 ((e a b h1 h2).mp z)), h.2.2.1, h.2.2.2⟩
theorem rb_tr_0 {f : Nat → Int32} {S : Nat → Nat → Prop} (h : ∀ a b, a < b → b < 6 → ¬ S a b) : rb_tr f S f :=
  ⟨fun a b h1 h2 h3 => absurd h3 (h a b h1 h2), fun _ _ _ _ _ => ⟨rfl, rfl⟩, fun _ _ => rfl, fun _ _ => rfl⟩
theorem rb_tr_s {f g : Nat → Int32} {S : Nat → Nat → Prop} {p q : Nat} (h : rb_tr f S g) (h1 : p < q) (h2 : q < 6) (h3 : ¬ S p q) : rb_tr f (fun a b => S a b ∨ (a = p ∧ b = q)) (rb_s2 g (6 * p + q) (6 * q + p)) := by
  obtain ⟨k1, k2, k3, k4⟩ := h
  refine ⟨?_, ?_, ?_, ?_⟩
  · intro a b hab hb hS
    by_cases e : a = p ∧ b = q
    · rw [e.1, e.2, rb_s2_x, rb_s2_y]
      exact ⟨(k2 p q h1 h2 h3).2, (k2 p q h1 h2 h3).1⟩
    · rcases hS with hS | hS
      · rw [rb_s2_n (by omega) (by omega), rb_s2_n (by omega) (by omega)]
        exact k1 a b hab hb hS
      · exact absurd hS e
  · intro a b hab hb hS
    have e : ¬ (a = p ∧ b = q) := fun z => hS (Or.inr z)
    rw [rb_s2_n (by omega) (by omega), rb_s2_n (by omega) (by omega)]
    exact k2 a b hab hb (fun z => hS (Or.inl z))
  · intro a ha
    rw [rb_s2_n (by omega) (by omega)]
    exact k3 a ha
  · intro x hx
    rw [rb_s2_n (by omega) (by omega)]
    exact k4 x hx
theorem rb_s2_comm (f : Nat → Int32) (x y : Nat) : rb_s2 f x y = rb_s2 f y x := by
  funext z
  by_cases h1 : z = x
  · rw [h1, rb_s2_x, rb_s2_y]
  · by_cases h2 : z = y
    · rw [h2, rb_s2_x, rb_s2_y]
    · rw [rb_s2_n h1 h2, rb_s2_n h2 h1]
theorem rb_tr_u {f g g' : Nat → Int32} {S : Nat → Nat → Prop} (h : rb_tr f S g) (h' : rb_tr f S g') : g = g' := by
  funext x
  by_cases hx : 36 ≤ x
  · rw [h.2.2.2 x hx, h'.2.2.2 x hx]
  · rcases Nat.lt_trichotomy (x / 6) (x % 6) with z | z | z
    · by_cases hS : S (x / 6) (x % 6)
      · have a := (h.1 _ _ z (by omega) hS).1
        have b := (h'.1 _ _ z (by omega) hS).1
        rw [show 6 * (x / 6) + x % 6 = x by omega] at a b
        rw [a, b]
      · have a := (h.2.1 _ _ z (by omega) hS).1
        have b := (h'.2.1 _ _ z (by omega) hS).1
        rw [show 6 * (x / 6) + x % 6 = x by omega] at a b
        rw [a, b]
    · have a := h.2.2.1 (x / 6) (by omega)
      have b := h'.2.2.1 (x / 6) (by omega)
      rw [show 7 * (x / 6) = x by omega] at a b
      rw [a, b]
    · by_cases hS : S (x % 6) (x / 6)
      · have a := (h.1 _ _ z (by omega) hS).2
        have b := (h'.1 _ _ z (by omega) hS).2
        rw [show 6 * (x / 6) + x % 6 = x by omega] at a b
        rw [a, b]
      · have a := (h.2.1 _ _ z (by omega) hS).2
        have b := (h'.2.1 _ _ z (by omega) hS).2
        rw [show 6 * (x / 6) + x % 6 = x by omega] at a b
        rw [a, b]
theorem rb_tr_01 {f g : Nat → Int32} {S : Nat → Nat → Prop} (h : rb_tr f S g) (h0 : ∀ x, x < 36 → f x = 0 ∨ f x = 1) : ∀ x, x < 36 → g x = 0 ∨ g x = 1 := by
  intro x hx
  rcases Nat.lt_trichotomy (x / 6) (x % 6) with z | z | z
  · by_cases hS : S (x / 6) (x % 6)
    · have a := (h.1 _ _ z (by omega) hS).1
      rw [show 6 * (x / 6) + x % 6 = x by omega] at a
      rw [a]; exact h0 _ (by omega)
    · have a := (h.2.1 _ _ z (by omega) hS).1
      rw [show 6 * (x / 6) + x % 6 = x by omega] at a
      rw [a]; exact h0 _ (by omega)
  · have a := h.2.2.1 (x / 6) (by omega)
    rw [show 7 * (x / 6) = x by omega] at a
    rw [a]; exact h0 _ (by omega)
  · by_cases hS : S (x % 6) (x / 6)
    · have a := (h.1 _ _ z (by omega) hS).2
      rw [show 6 * (x / 6) + x % 6 = x by omega] at a
      rw [a]; exact h0 _ (by omega)
    · have a := (h.2.1 _ _ z (by omega) hS).2
      rw [show 6 * (x / 6) + x % 6 = x by omega] at a
      rw [a]; exact h0 _ (by omega)
def rb_st (a c : Nat) (b : Bool) : Nat := if b then a ||| 2 ^ c else a &&& (63 ^^^ 2 ^ c)
theorem rb_st_t {a c d : Nat} {b : Bool} (hd : d < 6) : (rb_st a c b).testBit d = if d = c then b else a.testBit d := by
  unfold rb_st
  cases b with
  | false =>
    rw [if_neg (by decide), rb_tbn _ _ hd, rb_tbp]
    by_cases e : d = c
    · rw [if_pos e, decide_eq_true e.symm]; simp
    · rw [if_neg e, decide_eq_false (fun z => e z.symm)]; simp
  | true =>
    rw [if_pos rfl, rb_tbor]
    by_cases e : d = c
    · rw [if_pos e, decide_eq_true e.symm]; simp
    · rw [if_neg e, decide_eq_false (fun z => e z.symm)]; simp
theorem rb_st_b {a c N : Nat} {b : Bool} (ha : a < 2 ^ N) (hc : c < N) : rb_st a c b < 2 ^ N := by
  unfold rb_st
  cases b with
  | false => exact Nat.lt_of_le_of_lt Nat.and_le_left ha
  | true => exact rb_orN ha hc
section
variable {N k : Nat} {B : Nat → Nat} {ft : Int32} {bd we wy nx su la fa ch ro pr pc : Nat → Int32} {yr yp yt ya : Int32} {on co : Nat → Int32}
theorem rb_xturn88 {post : Int32 → SX → Prop} {J : Int32 → (Nat → Int32) → (Nat → Int32) → (Nat → Int32) → (Nat → Int32) → (Nat → Int32) → (Nat → Int32) → (Nat → Int32) → (Nat → Int32) → (Nat → Int32) → (Nat → Int32) → (Nat → Int32) → Prop} {r c t : Nat} {z0 : Int32} (hN : N ≤ 6) (hr : r < c) (hc : c < N) (hB : rb_bd N B bd)
    (hz : z0 = if (B r).testBit c then 1 else 0)
    (h : J (nI (t + 1)) (upd (upd bd r (nI (rb_st (B r) c ((B c).testBit r)))) c (nI (rb_st (B c) r ((B r).testBit c)))) we wy nx su la fa ch ro pr pc) :
    wX_turn_88 post J (nI t) (nI r) (nI c) z0 (nI N) ft bd we wy nx su la fa ch ro pr pc := by
  have hb1 := rb_bd64 hN hB (show r < 6 by omega)
  have hb2 := rb_bd64 hN hB (show c < 6 by omega)
  have hp1 := rb_p64 (show r < 6 by omega)
  have hp2 := rb_p64 (show c < 6 by omega)
  have h146 : ∀ y : Nat, y < 128 → J (nI (t + 1)) (upd (upd bd r (nI y)) c (nI (rb_st (B c) r ((B r).testBit c)))) we wy nx su la fa ch ro pr pc → wX_turn_146 post J (nI t) (nI r) (nI c) z0 (nI y) (nI r) (nI N) ft bd we wy nx su la fa ch ro pr pc := by
    intro y hy hJ
    unfold wX_turn_146
    rw [nI_clamp (n := r) (by omega), rb_nb8 hy]
    refine ⟨vp_in_nI (by omega) (by omega), nm_e ?_⟩
    rw [nI_clamp (n := c) (by omega), pk_un (show ¬ c = r by omega), (hB c (by omega)).1, rb_shl r (by omega)]
    unfold rb_st at hJ
    cases e : (B r).testBit c with
    | false =>
      rw [e] at hz hJ
      refine br_t hz ⟨vp_in_nI (by omega) (by omega), vp_in_nI (by omega) (by omega), ?_⟩
      rw [rb_andn _ hb2 _ hp1, rb_nb8 (Nat.lt_trans (rb_and64 hb2 _) (by omega))]
      exact nm_e (nm_r (nI_1 t) hJ)
    | true =>
      rw [e] at hz hJ
      refine br_f (by rw [hz]; decide) ⟨vp_in_nI (by omega) (by omega), vp_in_nI (by omega) (by omega), ?_⟩
      rw [rb_or, rb_nb8 (Nat.lt_trans (rb_or64 hb2 hp1) (by omega))]
      exact nm_e (nm_r (nI_1 t) hJ)
  unfold wX_turn_88
  rw [nI_clamp (n := c) (by omega), (hB c (by omega)).1, rb_bit1 (by omega) (by omega)]
  refine ⟨vp_in_nI (by omega) (by omega), br_c (fun z => ?_) (fun z => ?_)⟩
  · unfold wX_turn_109
    refine br_f (by decide) ⟨vp_in_nI (by omega) (by omega), ?_⟩
    rw [nI_clamp (n := r) (by omega), (hB r (by omega)).1, rb_shl c (by omega), rb_or]
    refine h146 _ (Nat.lt_trans (rb_or64 hb1 hp2) (by omega)) ?_
    unfold rb_st at h
    rw [if_pos z] at h
    exact h
  · unfold wX_turn_109
    refine br_t rfl ⟨vp_in_nI (by omega) (by omega), ?_⟩
    rw [nI_clamp (n := r) (by omega), (hB r (by omega)).1, rb_shl c (by omega), rb_andn _ hb1 _ hp2]
    refine h146 _ (Nat.lt_trans (rb_and64 hb1 _) (by omega)) ?_
    unfold rb_st at h
    rw [if_neg z] at h
    exact h
/-- the invariant of X's turn: a ghost truth table that is turned step by step -/
def rb_ti (N : Nat) (S : Nat → Nat → Prop) (on we bd' we' : Nat → Int32) : Prop := ∃ B' on', rb_bd N B' bd' ∧ (∀ r, N ≤ r → r < 6 → B' r = 0) ∧ rb_on B' on' ∧ rb_tr on S on' ∧ rb_tr we S we'
theorem rb_ti_s {S : Nat → Nat → Prop} {on we bd we' on' : Nat → Int32} {B : Nat → Nat} {r c : Nat} (hN : N ≤ 6) (hr : r < c) (hc : c < N) (hS : ¬ S r c) (hB : rb_bd N B bd) (hz : ∀ r, N ≤ r → r < 6 → B r = 0) (ho : rb_on B on') (h1 : rb_tr on S on') (h2 : rb_tr we S we') :
    rb_ti N (fun a b => S a b ∨ (a = r ∧ b = c)) on we (upd (upd bd r (nI (rb_st (B r) c ((B c).testBit r)))) c (nI (rb_st (B c) r ((B r).testBit c)))) (rb_s2 we' (6 * r + c) (6 * c + r)) := by
  refine ⟨rb_Bs (rb_Bs B r (rb_st (B r) c ((B c).testBit r))) c (rb_st (B c) r ((B r).testBit c)), rb_s2 on' (6 * r + c) (6 * c + r), ?_, ?_, ?_, rb_tr_s h1 hr (by omega) hS, rb_tr_s h2 hr (by omega) hS⟩
  · intro x hx
    unfold rb_Bs
    by_cases e : x = c
    · rw [e, pk_us, if_pos rfl]
      exact ⟨rfl, rb_st_b (hB c (by omega)).2 (by omega)⟩
    · rw [pk_un e, if_neg e]
      by_cases e2 : x = r
      · rw [e2, pk_us, if_pos rfl]
        exact ⟨rfl, rb_st_b (hB r (by omega)).2 hc⟩
      · rw [pk_un e2, if_neg e2]
        exact hB x hx
  · intro x h1 h2
    unfold rb_Bs
    rw [if_neg (by omega), if_neg (by omega)]
    exact hz x h1 h2
  · intro x d hx hd
    unfold rb_Bs
    by_cases e : x = c
    · rw [if_pos e, rb_st_t hd]
      by_cases e2 : d = r
      · rw [if_pos e2, e, e2, rb_s2_y, ho r c (by omega) (by omega)]
      · rw [if_neg e2, rb_s2_n (by omega) (by omega), e, ho c d (by omega) hd]
    · rw [if_neg e]
      by_cases e2 : x = r
      · rw [if_pos e2, rb_st_t hd]
        by_cases e3 : d = c
        · rw [if_pos e3, e2, e3, rb_s2_x, ho c r (by omega) (by omega)]
        · rw [if_neg e3, rb_s2_n (by omega) (by omega), e2, ho r d (by omega) hd]
      · rw [if_neg e2, rb_s2_n (by omega) (by omega)]
        exact ho x d hx hd
theorem rb_xturn {post : Int32 → SX → Prop} (hN : N ≤ 6) (hB : rb_bd N B bd) (hz : ∀ r, N ≤ r → r < 6 → B r = 0) (ho : rb_on B on)
    (h : ∀ bd' we', rb_ti N (fun _ b => b < N) on we bd' we' → post 0 ((nI N), ft, bd', we', wy, nx, su, la, fa, ch, ro, pr, pc)) : wpX_turn post ((nI N), ft, bd, we, wy, nx, su, la, fa, ch, ro, pr, pc) := by
  have key : ∀ j t bd' we', t + j = 36 → rb_ti N (fun a b => b < N ∧ 6 * a + b < t) on we bd' we' → wX_turn_2 post (nI N) ft (j + 1) (nI t) bd' we' wy nx su la fa ch ro pr pc := by
    intro j
    induction j with
    | zero =>
      intro t bd' we' ht hI
      have e : t = 36 := by omega
      subst e
      rw [wX_turn_2]
      refine br_t (nI_le (a := 36) (b := 36) (by omega) (by omega)) (h bd' we' ?_)
      obtain ⟨B', on', a1, a2, a3, a4, a5⟩ := hI
      exact ⟨B', on', a1, a2, a3, rb_tr_congr a4 (fun a b _ _ => ⟨fun z => z.1, fun z => ⟨z, by omega⟩⟩), rb_tr_congr a5 (fun a b _ _ => ⟨fun z => z.1, fun z => ⟨z, by omega⟩⟩)⟩
    | succ j ih =>
      intro t bd' we' ht hI
      rw [wX_turn_2]
      obtain ⟨B', on', a1, a2, a3, a4, a5⟩ := hI
      have ed : nI t / 6 = nI (t / 6) := pk_div (d := 6) (by omega) (by omega) (by omega)
      have em : nI t - nI t / 6 * 6 = nI (t % 6) := pk_rem (d := 6) (by omega) (by omega) (by omega)
      have hskip : ¬ (t / 6 < t % 6 ∧ t % 6 < N) → wX_turn_2 post (nI N) ft (j + 1) (nI (t + 1)) bd' we' wy nx su la fa ch ro pr pc := by
        intro hn
        refine ih (t + 1) bd' we' (by omega) ⟨B', on', a1, a2, a3, rb_tr_congr a4 ?_, rb_tr_congr a5 ?_⟩
        · intro a b hab hb
          refine ⟨fun z => ⟨z.1, by omega⟩, fun z => ⟨z.1, ?_⟩⟩
          have := z.1
          omega
        · intro a b hab hb
          refine ⟨fun z => ⟨z.1, by omega⟩, fun z => ⟨z.1, ?_⟩⟩
          have := z.1
          omega
      refine br_f (nI_ge (b := 36) (by omega) (by omega)) ⟨by decide, nm_r ed ⟨by decide, nm_r em ?_⟩⟩
      refine pk_le (t % 6) (t / 6) (fun z => nm_r (nI_1 t) (hskip (by omega))) (fun z => ?_)
      refine pk_le N (t % 6) (fun y => nm_r (nI_1 t) (hskip (by omega))) (fun y => ?_)
      rw [rb_ix6, nI_clamp (n := t) (by omega), nI_clamp (n := 6 * (t % 6) + t / 6) (by omega), nI_clamp (n := t / 6) (by omega), (a1 (t / 6) (by omega)).1, rb_bit1 (by have := rb_bd64 hN a1 (show t / 6 < 6 by omega); omega) (by omega)]
      refine ⟨vp_in_nI (by omega) (by omega), nm_e ⟨vp_in_nI (by omega) (by omega), vp_in_nI (by omega) (by omega), nm_e ⟨vp_in_nI (by omega) (by omega), nm_e ⟨vp_in_nI (by omega) (by omega), ?_⟩⟩⟩⟩
      have hI2 := rb_ti_s (S := fun a b => b < N ∧ 6 * a + b < t) (r := t / 6) (c := t % 6) hN z y (by omega) a1 a2 a3 a4 a5
      rw [show 6 * (t / 6) + t % 6 = t by omega] at hI2
      have hI3 : rb_ti N (fun a b => b < N ∧ 6 * a + b < t + 1) on we (upd (upd bd' (t / 6) (nI (rb_st (B' (t / 6)) (t % 6) ((B' (t % 6)).testBit (t / 6))))) (t % 6) (nI (rb_st (B' (t % 6)) (t / 6) ((B' (t / 6)).testBit (t % 6))))) (rb_s2 we' t (6 * (t % 6) + t / 6)) := by
        obtain ⟨B2, on2, b1, b2, b3, b4, b5⟩ := hI2
        have e : ∀ a b, a < b → b < 6 → (((b < N ∧ 6 * a + b < t) ∨ (a = t / 6 ∧ b = t % 6)) ↔ (b < N ∧ 6 * a + b < t + 1)) := by
          intro a b _ hb
          constructor
          · intro w; rcases w with w | w <;> omega
          · intro w; omega
        exact ⟨B2, on2, b1, b2, b3, rb_tr_congr b4 e, rb_tr_congr b5 e⟩
      have hJ := ih (t + 1) _ _ (by omega) hI3
      refine br_c (fun w => ?_) (fun w => ?_)
      · exact rb_xturn88 hN z y a1 (by rw [w]; rfl) hJ
      · exact rb_xturn88 hN z y a1 (by rw [if_neg w]) hJ
  unfold wpX_turn
  exact ⟨37, key 36 0 bd we rfl ⟨B, on, hB, hz, ho, rb_tr_0 (fun a b _ _ => by omega), rb_tr_0 (fun a b _ _ => by omega)⟩⟩
theorem rb_yturn {post : Int32 → SY → Prop} (hN : N ≤ 6) (ho : rb_on B on)
    (h : ∀ on' we', rb_tr on (fun _ b => b < N) on' → rb_tr we (fun _ b => b < N) we' → post 0 ((nI N), yr, yp, yt, ya, on', we', co)) : wpY_turn post ((nI N), yr, yp, yt, ya, on, we, co) := by
  have h01 : ∀ x, x < 36 → on x = 0 ∨ on x = 1 := fun x hx => rb_on01 ho hx
  have inner : ∀ (J : Int32 → Int32 → Int32 → Int32 → Int32 → Int32 → (Nat → Int32) → (Nat → Int32) → (Nat → Int32) → Prop) (r : Nat), r < N →
      (∀ on' we', rb_tr on (fun _ b => b < r + 1) on' → rb_tr we (fun _ b => b < r + 1) we' → J (nI (r + 1)) (nI N) yr yp yt ya on' we' co) →
      ∀ j c on' we', c + j = r → rb_tr on (fun a b => b < r ∨ (b = r ∧ a < c)) on' → rb_tr we (fun a b => b < r ∨ (b = r ∧ a < c)) we' → wY_turn_12 post J (nI r) (j + 1) (nI c) (nI N) yr yp yt ya on' we' co := by
    intro J r hr hJ j
    induction j with
    | zero =>
      intro c on' we' hc h1 h2
      have e : c = r := by omega
      subst e
      rw [wY_turn_12]
      refine br_t (nI_le (Nat.le_refl _) (by omega)) (nm_r (nI_1 c) (hJ on' we' (rb_tr_congr h1 ?_) (rb_tr_congr h2 ?_)))
      · intro a b hab _; omega
      · intro a b hab _; omega
    | succ j ih =>
      intro c on' we' hc h1 h2
      rw [wY_turn_12]
      refine br_f (nI_ge (by omega) (by omega)) ?_
      rw [rb_ix6, rb_ix6]
      refine rb_yswap (by omega) (by omega) (rb_tr_01 h1 h01 _ (by omega)) (rb_tr_01 h1 h01 _ (by omega)) (nm_r (nI_1 c) (ih (c + 1) _ _ (by omega) ?_ ?_))
      · rw [rb_s2_comm]
        refine rb_tr_congr (rb_tr_s h1 (show c < r by omega) (by omega) (by omega)) ?_
        intro a b _ _; omega
      · rw [rb_s2_comm]
        refine rb_tr_congr (rb_tr_s h2 (show c < r by omega) (by omega) (by omega)) ?_
        intro a b _ _; omega
  have key : ∀ j r on' we', r + j = N → rb_tr on (fun _ b => b < r) on' → rb_tr we (fun _ b => b < r) we' → wY_turn_2 post (j + 1) (nI r) (nI N) yr yp yt ya on' we' co := by
    intro j
    induction j with
    | zero =>
      intro r on' we' hr h1 h2
      have e : r = N := by omega
      subst e
      rw [wY_turn_2]
      exact br_t (nI_le (Nat.le_refl _) (by omega)) (h on' we' h1 h2)
    | succ j ih =>
      intro r on' we' hr h1 h2
      rw [wY_turn_2]
      refine br_f (nI_ge (by omega) (by omega)) ⟨r + 1, ?_⟩
      refine inner _ r (by omega) (fun on2 we2 k1 k2 => ih (r + 1) on2 we2 (by omega) k1 k2) r 0 on' we' (by omega) (rb_tr_congr h1 ?_) (rb_tr_congr h2 ?_)
      · intro a b _ _; omega
      · intro a b _ _; omega
  unfold wpY_turn
  exact ⟨N + 1, key N 0 on we (by omega) (rb_tr_0 (fun a b _ _ => by omega)) (rb_tr_0 (fun a b _ _ => by omega))⟩
end
theorem i_vc_turn {k : Nat} {u : SX} {v : SY} (I : i_Rel k u v) (hk : k + 4 ≤ 2049) : wpX_turn (fun r u' => wpY_turn (fun r' v' => r' = r ∧ i_Rel (k + 4) u' v') v) u := by
  refine rb_el (P := fun u v => wpX_turn (fun r u' => wpY_turn (fun r' v' => r' = r ∧ i_Rel (k + 4) u' v') v) u) I ?_
  intro N B ft bd we wy nx su la fa ch ro pr pc yr yp yt ya on co hR
  obtain ⟨hN0, hN, hB, hz, ho, ht⟩ := hR
  refine rb_xturn hN hB hz ho (fun bd' we' hI => rb_yturn hN ho (fun on2 we2 h1 h2 => ?_))
  obtain ⟨B', on', a1, a2, a3, a4, a5⟩ := hI
  rw [rb_tr_u h1 a4, rb_tr_u h2 a5]
  exact ⟨rfl, rb_in ⟨hN0, hN, a1, a2, a3, ht⟩⟩
end
section
/-! the constructors -/
def rb_w1 : Nat → Nat → Int32
  | 0 => fun _ => 0
  | t + 1 => upd (rb_w1 t) t 1
theorem rb_cb_z : ∀ i, i < 7 → ∀ b, b < 7 → i < b → rb_cb i b = 0 := by decide
theorem rb_cb_0 (i : Nat) : rb_cb i 0 = 1 := by cases i <;> rfl
section
variable {N : Nat} {ft : Int32} {bd we wy nx su la fa ch ro pr pc : Nat → Int32}
def rb_chI (i : Nat) (ch : Nat → Int32) : Prop := (∀ a b, a < i → b < 7 → ch (7 * a + b) = nI (rb_cb a b)) ∧ (∀ x, 7 * i ≤ x → ch x = 0)
def rb_chJ (i j : Nat) (ch : Nat → Int32) : Prop := (∀ a b, a < i → b < 7 → ch (7 * a + b) = nI (rb_cb a b)) ∧ (∀ b, b < j → ch (7 * i + b) = nI (rb_cb i b)) ∧ (∀ x, 7 * i + j ≤ x → ch x = 0)
theorem rb_xi197 {post : SX → Prop} {J : Int32 → (Nat → Int32) → (Nat → Int32) → (Nat → Int32) → (Nat → Int32) → (Nat → Int32) → (Nat → Int32) → (Nat → Int32) → (Nat → Int32) → (Nat → Int32) → (Nat → Int32) → (Nat → Int32) → Prop} {i : Nat} (hi : i < 7)
    (h : ∀ ch, rb_chI (i + 1) ch → J (nI (i + 1)) bd we wy nx su la fa ch ro pr pc) :
    ∀ d j ch, j + d = i + 1 → 1 ≤ j → rb_chJ i j ch → wX_init_197 post J (nI i) (nI N) ft (d + 1) (nI j) bd we wy nx su la fa ch ro pr pc := by
  intro d
  induction d with
  | zero =>
    intro j ch hj _ hc
    have e : j = i + 1 := by omega
    subst e
    rw [wX_init_197]
    refine br_t (nI_lt (by omega) (by omega)) (nm_r (nI_1 i) (h ch ?_))
    obtain ⟨c1, c2, c3⟩ := hc
    refine ⟨fun a b ha hb => ?_, fun x hx => c3 x (by omega)⟩
    by_cases e : a = i
    · subst e
      by_cases e2 : b < a + 1
      · exact c2 b e2
      · rw [c3 _ (by omega), rb_cb_z a hi b hb (by omega)]
        rfl
    · exact c1 a b (by omega) hb
  | succ d ih =>
    intro j ch hj h1 hc
    obtain ⟨i', rfl⟩ : ∃ i', i = i' + 1 := ⟨i - 1, by omega⟩
    obtain ⟨j', rfl⟩ : ∃ j', j = j' + 1 := ⟨j - 1, by omega⟩
    rw [wX_init_197]
    have e1 : (7 : Int32) * (nI (i' + 1) - 1) + nI (j' + 1) = nI (7 * i' + j' + 1) := by rw [nI_pred, rb_ix7, Nat.add_assoc]
    refine br_f (nI_nlt (by omega) (by omega)) ?_
    rw [e1, nI_pred, rb_ix7, nI_clamp (n := 7 * i' + j') (by omega), nI_clamp (n := 7 * i' + j' + 1) (by omega), nI_clamp (n := 7 * (i' + 1) + (j' + 1)) (by omega)]
    refine ⟨vp_in_nI (by omega) (by omega), vp_in_nI (by omega) (by omega), vp_in_nI (by omega) (by omega), nm_e (nm_r (nI_1 _) (ih (j' + 1 + 1) _ (by omega) (by omega) ?_))⟩
    obtain ⟨c1, c2, c3⟩ := hc
    refine ⟨fun a b ha hb => ?_, fun b hb => ?_, fun x hx => ?_⟩
    · rw [pk_un (by omega)]; exact c1 a b ha hb
    · by_cases e : b = j' + 1
      · rw [e, pk_us, c1 i' j' (by omega) (by omega), Nat.add_assoc, c1 i' (j' + 1) (by omega) (by omega), nI_add, rb_cb]
      · rw [pk_un (by omega)]; exact c2 b (by omega)
    · rw [pk_un (by omega)]; exact c3 x (by omega)
theorem rb_xi179 {post : SX → Prop} (h : ∀ ch, rb_chI 7 ch → post ((nI N), ft, bd, we, wy, nx, su, la, fa, ch, ro, pr, pc)) :
    ∀ d i ch, i + d = 7 → rb_chI i ch → wX_init_179 post (nI N) ft (d + 1) (nI i) bd we wy nx su la fa ch ro pr pc := by
  intro d
  induction d with
  | zero =>
    intro i ch hi hc
    have e : i = 7 := by omega
    subst e
    rw [wX_init_179]
    exact br_t (nI_le (a := 7) (b := 7) (by omega) (by omega)) (h ch hc)
  | succ d ih =>
    intro i ch hi hc
    rw [wX_init_179]
    have e1 : (7 : Int32) * nI i = nI (7 * i) := by
      show nI 7 * nI i = _
      rw [pk_mul]
    refine br_f (nI_ge (b := 7) (by omega) (by omega)) ?_
    rw [e1, nI_clamp (by omega)]
    refine ⟨vp_in_nI (by omega) (by omega), nm_e ⟨i + 1, rb_xi197 (by omega) (fun ch hc => ih (i + 1) ch (by omega) hc) i 1 _ (by omega) (by omega) ?_⟩⟩
    obtain ⟨c1, c2⟩ := hc
    refine ⟨fun a b ha hb => ?_, fun b hb => ?_, fun x hx => ?_⟩
    · rw [pk_un (by omega)]; exact c1 a b ha hb
    · have e : b = 0 := by omega
      rw [e, Nat.add_zero, pk_us, rb_cb_0]; rfl
    · rw [pk_un (by omega)]; exact c2 x (by omega)
theorem rb_xi149 {post : SX → Prop} (hch : rb_chI 0 ch) (h : ∀ fa ch, rb_tb fa ch → post ((nI N), ft, bd, we, wy, nx, su, la, fa, ch, ro, pr, pc)) :
    ∀ d i fa, i + d = 7 → 1 ≤ i → (∀ x, x < i → fa x = nI (rb_fc x)) → wX_init_149 post (nI N) ft (d + 1) (nI i) bd we wy nx su la fa ch ro pr pc := by
  intro d
  induction d with
  | zero =>
    intro i fa hi _ hf
    have e : i = 7 := by omega
    subst e
    rw [wX_init_149]
    refine br_t (nI_le (a := 7) (b := 7) (by omega) (by omega)) ⟨8, rb_xi179 (fun ch hc => h fa ch ⟨hf, fun a b ha hb => hc.1 a b ha (by omega)⟩) 7 0 ch rfl hch⟩
  | succ d ih =>
    intro i fa hi h1 hf
    obtain ⟨i', rfl⟩ : ∃ i', i = i' + 1 := ⟨i - 1, by omega⟩
    rw [wX_init_149]
    refine br_f (nI_ge (b := 7) (by omega) (by omega)) ?_
    rw [nI_pred, nI_clamp (n := i') (by omega), nI_clamp (n := i' + 1) (by omega)]
    refine ⟨vp_in_nI (by omega) (by omega), vp_in_nI (by omega) (by omega), nm_e (nm_r (nI_1 _) (ih (i' + 1 + 1) _ (by omega) (by omega) ?_))⟩
    intro x hx
    by_cases e : x = i' + 1
    · rw [e, pk_us, hf i' (by omega), pk_mul, rb_fc]
    · rw [pk_un e]; exact hf x (by omega)
theorem rb_xi121 {post : SX → Prop} (hch : rb_chI 0 ch) (h : ∀ fa ch, rb_tb fa ch → post ((nI N), ft, bd, rb_w1 36, wy, nx, su, la, fa, ch, ro, pr, pc)) :
    ∀ d t, t + d = 36 → wX_init_121 post (nI N) ft (d + 1) (nI t) bd (rb_w1 t) wy nx su la fa ch ro pr pc := by
  intro d
  induction d with
  | zero =>
    intro t ht
    have e : t = 36 := by omega
    subst e
    rw [wX_init_121]
    refine br_t (nI_le (a := 36) (b := 36) (by omega) (by omega)) (nm_e ⟨7, rb_xi149 hch h 6 1 _ rfl (by omega) (fun x hx => ?_)⟩)
    rw [show x = 0 by omega, pk_us]
    rfl
  | succ d ih =>
    intro t ht
    rw [wX_init_121]
    refine br_f (nI_ge (b := 36) (by omega) (by omega)) ?_
    rw [nI_clamp (by omega)]
    exact ⟨vp_in_nI (by omega) (by omega), nm_e (nm_r (nI_1 t) (ih (t + 1) (by omega)))⟩
theorem rb_yi55 {post : SY → Prop} {yr yp yt ya : Int32} {on co : Nat → Int32} (h : post ((nI N), yr, yp, yt, ya, on, rb_w1 36, co)) :
    ∀ d t, t + d = 36 → wY_init_55 post (nI N) yr yp yt ya (d + 1) (nI t) on (rb_w1 t) co := by
  intro d
  induction d with
  | zero =>
    intro t ht
    have e : t = 36 := by omega
    subst e
    rw [wY_init_55]
    exact br_t (nI_le (a := 36) (b := 36) (by omega) (by omega)) h
  | succ d ih =>
    intro t ht
    rw [wY_init_55]
    refine br_f (nI_ge (b := 36) (by omega) (by omega)) ?_
    rw [nI_clamp (by omega)]
    exact ⟨vp_in_nI (by omega) (by omega), nm_e (nm_r (nI_1 t) (ih (t + 1) (by omega)))⟩
end
theorem rb_R0 {N : Nat} {fa ch : Nat → Int32} (h0 : 0 < N) (h6 : N ≤ 6) (ht : rb_tb fa ch) : rb_R N (fun _ => 0) (fun _ => 0) (fun _ => 0) fa ch :=
  ⟨h0, h6, fun _ _ => ⟨rfl, Nat.two_pow_pos N⟩, fun _ _ _ => rfl, fun r c _ _ => by rw [Nat.zero_testBit]; rfl, ht⟩
theorem rb_init {N : Nat} (h0 : 0 < N) (h6 : N ≤ 6) (P : SX → SY → Prop) (hP : ∀ (fa ch : Nat → Int32), rb_tb fa ch → P (nI N, 0, (fun _ => 0), rb_w1 36, (fun _ => 0), (fun _ => 0), (fun _ => 0), (fun _ => 0), fa, ch, (fun _ => 0), (fun _ => 0), (fun _ => 0)) (nI N, 0, 0, 0, 0, (fun _ => 0), rb_w1 36, (fun _ => 0))) (Q : (SY → Prop) → Prop)
    (hQ : ∀ post : SY → Prop, (∃ n55 : Nat, wY_init_55 post (nI N) 0 0 0 0 n55 0 (fun _ => 0) (fun _ => 0) (fun _ => 0)) → Q post) :
    ∃ n121 : Nat, wX_init_121 (fun u => Q (fun v => P u v)) (nI N) 0 n121 0 (fun _ => 0) (fun _ => 0) (fun _ => 0) (fun _ => 0) (fun _ => 0) (fun _ => 0) (fun _ => 0) (fun _ => 0) (fun _ => 0) (fun _ => 0) (fun _ => 0) := by
  refine ⟨37, rb_xi121 ⟨fun a b ha => absurd ha (Nat.not_lt_zero a), fun _ _ => rfl⟩ (fun fa ch ht => hQ _ ⟨37, ?_⟩) 36 0 rfl⟩
  exact rb_yi55 (hP fa ch ht) 36 0 rfl
theorem i_vc0 (k0 : Int32) : wpX_init (fun u => wpY_init (fun v => i_Rel 1 u v) k0) k0 := by
  have hP : ∀ N, 0 < N → N ≤ 6 → ∀ (fa ch : Nat → Int32), rb_tb fa ch → i_Rel 1 (nI N, 0, (fun _ => 0), rb_w1 36, (fun _ => 0), (fun _ => 0), (fun _ => 0), (fun _ => 0), fa, ch, (fun _ => 0), (fun _ => 0), (fun _ => 0)) (nI N, 0, 0, 0, 0, (fun _ => 0), rb_w1 36, (fun _ => 0)) :=
    fun N h0 h6 fa ch ht => rb_in (rb_R0 h0 h6 ht)
  unfold wpX_init
  by_cases h1 : 1 ≤ k0
  · refine br_t h1 ?_
    by_cases h2 : k0 ≤ 6
    · refine br_t h2 ?_
      have h3 : ¬ k0 < 0 := by
        rw [Int32.lt_iff_toInt_lt]
        rw [Int32.le_iff_toInt_le] at h1
        have : (1 : Int32).toInt = 1 := by decide
        have : (0 : Int32).toInt = 0 := by decide
        omega
      obtain ⟨j, hj, rfl⟩ := nI_of h3
      have hj6 : j ≤ 6 := (nI_leI (b := 6) hj (by omega)).mp h2
      have hj1 : 1 ≤ j := (nI_leI (a := 1) (by omega) hj).mp h1
      refine rb_init (by omega) hj6 (fun u v => i_Rel 1 u v) (hP j (by omega) hj6) (fun post => wpY_init post (nI j)) (fun post hp => ?_)
      unfold wpY_init
      exact br_t h1 (br_t h2 hp)
    · refine br_f h2 ?_
      refine rb_init (N := 6) (by omega) (by omega) (fun u v => i_Rel 1 u v) (hP 6 (by omega) (by omega)) (fun post => wpY_init post k0) (fun post hp => ?_)
      unfold wpY_init
      exact br_t h1 (br_f h2 hp)
  · refine br_f h1 ?_
    refine rb_init (N := 1) (by omega) (by omega) (fun u v => i_Rel 1 u v) (hP 1 (by omega) (by omega)) (fun post => wpY_init post k0) (fun post hp => ?_)
    unfold wpY_init
    exact br_f h1 hp
end
section
/-! column: placements by number -/
theorem rb_cat_get {g : Nat → List (List Nat)} {i' : Nat} : ∀ e d f, e < d → i' < (g (f + e)).length → (rb_cat g d f)[rb_sn (fun x => (g (f + x)).length) e + i']? = (g (f + e))[i']? := by
  intro e
  induction e with
  | zero =>
    intro d f hd hi
    obtain ⟨d, rfl⟩ : ∃ d', d = d' + 1 := ⟨d - 1, by omega⟩
    rw [rb_cat, rb_sn, Nat.zero_add, Nat.add_zero]
    exact List.getElem?_append_left hi
  | succ e ih =>
    intro d f hd hi
    obtain ⟨d, rfl⟩ : ∃ d', d = d' + 1 := ⟨d - 1, by omega⟩
    have h := ih d (f + 1) (by omega) (by rw [show f + 1 + e = f + (e + 1) by omega]; exact hi)
    have e1 : rb_sn (fun x => (g (f + x)).length) (e + 1) = (g f).length + rb_sn (fun x => (g (f + 1 + x)).length) e := by
      rw [rb_sn_front, Nat.add_zero]
      congr 1
      apply rb_sn_congr
      intro x _
      rw [show f + (x + 1) = f + 1 + x by omega]
    rw [rb_cat, e1, List.getElem?_append_right (by omega), show (g f).length + rb_sn (fun x => (g (f + 1 + x)).length) e + i' - (g f).length = rb_sn (fun x => (g (f + 1 + x)).length) e + i' by omega, h, show f + 1 + e = f + (e + 1) by omega]
theorem rb_at_app {r : Nat} : ∀ t s : List Nat, r < s.length → rb_at (t ++ s) r = rb_at s r := by
  intro t
  induction t with
  | nil => intro s _; rfl
  | cons c t ih =>
    intro s h
    rw [List.cons_append, rb_at_t (by rw [List.length_append]; omega)]
    exact ih s h
theorem rb_cat_mem {g : Nat → List (List Nat)} {q : List Nat} : ∀ d f, q ∈ rb_cat g d f → ∃ c, f ≤ c ∧ c < f + d ∧ q ∈ g c := by
  intro d
  induction d with
  | zero => intro f h; exact absurd h List.not_mem_nil
  | succ d ih =>
    intro f h
    rw [rb_cat, List.mem_append] at h
    rcases h with h | h
    · exact ⟨f, by omega, by omega, h⟩
    · obtain ⟨c, h1, h2, h3⟩ := ih (f + 1) h
      exact ⟨c, by omega, by omega, h3⟩
section
variable {N k : Nat} {ok : Nat → Nat → Bool}
theorem rb_pl_ext {q : List Nat} : ∀ m s, q ∈ rb_pl N k ok m s → ∃ t, q = t ++ s := by
  intro m
  induction m with
  | zero =>
    intro s h
    rw [rb_pl] at h
    split at h
    · rw [List.mem_singleton] at h
      exact ⟨[], h⟩
    · exact absurd h List.not_mem_nil
  | succ m ih =>
    intro s h
    rw [rb_pl] at h
    obtain ⟨c, _, _, h3⟩ := rb_cat_mem _ _ h
    split at h3
    · obtain ⟨t, rfl⟩ := ih (c :: s) h3
      exact ⟨t ++ [c], by simp⟩
    · exact absurd h3 List.not_mem_nil
/-- placements with the rook of a row in a lesser column -/
def rb_bf (N : Nat) (ok : Nat → Nat → Bool) (row T p col : Nat) : Nat := if p = 0 then 0 else rb_sn (fun c => if ok row c && !T.testBit c then rb_ct N ok (N - (row + 1)) (p - 1) (T ||| 2 ^ c) else 0) col
theorem rb_bf_b (hN : N ≤ 6) {row T p col : Nat} (hc : col ≤ 6) : rb_bf N ok row T p col ≤ 705894 := by
  unfold rb_bf
  split
  · omega
  · have h : rb_sn (fun c => if ok row c && !T.testBit c then rb_ct N ok (N - (row + 1)) (p - 1) (T ||| 2 ^ c) else 0) col ≤ rb_sn (fun _ => 117649) col := by
      apply rb_sn_le
      intro c _
      split
      · exact rb_ct_b hN _ _ _ (by omega)
      · omega
    rw [rb_sn_const] at h
    omega
theorem rb_bf_0 {row T p : Nat} : rb_bf N ok row T p 0 = 0 := by
  unfold rb_bf
  split <;> rfl
theorem rb_bf_len {m : Nat} {s : List Nat} (hs : s.length + (m + 1) = N) (hk : rb_cn N s ≤ k) : ∀ col, col ≤ N → rb_bf N ok s.length (rb_tk N s) (k - rb_cn N s) col = rb_sn (fun c => (rb_ch N k ok m s (0 + c)).length) col := by
  intro col hcol
  unfold rb_bf
  split
  · rename_i h
    rw [rb_sn_z]
    intro c hc
    rw [Nat.zero_add, rb_ch_lt (by omega)]
    split
    · rw [rb_pl_z m (c :: s) (Or.inl (by rw [rb_cn_lt (by omega)]; omega))]; rfl
    · rfl
  · rename_i h
    apply rb_sn_congr
    intro c hc
    rw [Nat.zero_add, rb_ch_lt (by omega)]
    unfold rb_fit
    split
    · rw [rb_len_ct m (c :: s) (by rw [List.length_cons]; omega), rb_cn_lt (by omega), rb_tk_lt (by omega), if_pos (by omega), show N - (s.length + 1) = m by omega, show k - (rb_cn N s + 1) = k - rb_cn N s - 1 by omega]
    · rfl
theorem rb_unrank {m : Nat} {s q : List Nat} {left c : Nat} (hs : s.length + (m + 1) = N) (hk : rb_cn N s ≤ k) (hq : (rb_pl N k ok (m + 1) s)[left]? = some q) (hc : c ≤ N)
    (h1 : rb_bf N ok s.length (rb_tk N s) (k - rb_cn N s) c ≤ left) (h2 : c < N → left < rb_bf N ok s.length (rb_tk N s) (k - rb_cn N s) (c + 1)) :
    rb_cn N (c :: s) ≤ k ∧ (rb_pl N k ok m (c :: s))[left - rb_bf N ok s.length (rb_tk N s) (k - rb_cn N s) c]? = some q := by
  have e0 : rb_pl N k ok (m + 1) s = rb_cat (rb_ch N k ok m s) (N + 1) 0 := rfl
  have hlen : left < rb_sn (fun c => (rb_ch N k ok m s (0 + c)).length) (N + 1) := by
    rw [← rb_len_cat, ← e0]
    rcases Nat.lt_or_ge left (rb_pl N k ok (m + 1) s).length with z | z
    · exact z
    · rw [List.getElem?_eq_none z] at hq
      exact absurd hq (by simp)
  rw [rb_bf_len hs hk c hc] at h1 ⊢
  have h3 : left < rb_sn (fun c => (rb_ch N k ok m s (0 + c)).length) (c + 1) := by
    by_cases z : c < N
    · have := h2 z
      rw [rb_bf_len hs hk (c + 1) z] at this
      exact this
    · rw [show c = N by omega]; exact hlen
  rw [rb_sn] at h3
  have h4 : left - rb_sn (fun c => (rb_ch N k ok m s (0 + c)).length) c < (rb_ch N k ok m s (0 + c)).length := by omega
  have h5 := rb_cat_get (g := rb_ch N k ok m s) c (N + 1) 0 (by omega) h4
  rw [show rb_sn (fun c => (rb_ch N k ok m s (0 + c)).length) c + (left - rb_sn (fun c => (rb_ch N k ok m s (0 + c)).length) c) = left by omega, ← e0, hq, Nat.zero_add] at h5
  have h6 : rb_ch N k ok m s c = rb_pl N k ok m (c :: s) := by
    unfold rb_ch
    by_cases ho : rb_op N ok s c = true
    · rw [if_pos ho]
    · have : rb_ch N k ok m s c = [] := by unfold rb_ch; rw [if_neg ho]
      rw [Nat.zero_add, this] at h4
      exact absurd h4 (Nat.not_lt_zero _)
  rw [h6] at h5
  refine ⟨?_, h5.symm⟩
  rcases Nat.lt_or_ge k (rb_cn N (c :: s)) with z | z
  · rw [rb_pl_z m (c :: s) (Or.inl z)] at h5
    exact absurd h5.symm (by simp)
  · exact z
end
section
variable {N k : Nat} {B : Nat → Nat} {ft : Int32} {bd we wy nx su la fa ch ro pr pc : Nat → Int32} {yr yp yt ya : Int32} {on co : Nat → Int32}
theorem rb_xbefore {post : Int32 → SX → Prop} {row T p col : Nat} (hN0 : 0 < N) (hN : N ≤ 6) (hrow : row < N) (hT : T < 2 ^ N) (hp : p ≤ N) (hcol : col ≤ N) (hB : rb_bd N B bd)
    (h : ∀ wy nx, post (nI (rb_bf N (rb_ok B) row T p col)) ((nI N), ft, bd, we, wy, nx, su, la, fa, ch, ro, pr, pc)) : wpX_before post ((nI N), ft, bd, we, wy, nx, su, la, fa, ch, ro, pr, pc) (nI row) (nI T) (nI p) (nI col) := by
  have h64 := rb_pN hN
  unfold wpX_before
  refine pk_eq p 0 (fun e => ?_) (fun e => ?_)
  · have h := h wy nx
    unfold rb_bf at h
    rw [if_pos e] at h
    exact h
  · have e1 : nI p - 1 = nI (p - 1) := pk_sub (b := 1) (by omega)
    rw [e1]
    refine rb_xfw hN0 hN (by omega) hB (fun wy nx hw => ⟨col + 1, ?_⟩)
    have h := h wy nx
    unfold rb_bf at h
    rw [if_neg e] at h
    have key : ∀ d c, c + d = col → wX_before_19 post (nI row) (nI T) (nI col) (nI N) ft bd we wy nx su la fa ch ro pr pc (d + 1) (nI (rb_sn (fun c => if rb_ok B row c && !T.testBit c then rb_ct N (rb_ok B) (N - (row + 1)) (p - 1) (T ||| 2 ^ c) else 0) c)) (nI c) := by
      intro d
      induction d with
      | zero =>
        intro c hc
        have ec : c = col := by omega
        subst ec
        rw [wX_before_19]
        exact br_t (nI_le (Nat.le_refl _) (by omega)) h
      | succ d ih =>
        intro c hc
        rw [wX_before_19]
        have hi := ih (c + 1) (by omega)
        rw [rb_sn] at hi
        have hb := rb_bd64 hN hB (show row < 6 by omega)
        refine br_f (nI_ge (by omega) (by omega)) ⟨vp_in_nI (by omega) (by omega), ?_⟩
        rw [nI_clamp (n := row) (by omega), (hB row (by omega)).1, rb_bit1 (by omega) (by omega), rb_bit0 (by omega) (by omega)]
        have hz : (rb_ok B row c && !T.testBit c) = false → ∀ J, J = wX_before_19 post (nI row) (nI T) (nI col) (nI N) ft bd we wy nx su la fa ch ro pr pc (d + 1) → wX_before_54 post J (nI row) (nI T) (nI col) (nI (rb_sn (fun c => if rb_ok B row c && !T.testBit c then rb_ct N (rb_ok B) (N - (row + 1)) (p - 1) (T ||| 2 ^ c) else 0) c)) (nI c) (nI N) ft bd we wy nx su la fa ch ro pr pc := by
          intro hf J hJ
          rw [hf] at hi
          unfold wX_before_54 wX_before_55
          rw [hJ]
          exact br_t rfl (nm_r (nI_1 c) hi)
        refine br_c (fun z => ?_) (fun z => ?_)
        · refine br_c (fun y => ?_) (fun y => ?_)
          · have hf : (rb_ok B row c && !T.testBit c) = true := by unfold rb_ok; rw [z, y]; rfl
            rw [if_pos hf] at hi
            unfold wX_before_55
            refine br_f (by decide) ?_
            have ho := rb_or64 (show T < 64 by omega) (rb_p64 (show c < 6 by omega))
            rw [rb_shl c (by omega), rb_or, nI_1, rb_ix64, nI_clamp (by omega), hw (row + 1) (T ||| 2 ^ c) (by omega) (rb_orN hT (by omega))]
            refine ⟨vp_in_nI (by omega) (by omega), nm_r (nI_add _ _) (nm_r (nI_1 c) hi)⟩
          · have hf : (rb_ok B row c && !T.testBit c) = false := by
              have : T.testBit c = true := by simpa using y
              rw [this]; simp
            exact hz hf _ rfl
        · have hf : (rb_ok B row c && !T.testBit c) = false := by
            have : rb_ok B row c = false := by unfold rb_ok; simpa using z
            rw [this]; rfl
          exact hz hf _ rfl
    exact key col 0 (by omega)
theorem rb_xcolin {post : Int32 → SX → Prop} {row T p left : Nat} (hN0 : 0 < N) (hN : N ≤ 6) (hrow : row < N) (hT : T < 2 ^ N) (hp : p ≤ N) (hl : left < 2 ^ 31) (hB : rb_bd N B bd)
    (h : ∀ wy nx c, c ≤ N → rb_bf N (rb_ok B) row T p c ≤ left → (c < N → left < rb_bf N (rb_ok B) row T p (c + 1)) → post (nI c) ((nI N), ft, bd, we, wy, nx, su, la, fa, ch, ro, pr, pc)) : wpX_columnIn post ((nI N), ft, bd, we, wy, nx, su, la, fa, ch, ro, pr, pc) (nI row) (nI T) (nI p) (nI left) := by
  have key : ∀ d c wy nx, c + d = N → rb_bf N (rb_ok B) row T p c ≤ left → wX_columnIn_3 post (nI row) (nI T) (nI p) (nI left) (d + 1) (nI c) (nI N) ft bd we wy nx su la fa ch ro pr pc := by
    intro d
    induction d with
    | zero =>
      intro c wy nx hc h1
      have e : c = N := by omega
      subst e
      rw [wX_columnIn_3]
      exact br_t (nI_le (Nat.le_refl _) (by omega)) (h wy nx c (Nat.le_refl _) h1 (fun z => absurd z (Nat.lt_irrefl _)))
    | succ d ih =>
      intro c wy nx hc h1
      rw [wX_columnIn_3]
      refine br_f (nI_ge (by omega) (by omega)) ?_
      have hb := rb_bf_b (ok := rb_ok B) hN (row := row) (T := T) (p := p) (col := c + 1) (by omega)
      rw [nI_1]
      refine rb_xbefore hN0 hN hrow hT hp (by omega) hB (fun wy nx => ?_)
      refine pk_lt left (rb_bf N (rb_ok B) row T p (c + 1)) (fun z => h wy nx c (by omega) h1 (fun _ => z)) (fun z => nm_e (ih (c + 1) wy nx (by omega) z))
  unfold wpX_columnIn
  exact ⟨N + 1, key N 0 wy nx (by omega) (by rw [rb_bf_0]; omega)⟩
theorem rb_xcol60 {post : Int32 → SX → Prop} {r : Nat} {q : List Nat} (hN0 : 0 < N) (hN : N ≤ 6) (hk : k ≤ N) (hr : r < N) (hB : rb_bd N B bd)
    (h : ∀ wy nx, post (nI (rb_at q r)) ((nI N), ft, bd, we, wy, nx, su, la, fa, ch, ro, pr, pc)) :
    ∀ d s left x8 wy nx, s.length + d = r + 1 → left < 2 ^ 31 → rb_cn N s ≤ k → (rb_pl N k (rb_ok B) (N - s.length) s)[left]? = some q → (d = 0 → x8 = nI (rb_at q r)) →
      wX_column_60 post (nI r) (d + 1) (nI left) (nI (k - rb_cn N s)) (nI (rb_tk N s)) x8 (nI s.length) (nI N) ft bd we wy nx su la fa ch ro pr pc := by
  intro d
  induction d with
  | zero =>
    intro s left x8 wy nx hs _ _ _ h8
    rw [wX_column_60]
    rw [h8 rfl]
    exact br_t (nI_lt (by omega) (by omega)) (h wy nx)
  | succ d ih =>
    intro s left x8 wy nx hs hl hc hq _
    rw [wX_column_60]
    refine br_f (nI_nlt (by omega) (by omega)) ?_
    refine rb_xcolin hN0 hN (by omega) (rb_tk_b s) (by omega) hl hB (fun wy nx c hcN h1 h2 => ?_)
    refine rb_xbefore hN0 hN (by omega) (rb_tk_b s) (by omega) hcN hB (fun wy nx => ?_)
    refine nm_r (pk_sub h1) ?_
    obtain ⟨m, hm⟩ : ∃ m, N - s.length = m + 1 := ⟨N - s.length - 1, by omega⟩
    rw [hm] at hq
    obtain ⟨k1, k2⟩ := rb_unrank (by omega) hc hq hcN h1 h2
    have hlen : (c :: s).length = s.length + 1 := rfl
    have h8 : d = 0 → nI c = nI (rb_at q r) := by
      intro hd
      obtain ⟨t, ht⟩ := rb_pl_ext m (c :: s) (List.mem_of_getElem? k2)
      rw [ht, rb_at_app t (c :: s) (by omega), show r = s.length by omega, rb_at_h]
    have hi := fun x7 x6 => ih (c :: s) (left - rb_bf N (rb_ok B) s.length (rb_tk N s) (k - rb_cn N s) c) (nI c) x7 x6 (by omega) (by omega) k1 (by rw [show N - (c :: s).length = m by omega]; exact k2) h8
    refine pk_le N c (fun z => ?_) (fun z => ?_)
    · have e : c = N := by omega
      have hi := hi wy nx
      rw [e, rb_cn_N, rb_tk_N, List.length_cons] at hi
      rw [e]
      exact nm_r (nI_1 _) hi
    · have hi := hi wy nx
      rw [rb_cn_lt z, rb_tk_lt z, hlen] at hi
      have hk2 : rb_cn N s + 1 ≤ k := by rw [rb_cn_lt z] at k1; exact k1
      refine nm_r (e' := nI (rb_tk N s ||| 2 ^ c)) (by rw [rb_shl c (by omega), rb_or]) (nm_r (e' := nI (k - (rb_cn N s + 1))) ?_ (nm_r (nI_1 _) hi))
      rw [show k - rb_cn N s = (k - (rb_cn N s + 1)) + 1 by omega, pk_m1]
theorem rb_ycolumn {post : Int32 → SY → Prop} {i r : Nat} (hN0 : 0 < N) (hN : N ≤ 6) (hk : k ≤ N) (hi : i < 2 ^ 31) (hr : r < N) (ho : rb_on B on)
    (h1 : ∀ q', (rb_pl N k (rb_ok B) N [])[i]? = some q' → ∀ yr yp yt ya co, post (nI (rb_at q' r)) ((nI N), yr, yp, yt, ya, on, we, co))
    (h2 : (rb_pl N k (rb_ok B) N [])[i]? = none → ∀ yr yp yt ya co, post (-4) ((nI N), yr, yp, yt, ya, on, we, co)) : wpY_column post ((nI N), yr, yp, yt, ya, on, we, co) (nI k) (nI i) (nI r) := by
  unfold wpY_column
  refine rb_ybad0 hN hk (br_t rfl (rb_ynorow0 hN hr (br_t rfl (br_t (nI_pos' hi) (rb_ybegin0 ?_)))))
  refine rb_nx1 hN0 hN hk (rb_hok hN ho) (fun e co => ?_) (fun q rest e hq co hco => ?_) co
  · refine ⟨1, ?_⟩
    rw [wY_column_41]
    have h66 : wY_column_66 post (nI r) 0 (nI N) 0 0 0 0 on we co := by
      unfold wY_column_66
      exact br_t rfl (h2 (by rw [e]; rfl) _ _ _ _ _)
    exact br_c (fun _ => h66) (fun _ => br_t rfl h66)
  · rw [e] at h1 h2
    exact ⟨rest.length + 2, rb_ycol_l hN hk hi hr (rb_hok hN ho) rest q 0 co hq hco (by omega) (fun q' hq' yr yp yt co => h1 q' hq' yr yp yt 0 co) (fun hn yr yp yt co => h2 hn yr yp yt 0 co)⟩
end
theorem i_vc_column {k : Nat} {u : SX} {v : SY} (I : i_Rel k u v) (hk : k + 4 ≤ 2049) (v1 : Int32) (v2 : Int32) (v3 : Int32) : wpX_column (fun r u' => wpY_column (fun r' v' => r' = r ∧ i_Rel (k + 4) u' v') v v1 v2 v3) u v1 v2 v3 := by
  refine rb_el (P := fun u v => wpX_column (fun r u' => wpY_column (fun r' v' => r' = r ∧ i_Rel (k + 4) u' v') v v1 v2 v3) u v1 v2 v3) I ?_
  intro N B ft bd we wy nx su la fa ch ro pr pc yr yp yt ya on co hR
  obtain ⟨hN0, hN, hB, hz, ho, ht⟩ := hR
  have hR : rb_R N B bd on fa ch := ⟨hN0, hN, hB, hz, ho, ht⟩
  rcases rb_arg N hN v1 with hx | ⟨j, hj, rfl⟩
  · unfold wpX_column
    refine rb_xbadn1 hx (br_f (by decide) ?_)
    unfold wpY_column
    exact rb_ybad1 hx (br_f (by decide) ⟨rfl, rb_in hR⟩)
  · unfold wpX_column
    refine rb_xbadn0 hN hj (br_t rfl ?_)
    rcases rb_rowarg N hN v3 with hx | ⟨r, hr, rfl⟩
    · have hy : wpY_column (fun r' v' => r' = -1 ∧ i_Rel (k + 4) ((nI N), ft, bd, we, wy, nx, su, la, fa, ch, ro, pr, pc) v') ((nI N), yr, yp, yt, ya, on, we, co) (nI j) v2 v3 := by
        unfold wpY_column
        exact rb_ybad0 hN hj (br_t rfl (rb_ynorow1 hx (br_f (by decide) ⟨rfl, rb_in hR⟩)))
      rcases hx with hx | ⟨h1, h2, h3⟩
      · exact br_t hx hy
      · exact br_f h1 (br_f h2 hy)
    · refine br_f (nI_pos (by omega)) (br_t (nI_lt hr (by omega)) ?_)
      refine rb_xcount hN0 hN hj hB (fun wy nx => ?_)
      by_cases h0 : v2 < 0
      · refine br_t h0 ?_
        have h0' : ¬ (0 : Int32) ≤ v2 := fun z => absurd h0 (Int32.not_lt.mpr z)
        unfold wpY_column
        exact rb_ybad0 hN hj (br_t rfl (rb_ynorow0 hN hr (br_t rfl (br_f h0' ⟨rfl, rb_in hR⟩))))
      · obtain ⟨i, hi, rfl⟩ := nI_of h0
        have hb := rb_ct_b (ok := rb_ok B) hN N j 0 (Nat.le_refl N)
        refine br_f h0 (pk_lt i (rb_ct N (rb_ok B) N j 0) (fun z => ?_) (fun z => ?_))
        · rw [← rb_len0] at z
          have hq := List.getElem?_eq_getElem z
          refine ⟨r + 2, rb_xcol60 (q := (rb_pl N j (rb_ok B) N [])[i]) hN0 hN hj hr hB (fun wy nx => ?_) (r + 1) [] i (nI N) wy nx (by rw [List.length_nil]; omega) hi (Nat.zero_le _) hq (fun z => absurd z (Nat.succ_ne_zero r))⟩
          refine rb_ycolumn hN0 hN hj hi hr ho (fun q' hq' yr yp yt ya co => ?_) (fun hn => ?_)
          · rw [hq] at hq'
            cases hq'
            exact ⟨rfl, rb_in hR⟩
          · rw [hq] at hn
            exact absurd hn (by simp)
        · rw [← rb_len0] at z
          have hq := List.getElem?_eq_none z
          refine rb_ycolumn hN0 hN hj hi hr ho (fun q' hq' => ?_) (fun hn yr yp yt ya co => ⟨rfl, rb_in hR⟩)
          rw [hq] at hq'
          exact absurd hq' (by simp)
end
section
/-! pure: matchings by paths, dead columns, the cover -/
def rb_fu (f : Nat → Nat) (k v : Nat) : Nat → Nat := fun i => if i = k then v else f i
theorem rb_fu_s {f : Nat → Nat} {k v : Nat} : rb_fu f k v k = v := if_pos rfl
theorem rb_fu_n {f : Nat → Nat} {k v i : Nat} (h : ¬ i = k) : rb_fu f k v i = f i := if_neg h
def rb_mu (mt : Nat → Option Nat) (x v : Nat) : Nat → Option Nat := fun y => if y = x then some v else mt y
def rb_mp (mt : Nat → Option Nat) (q p : Nat → Nat) : Nat → Nat → Option Nat
  | 0 => mt
  | k + 1 => rb_mu (rb_mp mt q p k) (q k) (p k)
def rb_mc (mt : Nat → Option Nat) : Nat := rb_sn (fun c => if (mt c).isSome then 1 else 0) 6
def rb_mv (B : Nat → Nat) (mt : Nat → Option Nat) (r : Nat) : Prop := (∀ c x, c < 6 → mt c = some x → x < r ∧ (B x).testBit c = true) ∧ (∀ c d x, c < 6 → d < 6 → mt c = some x → mt d = some x → c = d)
def rb_dd (B : Nat → Nat) (mt : Nat → Option Nat) (r D : Nat) : Prop := (∀ c, c < 6 → D.testBit c = true → ∃ x, mt c = some x) ∧ (∀ x, x < r → (∃ c, c < 6 ∧ mt c = some x ∧ D.testBit c = false) ∨ (∀ d, d < 6 → (B x).testBit d = true → D.testBit d = true))
def rb_pa (B : Nat → Nat) (mt : Nat → Option Nat) (r h : Nat) (p q : Nat → Nat) (t : Nat) : Prop := (0 < h → p 0 = r) ∧ (∀ i, i + 1 < h → q i < 6 ∧ (B (p i)).testBit (q i) = true ∧ mt (q i) = some (p (i + 1)) ∧ t.testBit (q i) = true) ∧ (∀ i j, i + 1 < h → j + 1 < h → q i = q j → i = j)
def rb_cl (B : Nat → Nat) (mt : Nat → Option Nat) (r h : Nat) (p : Nat → Nat) (t : Nat) : Prop := (∀ c, c < 6 → t.testBit c = true → ∃ x, mt c = some x ∧ ((∃ i, 0 < i ∧ i < h ∧ p i = x) ∨ (∀ d, d < 6 → (B x).testBit d = true → t.testBit d = true))) ∧ (0 < h ∨ ∀ d, d < 6 → (B r).testBit d = true → t.testBit d = true)
theorem rb_bor {a b : Bool} (h : a = true) : (a || b) = true := by rw [h]; rfl
section
variable {B : Nat → Nat} {mt : Nat → Option Nat} {r D t : Nat} {p q : Nat → Nat}
theorem rb_pa_le {h : Nat} (hm : rb_mv B mt r) (hp : rb_pa B mt r h p q t) : ∀ i, i < h → p i ≤ r := by
  intro i hi
  cases i with
  | zero => rw [hp.1 hi]; exact Nat.le_refl _
  | succ i =>
    obtain ⟨h1, _, h3, _⟩ := hp.2.1 i hi
    exact Nat.le_of_lt (hm.1 _ _ h1 h3).1
theorem rb_push {d c x : Nat} (hp : rb_pa B mt r (d + 1) p q t) (hc : rb_cl B mt r (d + 1) p t) (h6 : c < 6) (hb : (B (p d)).testBit c = true) (ht : t.testBit c = false) (hx : mt c = some x) :
    rb_pa B mt r (d + 2) (rb_fu p (d + 1) x) (rb_fu q d c) (t ||| 2 ^ c) ∧ rb_cl B mt r (d + 2) (rb_fu p (d + 1) x) (t ||| 2 ^ c) := by
  obtain ⟨p1, p2, p3⟩ := hp
  refine ⟨⟨fun _ => ?_, fun i hi => ?_, fun i j hi hj hij => ?_⟩, ⟨fun y hy hty => ?_, Or.inl (by omega)⟩⟩
  · rw [rb_fu_n (by omega)]; exact p1 (by omega)
  · by_cases e : i = d
    · subst e
      rw [rb_fu_s, rb_fu_s, rb_fu_n (by omega), rb_tbor, decide_eq_true rfl]
      exact ⟨h6, hb, hx, by simp⟩
    · rw [rb_fu_n e, rb_fu_n (show ¬ i = d + 1 by omega), rb_fu_n (show ¬ i + 1 = d + 1 by omega), rb_tbor]
      obtain ⟨a1, a2, a3, a4⟩ := p2 i (by omega)
      exact ⟨a1, a2, a3, rb_bor a4⟩
  · by_cases e1 : i = d
    · by_cases e2 : j = d
      · omega
      · subst e1
        rw [rb_fu_s, rb_fu_n e2] at hij
        have := (p2 j (by omega)).2.2.2
        rw [← hij, ht] at this
        exact absurd this (by decide)
    · by_cases e2 : j = d
      · subst e2
        rw [rb_fu_s, rb_fu_n e1] at hij
        have := (p2 i (by omega)).2.2.2
        rw [hij, ht] at this
        exact absurd this (by decide)
      · rw [rb_fu_n e1, rb_fu_n e2] at hij
        exact p3 i j (by omega) (by omega) hij
  · by_cases e : y = c
    · subst e
      exact ⟨x, hx, Or.inl ⟨d + 1, by omega, by omega, rb_fu_s⟩⟩
    · rw [rb_tbor, decide_eq_false (fun z => e z.symm), Bool.or_false] at hty
      obtain ⟨z, hz, hz2⟩ := hc.1 y hy hty
      refine ⟨z, hz, ?_⟩
      rcases hz2 with ⟨i, i1, i2, i3⟩ | hz2
      · exact Or.inl ⟨i, i1, by omega, by rw [rb_fu_n (by omega)]; exact i3⟩
      · exact Or.inr (fun d hd hbd => by rw [rb_tbor]; exact rb_bor (hz2 d hd hbd))
theorem rb_pop {d : Nat} (hp : rb_pa B mt r (d + 1) p q t) (hc : rb_cl B mt r (d + 1) p t) (hf : ∀ y, y < 6 → (B (p d)).testBit y = true → t.testBit y = true) :
    rb_pa B mt r d p q t ∧ rb_cl B mt r d p t := by
  obtain ⟨p1, p2, p3⟩ := hp
  refine ⟨⟨fun _ => p1 (by omega), fun i hi => p2 i (by omega), fun i j hi hj => p3 i j (by omega) (by omega)⟩, ⟨fun y hy hty => ?_, ?_⟩⟩
  · obtain ⟨z, hz, hz2⟩ := hc.1 y hy hty
    refine ⟨z, hz, ?_⟩
    rcases hz2 with ⟨i, i1, i2, i3⟩ | hz2
    · by_cases e : i = d
      · subst e
        rw [← i3]
        exact Or.inr hf
      · exact Or.inl ⟨i, i1, by omega, i3⟩
    · exact Or.inr hz2
  · by_cases e : d = 0
    · subst e
      rw [p1 (by omega)] at hf
      exact Or.inr hf
    · exact Or.inl (by omega)
theorem rb_fail (hm : rb_mv B mt r) (hd : rb_dd B mt r D) (hc : rb_cl B mt r 0 p t) : rb_mv B mt (r + 1) ∧ rb_dd B mt (r + 1) (D ||| t) := by
  refine ⟨⟨fun c x h1 h2 => ⟨by have := (hm.1 c x h1 h2).1; omega, (hm.1 c x h1 h2).2⟩, hm.2⟩, ⟨fun c h6 hb => ?_, fun x hx => ?_⟩⟩
  · rw [Nat.testBit_or, Bool.or_eq_true] at hb
    rcases hb with hb | hb
    · exact hd.1 c h6 hb
    · obtain ⟨x, hx, _⟩ := hc.1 c h6 hb
      exact ⟨x, hx⟩
  · have hcl : ∀ x, (∀ d, d < 6 → (B x).testBit d = true → t.testBit d = true) → ∀ d, d < 6 → (B x).testBit d = true → (D ||| t).testBit d = true := by
      intro x h d hd hb
      rw [Nat.testBit_or, h d hd hb, Bool.or_true]
    by_cases e : x = r
    · subst e
      rcases hc.2 with z | z
      · exact absurd z (Nat.lt_irrefl 0)
      · exact Or.inr (hcl _ z)
    · rcases hd.2 x (by omega) with ⟨c, h6, h1, h2⟩ | h
      · cases e : t.testBit c with
        | false => exact Or.inl ⟨c, h6, h1, by rw [Nat.testBit_or, h2, e]; rfl⟩
        | true =>
          obtain ⟨y, hy, hy2⟩ := hc.1 c h6 e
          rw [h1] at hy
          cases hy
          rcases hy2 with ⟨i, _, i2, _⟩ | hy2
          · exact absurd i2 (Nat.not_lt_zero i)
          · exact Or.inr (hcl _ hy2)
      · exact Or.inr (fun d h6 hb => by rw [Nat.testBit_or, h d h6 hb]; rfl)
theorem rb_mp_n {y : Nat} : ∀ k, (∀ i, i < k → ¬ q i = y) → rb_mp mt q p k y = mt y := by
  intro k
  induction k with
  | zero => intro _; rfl
  | succ k ih =>
    intro h
    rw [rb_mp]
    unfold rb_mu
    rw [if_neg (fun z => h k (by omega) z.symm)]
    exact ih (fun i hi => h i (by omega))
theorem rb_mp_y : ∀ k, (∀ i j, i < k → j < k → q i = q j → i = j) → ∀ i, i < k → rb_mp mt q p k (q i) = some (p i) := by
  intro k
  induction k with
  | zero => intro _ i hi; exact absurd hi (Nat.not_lt_zero i)
  | succ k ih =>
    intro h i hi
    rw [rb_mp]
    unfold rb_mu
    by_cases e : i = k
    · subst e; rw [if_pos rfl]
    · rw [if_neg (fun z => e (h i k hi (by omega) z))]
      exact ih (fun a b ha hb => h a b (by omega) (by omega)) i (by omega)
theorem rb_succ {d : Nat} (hm : rb_mv B mt r) (hd : rb_dd B mt r D) (h0 : p 0 = r) (h1 : ∀ i, i < d + 1 → q i < 6 ∧ (B (p i)).testBit (q i) = true) (h2 : ∀ i, i < d → mt (q i) = some (p (i + 1))) (h3 : mt (q d) = none) (h4 : ∀ i j, i < d + 1 → j < d + 1 → q i = q j → i = j) :
    rb_mv B (rb_mp mt q p (d + 1)) (r + 1) ∧ rb_dd B (rb_mp mt q p (d + 1)) (r + 1) D ∧ rb_mc (rb_mp mt q p (d + 1)) = rb_mc mt + 1 := by
  have hy := rb_mp_y (mt := mt) (q := q) (p := p) (d + 1) h4
  have hor : ∀ y, (∃ i, i < d + 1 ∧ q i = y) ∨ ((∀ i, i < d + 1 → ¬ q i = y)) := by
    intro y
    by_cases e : ∃ i, i < d + 1 ∧ q i = y
    · exact Or.inl e
    · exact Or.inr (fun i hi z => e ⟨i, hi, z⟩)
  have hpr : ∀ i, i < d → p (i + 1) < r := fun i hi => (hm.1 _ _ (h1 i (by omega)).1 (h2 i hi)).1
  have hpi : ∀ i j, i < d + 1 → j < d + 1 → p i = p j → i = j := by
    intro i j hi hj e
    cases i with
    | zero =>
      cases j with
      | zero => rfl
      | succ j => have := hpr j (by omega); omega
    | succ i =>
      cases j with
      | zero => have := hpr i (by omega); omega
      | succ j =>
        have a := h2 i (by omega)
        have b := h2 j (by omega)
        rw [e] at a
        have := h4 i j (by omega) (by omega) (hm.2 _ _ _ (h1 i (by omega)).1 (h1 j (by omega)).1 a b)
        omega
  have hoff : ∀ y x i, y < 6 → (∀ i, i < d + 1 → ¬ q i = y) → mt y = some x → i < d + 1 → ¬ x = p i := by
    intro y x i h6 hn hx hi e
    cases i with
    | zero => have := (hm.1 y x h6 hx).1; omega
    | succ i =>
      rw [e] at hx
      exact hn i (by omega) (hm.2 _ _ _ (h1 i (by omega)).1 h6 (h2 i (by omega)) hx)
  have hD : ∀ e i, i + e = d → D.testBit (q i) = false := by
    intro e
    induction e with
    | zero =>
      intro i hi
      have : i = d := by omega
      subst this
      cases e : D.testBit (q i) with
      | false => rfl
      | true =>
        obtain ⟨x, hx⟩ := hd.1 _ (h1 i (by omega)).1 e
        rw [h3] at hx
        exact nomatch hx
    | succ e ih =>
      intro i hi
      cases e : D.testBit (q i) with
      | false => rfl
      | true =>
        rcases hd.2 (p (i + 1)) (hpr i (by omega)) with ⟨c, h6, a, b⟩ | h
        · have := hm.2 _ _ _ (h1 i (by omega)).1 h6 (h2 i (by omega)) a
          rw [this, b] at e
          exact nomatch e
        · have a := h (q (i + 1)) (h1 (i + 1) (by omega)).1 (h1 (i + 1) (by omega)).2
          rw [ih (i + 1) (by omega)] at a
          exact nomatch a
  refine ⟨⟨fun c x h6 hx => ?_, fun c c' x h6 h6' hx hx' => ?_⟩, ⟨fun c h6 hb => ?_, fun x hx => ?_⟩, ?_⟩
  · rcases hor c with ⟨i, hi, e⟩ | hn
    · rw [← e, hy i hi] at hx
      cases hx
      refine ⟨?_, by rw [← e]; exact (h1 i hi).2⟩
      cases i with
      | zero => omega
      | succ i => have := hpr i (by omega); omega
    · rw [rb_mp_n _ hn] at hx
      have := hm.1 c x h6 hx
      exact ⟨by omega, this.2⟩
  · rcases hor c with ⟨i, hi, e⟩ | hn
    · rw [← e, hy i hi] at hx
      rcases hor c' with ⟨j, hj, e'⟩ | hn'
      · rw [← e', hy j hj] at hx'
        rw [← e, ← e', hpi i j hi hj (by rw [Option.some.inj hx, Option.some.inj hx'])]
      · rw [rb_mp_n _ hn'] at hx'
        exact absurd (Option.some.inj hx).symm (hoff c' x i h6' hn' hx' hi)
    · rw [rb_mp_n _ hn] at hx
      rcases hor c' with ⟨j, hj, e'⟩ | hn'
      · rw [← e', hy j hj] at hx'
        exact absurd (Option.some.inj hx').symm (hoff c x j h6 hn hx hj)
      · rw [rb_mp_n _ hn'] at hx'
        exact hm.2 c c' x h6 h6' hx hx'
  · rcases hor c with ⟨i, hi, e⟩ | hn
    · exact ⟨p i, by rw [← e]; exact hy i hi⟩
    · rw [rb_mp_n _ hn]; exact hd.1 c h6 hb
  · by_cases hon : ∃ i, i < d + 1 ∧ p i = x
    · obtain ⟨i, hi, e⟩ := hon
      exact Or.inl ⟨q i, (h1 i hi).1, by rw [hy i hi, e], hD (d - i) i (by omega)⟩
    · have hxr : x < r := by
        have : ¬ x = r := fun z => hon ⟨0, by omega, by rw [h0, z]⟩
        omega
      rcases hd.2 x hxr with ⟨c, h6, a, b⟩ | h
      · refine Or.inl ⟨c, h6, ?_, b⟩
        rw [rb_mp_n, a]
        intro i hi e
        rw [← e] at a
        by_cases ei : i = d
        · subst ei; rw [h3] at a; exact nomatch a
        · rw [h2 i (by omega)] at a
          exact hon ⟨i + 1, by omega, Option.some.inj a⟩
      · exact Or.inr h
  · unfold rb_mc
    have e : rb_sn (fun c => if (rb_mp mt q p (d + 1) c).isSome then 1 else 0) 6 = rb_sn (fun c => (if (mt c).isSome then 1 else 0) + (if c = q d then 1 else 0)) 6 := by
      apply rb_sn_congr
      intro c h6
      rcases hor c with ⟨i, hi, e⟩ | hn
      · rw [← e, hy i hi]
        by_cases ei : i = d
        · subst ei; rw [h3, if_pos rfl]; rfl
        · rw [h2 i (by omega), if_neg (fun z => ei (h4 i d hi (by omega) z))]; rfl
      · rw [rb_mp_n _ hn, if_neg (show ¬ c = q d from fun z => hn d (by omega) z.symm)]; rfl
    rw [e, rb_sn_add]
    congr 1
    have h6 := (h1 d (by omega)).1
    have hone : ∀ k n, rb_sn (fun c => if c = k then 1 else 0) n = if k < n then 1 else 0 := by
      intro k n
      induction n with
      | zero => rfl
      | succ n ih =>
        rw [rb_sn, ih]
        rcases Nat.lt_trichotomy k n with z | z | z
        · rw [if_pos z, if_neg (show ¬ n = k by omega), if_pos (show k < n + 1 by omega)]
        · rw [if_neg (show ¬ k < n by omega), if_pos z.symm, if_pos (show k < n + 1 by omega)]
        · rw [if_neg (show ¬ k < n by omega), if_neg (show ¬ n = k by omega), if_neg (show ¬ k < n + 1 by omega)]
    rw [hone, if_pos h6]
end
end
section
/-! X's findColumn, movePath, findMost -/
def rb_rv : Option Nat → Int32
  | none => -1
  | some x => nI x
def rb_ro (mt : Nat → Option Nat) (ro : Nat → Int32) : Prop := ∀ c, c < 6 → ro c = rb_rv (mt c)
def rb_dp : Nat → Int32
  | 0 => -1
  | d + 1 => nI d
theorem rb_dp_m (d : Nat) : nI d + (-1) = rb_dp d := by
  cases d with
  | zero => rfl
  | succ d => exact pk_m1 d
section
variable {N k : Nat} {B : Nat → Nat} {ft : Int32} {bd we wy nx su la fa ch ro pr pc : Nat → Int32} {mt : Nat → Option Nat} {r D : Nat}
theorem rb_xmove {post : SX → Prop} {d : Nat} {p q : Nat → Nat} (hd : d < 7) (hro : rb_ro mt ro) (hp : ∀ i, i < d + 1 → pr i = nI (p i) ∧ p i < 128) (hq : ∀ i, i < d + 1 → pc i = nI (q i) ∧ q i < 6)
    (h : ∀ ro, rb_ro (rb_mp mt q p (d + 1)) ro → post ((nI N), ft, bd, we, wy, nx, su, la, fa, ch, ro, pr, pc)) : wpX_movePath post ((nI N), ft, bd, we, wy, nx, su, la, fa, ch, ro, pr, pc) (nI d) := by
  have key : ∀ e i ro, i + e = d + 1 → rb_ro (rb_mp mt q p i) ro → wX_movePath_2 post (nI d) (nI N) ft (e + 1) (nI i) bd we wy nx su la fa ch ro pr pc := by
    intro e
    induction e with
    | zero =>
      intro i ro hi h1
      have e : i = d + 1 := by omega
      subst e
      rw [wX_movePath_2]
      exact br_t (nI_lt (by omega) (by omega)) (h ro h1)
    | succ e ih =>
      intro i ro hi h1
      rw [wX_movePath_2]
      obtain ⟨p1, p2⟩ := hp i (by omega)
      obtain ⟨q1, q2⟩ := hq i (by omega)
      refine br_f (nI_nlt (by omega) (by omega)) ?_
      rw [nI_clamp (n := i) (by omega), p1, q1, nI_clamp (n := q i) (by omega), rb_nb p2]
      refine ⟨vp_in_nI (by omega) (by omega), vp_in_nI (by omega) (by omega), vp_in_nI (by omega) (by omega), nm_e (nm_r (nI_1 i) (ih (i + 1) _ (by omega) ?_))⟩
      intro c hc
      rw [rb_mp]
      unfold rb_mu
      by_cases e : c = q i
      · rw [e, pk_us, if_pos rfl]; rfl
      · rw [pk_un e, if_neg e]; exact h1 c hc
  unfold wpX_movePath
  exact ⟨d + 2, key (d + 1) 0 ro (by omega) hro⟩
theorem rb_pc5 {t c : Nat} (hc : c < 6) (h : t.testBit c = false) : rb_pc (t ||| 2 ^ c) 6 = rb_pc t 6 + 1 := by
  rw [rb_pc_or h, if_pos hc]
theorem rb_xfc12 {post : Int32 → SX → Prop} (hN : N ≤ 6) (hB : rb_bd N B bd) (hr : r < N) (hm : rb_mv B mt r) (hdd : rb_dd B mt r D) (hro : rb_ro mt ro)
    (h : ∀ (b : Nat) mt' D' ft ro pr pc, b ≤ 1 → rb_mv B mt' (r + 1) → rb_dd B mt' (r + 1) D' → rb_ro mt' ro → rb_mc mt' = rb_mc mt + b → post (nI b) ((nI N), ft, bd, we, wy, nx, su, la, fa, ch, ro, pr, pc)) :
    ∀ e σ hh t p q pr pc, σ + e = 14 → t < 64 → σ + hh = 2 * rb_pc t 6 + 1 → hh ≤ rb_pc t 6 + 1 → rb_pa B mt r hh p q t → rb_cl B mt r hh p t → (∀ i, i < hh → pr i = nI (p i)) → (∀ i, i + 1 < hh → pc i = nI (q i)) →
      wX_findColumn_12 post (nI N) (e + 1) (rb_dp hh) (nI σ) (nI t) bd we wy nx su la fa ch ro pr pc := by
  intro e
  induction e with
  | zero =>
    intro σ hh t p q pr pc h1 ht h2 h3 hp hc hpr hpc
    have := rb_pc_le t 6
    omega
  | succ e ih =>
    intro σ hh t p q pr pc h1 ht h2 h3 hp hc hpr hpc
    have hpc6 := rb_pc_le t 6
    rw [wX_findColumn_12]
    refine br_f (nI_ge (b := 100) (by omega) (by omega)) ?_
    cases hh with
    | zero =>
      refine br_t (by decide) ?_
      obtain ⟨a1, a2⟩ := rb_fail hm hdd hc
      exact h 0 mt (D ||| t) (nI t) ro pr pc (by omega) a1 a2 hro rfl
    | succ d =>
      show (nI d < 0 → _) ∧ (¬ nI d < 0 → _)
      have hpd := rb_pa_le hm hp d (by omega)
      have hb := rb_bd64 hN hB (show p d < 6 by omega)
      refine br_f (nI_pos (by omega)) ⟨vp_in_nI (n := d) (by omega) (by omega), ?_⟩
      rw [show rb_dp (d + 1) = nI d from rfl, nI_clamp (n := d) (by omega), hpr d (by omega), nI_clamp (n := p d) (by omega), (hB (p d) (by omega)).1, rb_andn _ hb t ht]
      refine ⟨vp_in_nI (by omega) (by omega), nm_e ?_⟩
      refine pk_eq (B (p d) &&& (63 ^^^ t)) 0 (fun z => ?_) (fun z => ?_) rfl rfl (by have := rb_and64 hb (63 ^^^ t); omega)
      · rw [rb_dp_m]
        have hf : ∀ y, y < 6 → (B (p d)).testBit y = true → t.testBit y = true := by
          intro y hy hby
          have a := rb_tbn (B (p d)) t hy
          rw [z, Nat.zero_testBit, hby] at a
          cases e : t.testBit y with
          | true => rfl
          | false => rw [e] at a; exact nomatch a
        obtain ⟨a1, a2⟩ := rb_pop hp hc hf
        exact nm_e (nm_r (nI_1 σ) (ih (σ + 1) d t p q pr pc (by omega) ht (by omega) (by omega) a1 a2 (fun i hi => hpr i (by omega)) (fun i hi => hpc i (by omega))))
      · obtain ⟨l1, l2, l3, -, l5⟩ := rb_low (B (p d) &&& (63 ^^^ t)) (rb_and64 hb _) (by omega)
        generalize rb_lb (B (p d) &&& (63 ^^^ t)) = c at l1 l2 l3 l5
        rw [rb_tbn _ _ l1, Bool.and_eq_true] at l2
        have hbc := l2.1
        have htc : t.testBit c = false := by have := l2.2; simpa using this
        have hp5 := rb_pc5 l1 htc
        have hpt := rb_pc_le (t ||| 2 ^ c) 6
        have hpos := Nat.two_pow_pos c
        have h264 := rb_p64 l1
        have e1 : nI (2 ^ c) - 1 = nI (2 ^ c - 1) := pk_sub (b := 1) hpos
        refine nm_r l3 ?_
        rw [e1]
        refine rb_xsize (by omega) ?_
        rw [l5, nI_clamp (n := c) (by omega), rb_nb8 (by omega), hro c l1]
        refine nm_r (rb_or t (2 ^ c)) ⟨vp_in_nI (by omega) (by omega), nm_e ⟨vp_in_nI l1 (by omega), ?_⟩⟩
        cases hmc : mt c with
        | some x =>
          have hx := (hm.1 c x l1 hmc).1
          refine br_t (nI_pos' (by omega)) (nm_r (nI_1 d) ⟨vp_in_nI l1 (by omega), vp_in_nI (by omega) (by omega), ?_⟩)
          rw [show rb_rv (some x) = nI x from rfl, rb_nb (by omega), nI_clamp (n := d + 1) (by omega)]
          obtain ⟨a1, a2⟩ := rb_push hp hc l1 hbc htc hmc
          refine nm_e (nm_r (nI_1 σ) (ih (σ + 1) (d + 2) (t ||| 2 ^ c) (rb_fu p (d + 1) x) (rb_fu q d c) _ _ (by omega) (rb_or64 ht h264) (by omega) (by omega) a1 a2 ?_ ?_))
          · intro i hi
            by_cases e : i = d + 1
            · rw [e, pk_us, rb_fu_s]
            · rw [pk_un e, rb_fu_n e]; exact hpr i (by omega)
          · intro i hi
            by_cases e : i = d
            · rw [e, pk_us, rb_fu_s]
            · rw [pk_un e, rb_fu_n e]; exact hpc i (by omega)
        | none =>
          refine br_f (by decide) ?_
          refine rb_xmove (mt := mt) (p := p) (q := rb_fu q d c) (by omega) hro (fun i hi => ⟨hpr i hi, by have := rb_pa_le hm hp i hi; omega⟩) (fun i hi => ?_) (fun ro' hro' => ?_)
          · by_cases e : i = d
            · rw [e, pk_us, rb_fu_s]; exact ⟨rfl, l1⟩
            · rw [pk_un e, rb_fu_n e]; exact ⟨hpc i (by omega), (hp.2.1 i (by omega)).1⟩
          · have s1 : ∀ i, i < d + 1 → rb_fu q d c i < 6 ∧ (B (p i)).testBit (rb_fu q d c i) = true := by
              intro i hi
              by_cases e : i = d
              · rw [e, rb_fu_s]; exact ⟨l1, hbc⟩
              · rw [rb_fu_n e]; exact ⟨(hp.2.1 i (by omega)).1, (hp.2.1 i (by omega)).2.1⟩
            have s2 : ∀ i, i < d → mt (rb_fu q d c i) = some (p (i + 1)) := by
              intro i hi
              rw [rb_fu_n (by omega)]; exact (hp.2.1 i (by omega)).2.2.1
            have s3 : mt (rb_fu q d c d) = none := by rw [rb_fu_s]; exact hmc
            have s4 : ∀ i j, i < d + 1 → j < d + 1 → rb_fu q d c i = rb_fu q d c j → i = j := by
              intro i j hi hj hij
              by_cases e1 : i = d
              · by_cases e2 : j = d
                · omega
                · rw [e1, rb_fu_s, rb_fu_n e2] at hij
                  have := (hp.2.1 j (by omega)).2.2.2
                  rw [← hij, htc] at this
                  exact nomatch this
              · by_cases e2 : j = d
                · rw [e2, rb_fu_s, rb_fu_n e1] at hij
                  have := (hp.2.1 i (by omega)).2.2.2
                  rw [hij, htc] at this
                  exact nomatch this
                · rw [rb_fu_n e1, rb_fu_n e2] at hij
                  exact hp.2.2 i j (by omega) (by omega) hij
            obtain ⟨a1, a2, a3⟩ := rb_succ hm hdd (hp.1 (by omega)) s1 s2 s3 s4
            exact h 1 _ D _ ro' pr _ (by omega) a1 a2 hro' a3
theorem rb_xfc {post : Int32 → SX → Prop} (hN : N ≤ 6) (hB : rb_bd N B bd) (hr : r < N) (hm : rb_mv B mt r) (hdd : rb_dd B mt r D) (hro : rb_ro mt ro)
    (h : ∀ (b : Nat) mt' D' ft ro pr pc, b ≤ 1 → rb_mv B mt' (r + 1) → rb_dd B mt' (r + 1) D' → rb_ro mt' ro → rb_mc mt' = rb_mc mt + b → post (nI b) ((nI N), ft, bd, we, wy, nx, su, la, fa, ch, ro, pr, pc)) : wpX_findColumn post ((nI N), 0, bd, we, wy, nx, su, la, fa, ch, ro, pr, pc) (nI r) := by
  unfold wpX_findColumn
  dsimp only
  rw [rb_nb8 (by omega)]
  refine nm_e ⟨15, ?_⟩
  refine rb_xfc12 hN hB hr hm hdd hro h 14 0 1 0 (fun _ => r) (fun _ => 0) _ pc rfl (by omega) rfl (by omega) ⟨fun _ => rfl, fun i hi => by omega, fun i j hi => by omega⟩ ⟨fun c _ hz => ?_, Or.inl (by omega)⟩ (fun i hi => ?_) (fun i hi => by omega)
  · rw [Nat.zero_testBit] at hz; exact nomatch hz
  · rw [show i = 0 by omega, pk_us]
theorem rb_xmost {post : Int32 → SX → Prop} (hN : N ≤ 6) (hB : rb_bd N B bd)
    (h : ∀ mt D ft ro pr pc, rb_mv B mt N → rb_dd B mt N D → post (nI (rb_mc mt)) ((nI N), ft, bd, we, wy, nx, su, la, fa, ch, ro, pr, pc)) : wpX_findMost post ((nI N), ft, bd, we, wy, nx, su, la, fa, ch, ro, pr, pc) := by
  have key2 : ∀ j r mt D ft ro pr pc, r + j = N → rb_mv B mt r → rb_dd B mt r D → rb_ro mt ro → wX_findMost_25 post (j + 1) (nI (rb_mc mt)) (nI r) (nI N) ft bd we wy nx su la fa ch ro pr pc := by
    intro j
    induction j with
    | zero =>
      intro r mt D ft ro pr pc hr hm hd hro
      have e : r = N := by omega
      subst e
      rw [wX_findMost_25]
      exact br_t (nI_le (Nat.le_refl _) (by omega)) (h mt D ft ro pr pc hm hd)
    | succ j ih =>
      intro r mt D ft ro pr pc hr hm hd hro
      rw [wX_findMost_25]
      refine br_f (nI_ge (by omega) (by omega)) ?_
      refine rb_xfc hN hB (by omega) hm hd hro (fun b mt' D' ft ro pr pc hb hm' hd' hro' hc => ?_)
      have hi := ih (r + 1) mt' D' ft ro pr pc (by omega) hm' hd' hro'
      rw [hc] at hi
      refine pk_eq b 0 (fun z => ?_) (fun z => ?_)
      · rw [z] at hi
        exact nm_r (nI_1 r) hi
      · have : b = 1 := by omega
        rw [this] at hi
        exact nm_r (nI_1 _) (nm_r (nI_1 r) hi)
  have key1 : ∀ j t ro, t + j = 6 → (∀ c, c < t → ro c = -1) → wX_findMost_2 post (nI N) ft (j + 1) (nI t) bd we wy nx su la fa ch ro pr pc := by
    intro j
    induction j with
    | zero =>
      intro t ro ht h1
      have e : t = 6 := by omega
      subst e
      rw [wX_findMost_2]
      refine br_t (nI_le (a := 6) (b := 6) (by omega) (by omega)) ⟨N + 1, ?_⟩
      refine key2 N 0 (fun _ => none) 0 ft ro pr pc (by omega) ⟨(fun c x _ hx => nomatch hx), (fun c d x _ _ hx => nomatch hx)⟩ ⟨fun c _ hz => ?_, fun x hx => absurd hx (Nat.not_lt_zero x)⟩ h1
      rw [Nat.zero_testBit] at hz
      exact nomatch hz
    | succ j ih =>
      intro t ro ht h1
      rw [wX_findMost_2]
      refine br_f (nI_ge (b := 6) (by omega) (by omega)) ?_
      rw [nI_clamp (by omega), rb_nbm]
      refine ⟨vp_in_nI (by omega) (by omega), nm_e (nm_r (nI_1 t) (ih (t + 1) _ (by omega) ?_))⟩
      intro c hc
      by_cases e : c = t
      · rw [e, pk_us]
      · rw [pk_un e]; exact h1 c (by omega)
  unfold wpX_findMost
  exact ⟨7, key1 6 0 ro rfl (fun c hc => absurd hc (Nat.not_lt_zero c))⟩
end
end
section
/-! pure: a matching gives a placement, a cover bounds all placements -/
theorem rb_sn_comm (f : Nat → Nat → Nat) (m : Nat) : ∀ n, rb_sn (fun i => rb_sn (fun j => f i j) m) n = rb_sn (fun j => rb_sn (fun i => f i j) n) m := by
  intro n
  induction n with
  | zero => exact (rb_sn_z m (fun _ _ => rfl)).symm
  | succ n ih => rw [rb_sn, ih, ← rb_sn_add]; rfl
theorem rb_sn_1 (k : Nat) : ∀ n, rb_sn (fun c => if c = k then 1 else 0) n = if k < n then 1 else 0 := by
  intro n
  induction n with
  | zero => rfl
  | succ n ih =>
    rw [rb_sn, ih]
    rcases Nat.lt_trichotomy k n with z | z | z
    · rw [if_pos z, if_neg (show ¬ n = k by omega), if_pos (show k < n + 1 by omega)]
    · rw [if_neg (show ¬ k < n by omega), if_pos z.symm, if_pos (show k < n + 1 by omega)]
    · rw [if_neg (show ¬ k < n by omega), if_neg (show ¬ n = k by omega), if_neg (show ¬ k < n + 1 by omega)]
theorem rb_sn_mem {f : Nat → Nat} {k : Nat} : ∀ n, k < n → f k ≤ rb_sn f n := by
  intro n
  induction n with
  | zero => intro h; omega
  | succ n ih =>
    intro h
    rw [rb_sn]
    by_cases e : k = n
    · rw [e]; omega
    · have := ih (by omega); omega
theorem rb_sn_rev (f : Nat → Nat) : ∀ n, rb_sn (fun i => f (n - 1 - i)) n = rb_sn f n := by
  intro n
  induction n with
  | zero => rfl
  | succ n ih =>
    rw [rb_sn_front, rb_sn, ← ih, Nat.add_comm]
    congr 1
    apply rb_sn_congr
    intro i hi
    rw [show n + 1 - 1 - (i + 1) = n - 1 - i by omega]
theorem rb_cat_ne {g : Nat → List (List Nat)} {c : Nat} (hc : g c ≠ []) : ∀ d f, f ≤ c → c < f + d → rb_cat g d f ≠ [] := by
  intro d
  induction d with
  | zero => intro f h1 h2; omega
  | succ d ih =>
    intro f h1 h2 h
    rw [rb_cat, List.append_eq_nil_iff] at h
    by_cases e : c = f
    · rw [e] at hc; exact hc h.1
    · exact ih (f + 1) (by omega) (by omega) h.2
section
variable {N k : Nat} {ok : Nat → Nat → Bool}
def rb_kc (N : Nat) (CC : Nat → Bool) (T : Nat) : Nat := rb_sn (fun c => if CC c && !T.testBit c then 1 else 0) N
theorem rb_kc_or {CC : Nat → Bool} {T c : Nat} (hc : c < N) (h : T.testBit c = false) : rb_kc N CC T = rb_kc N CC (T ||| 2 ^ c) + (if CC c then 1 else 0) := by
  unfold rb_kc
  have e : rb_sn (fun d => if CC d && !T.testBit d then 1 else 0) N = rb_sn (fun d => (if CC d && !(T ||| 2 ^ c).testBit d then 1 else 0) + (if CC c then (if d = c then 1 else 0) else 0)) N := by
    apply rb_sn_congr
    intro d _
    rw [rb_tbor]
    by_cases z : d = c
    · subst z
      rw [h, decide_eq_true rfl]
      cases CC d <;> simp
    · rw [decide_eq_false (fun y => z y.symm), Bool.or_false, if_neg z]
      cases CC c <;> simp
  rw [e, rb_sn_add]
  congr 1
  cases CC c with
  | false => exact rb_sn_z N (fun _ _ => rfl)
  | true =>
    show rb_sn (fun d => if d = c then 1 else 0) N = 1
    rw [rb_sn_1, if_pos hc]
theorem rb_dual {CR CC : Nat → Bool} (hcov : ∀ r c, r < N → c < N → ok r c = true → CR r = true ∨ CC c = true) : ∀ m s, s.length + m = N → rb_pl N k ok m s ≠ [] → k ≤ rb_cn N s + rb_sn (fun i => if CR (N - 1 - i) then 1 else 0) m + rb_kc N CC (rb_tk N s) := by
  intro m
  induction m with
  | zero =>
    intro s hs h
    rw [rb_pl] at h
    by_cases e : rb_cn N s = k
    · omega
    · rw [if_neg e] at h; exact absurd rfl h
  | succ m ih =>
    intro s hs h
    obtain ⟨q, hq⟩ := List.exists_mem_of_ne_nil _ h
    obtain ⟨c, _, hc, hqc⟩ := rb_cat_mem _ _ hq
    have hne : rb_op N ok s c = true ∧ rb_pl N k ok m (c :: s) ≠ [] := by
      split at hqc
      · rename_i ho
        exact ⟨ho, List.ne_nil_of_mem hqc⟩
      · exact absurd hqc List.not_mem_nil
    have hi := ih (c :: s) (by rw [List.length_cons]; omega) hne.2
    rw [rb_sn, show N - 1 - m = s.length by omega]
    by_cases e : c < N
    · have hf : rb_fit N ok s c = true := by
        have := hne.1
        unfold rb_op at this
        rw [decide_eq_false (by omega : ¬ c = N), decide_eq_true e] at this
        simpa using this
      unfold rb_fit at hf
      rw [Bool.and_eq_true] at hf
      have ht : (rb_tk N s).testBit c = false := by have := hf.2; simpa using this
      rw [rb_cn_lt e, rb_tk_lt e] at hi
      have hk := rb_kc_or (CC := CC) e ht
      rcases hcov s.length c (by omega) e hf.1 with z | z
      · rw [if_pos z]; omega
      · rw [if_pos z] at hk; omega
    · have : c = N := by omega
      subst this
      rw [rb_cn_N, rb_tk_N] at hi
      omega
def rb_ge (mt : Nat → Option Nat) (j c : Nat) : Bool := match mt c with
  | none => false
  | some x => decide (j ≤ x)
theorem rb_place {B : Nat → Nat} {mt : Nat → Option Nat} (hb : ∀ x, x < N → B x < 2 ^ N) (hN : N ≤ 6) (hm : rb_mv B mt N) : ∀ m s, s.length + m = N → (∀ c, c < N → ((rb_tk N s).testBit c = true → ∃ x, x < s.length ∧ mt c = some x)) → rb_cn N s + rb_sn (fun c => if rb_ge mt s.length c then 1 else 0) 6 = k → rb_pl N k (rb_ok B) m s ≠ [] := by
  intro m
  induction m with
  | zero =>
    intro s hs ht hc
    have h0 : rb_sn (fun c => if rb_ge mt s.length c then 1 else 0) 6 = 0 := by
      apply rb_sn_z
      intro c h6
      unfold rb_ge
      cases e : mt c with
      | none => rfl
      | some x =>
        have := (hm.1 c x h6 e).1
        show (if decide (s.length ≤ x) = true then 1 else 0) = 0
        rw [decide_eq_false (by omega)]; rfl
    rw [rb_pl, if_pos (by omega)]
    exact List.cons_ne_nil _ _
  | succ m ih =>
    intro s hs ht hc
    rw [rb_pl_s]
    unfold rb_pf
    by_cases hex : ∃ c, c < 6 ∧ mt c = some s.length
    · obtain ⟨c, h6, hmc⟩ := hex
      have hbt := (hm.1 c _ h6 hmc).2
      have hcN : c < N := by
        rcases Nat.lt_or_ge c N with z | z
        · exact z
        · rw [rb_hi (hb s.length (by omega)) z] at hbt; exact nomatch hbt
      have htc : (rb_tk N s).testBit c = false := by
        cases e : (rb_tk N s).testBit c with
        | false => rfl
        | true =>
          obtain ⟨x, hx, hx2⟩ := ht c hcN e
          rw [hmc] at hx2
          cases hx2
          omega
      refine rb_cat_ne (c := c) ?_ _ _ (by omega) (by omega)
      rw [rb_ch_lt hcN, if_pos (by unfold rb_fit rb_ok; rw [hbt, htc]; rfl)]
      refine ih (c :: s) (by rw [List.length_cons]; omega) ?_ ?_
      · intro d hd htd
        rw [rb_tk_lt hcN, rb_tbor] at htd
        rw [List.length_cons]
        by_cases e : d = c
        · exact ⟨s.length, by omega, by rw [e]; exact hmc⟩
        · rw [decide_eq_false (fun z => e z.symm), Bool.or_false] at htd
          obtain ⟨x, hx, hx2⟩ := ht d hd htd
          exact ⟨x, by omega, hx2⟩
      · rw [rb_cn_lt hcN, List.length_cons]
        have e : rb_sn (fun d => if rb_ge mt s.length d then 1 else 0) 6 = rb_sn (fun d => (if rb_ge mt (s.length + 1) d then 1 else 0) + (if d = c then 1 else 0)) 6 := by
          apply rb_sn_congr
          intro d hd
          unfold rb_ge
          by_cases z : d = c
          · rw [if_pos z, z, hmc]
            show (if decide (s.length ≤ s.length) = true then 1 else 0) = (if decide (s.length + 1 ≤ s.length) = true then 1 else 0) + 1
            rw [decide_eq_true (Nat.le_refl _), decide_eq_false (by omega)]; rfl
          · rw [if_neg z]
            cases e : mt d with
            | none => rfl
            | some x =>
              have hne : ¬ x = s.length := fun w => z (hm.2 d c x hd h6 e (by rw [w]; exact hmc))
              show (if decide (s.length ≤ x) = true then 1 else 0) = (if decide (s.length + 1 ≤ x) = true then 1 else 0) + 0
              by_cases w : s.length ≤ x
              · rw [decide_eq_true w, decide_eq_true (show s.length + 1 ≤ x by omega)]; rfl
              · rw [decide_eq_false w, decide_eq_false (show ¬ s.length + 1 ≤ x by omega)]; rfl
        rw [e, rb_sn_add, rb_sn_1, if_pos h6] at hc
        omega
    · refine rb_cat_ne (c := N) ?_ _ _ (by omega) (by omega)
      rw [rb_ch_N]
      refine ih (N :: s) (by rw [List.length_cons]; omega) ?_ ?_
      · intro d hd htd
        rw [rb_tk_N] at htd
        rw [List.length_cons]
        obtain ⟨x, hx, hx2⟩ := ht d hd htd
        exact ⟨x, by omega, hx2⟩
      · rw [rb_cn_N, List.length_cons, ← hc]
        congr 1
        apply rb_sn_congr
        intro d hd
        unfold rb_ge
        cases e : mt d with
        | none => rfl
        | some x =>
          have hne : ¬ x = s.length := fun w => hex ⟨d, hd, by rw [e, w]⟩
          show (if decide (s.length + 1 ≤ x) = true then 1 else 0) = (if decide (s.length ≤ x) = true then 1 else 0)
          by_cases w : s.length ≤ x
          · rw [decide_eq_true w, decide_eq_true (show s.length + 1 ≤ x by omega)]
          · rw [decide_eq_false w, decide_eq_false (show ¬ s.length + 1 ≤ x by omega)]
end
def rb_mk (p : Nat → Bool) : Nat → Nat
  | 0 => 0
  | n + 1 => if p n then rb_mk p n ||| 2 ^ n else rb_mk p n
theorem rb_mk_b (p : Nat → Bool) : ∀ n, rb_mk p n < 2 ^ n := by
  intro n
  induction n with
  | zero => exact Nat.one_pos
  | succ n ih =>
    have h1 : rb_mk p n < 2 ^ (n + 1) := Nat.lt_of_lt_of_le ih (Nat.pow_le_pow_right (by omega) (by omega))
    rw [rb_mk]
    split
    · exact rb_orN h1 (by omega)
    · exact h1
theorem rb_mk_t (p : Nat → Bool) : ∀ n d, d < n → (rb_mk p n).testBit d = p d := by
  intro n
  induction n with
  | zero => intro d h; omega
  | succ n ih =>
    intro d h
    rw [rb_mk]
    by_cases e : d = n
    · subst e
      cases e : p d with
      | false => rw [if_neg (by decide)]; exact rb_hi (rb_mk_b p d) (Nat.le_refl _)
      | true => rw [if_pos rfl, rb_tbor, decide_eq_true rfl, Bool.or_true]
    · split
      · rw [rb_tbor, decide_eq_false (fun z => e z.symm), Bool.or_false]; exact ih d (by omega)
      · exact ih d (by omega)
/-- the lines of a mask cover the board -/
def rb_cov (N : Nat) (B : Nat → Nat) (S : Nat) : Prop := ∀ r c, r < N → c < N → (B r).testBit c = true → S.testBit r = true ∨ S.testBit (N + c) = true
theorem rb_pc_split (N S : Nat) : rb_pc S (2 * N) = rb_sn (fun i => if S.testBit (N - 1 - i) then 1 else 0) N + rb_kc N (fun c => S.testBit (N + c)) 0 := by
  rw [← rb_sn_pc, show 2 * N = N + N by omega, rb_sn_split, ← rb_sn_rev (fun c => if S.testBit c then 1 else 0) N]
  congr 1
  unfold rb_kc
  apply rb_sn_congr
  intro c _
  rw [Nat.zero_testBit, Bool.not_false, Bool.and_true]
theorem rb_cov_le {N k S : Nat} {B : Nat → Nat} (h : rb_cov N B S) (hp : rb_pl N k (rb_ok B) N [] ≠ []) : k ≤ rb_pc S (2 * N) := by
  have := rb_dual (CR := fun r => S.testBit r) (CC := fun c => S.testBit (N + c)) h N [] (by rw [List.length_nil]; omega) hp
  rw [rb_pc_split]
  have e : rb_cn N [] = 0 := rfl
  have e2 : rb_tk N [] = 0 := rfl
  rw [e, e2] at this
  omega
def rb_ee (mt : Nat → Option Nat) (D x c : Nat) : Nat := if mt c = some x ∧ D.testBit c = false then 1 else 0
def rb_cr (mt : Nat → Option Nat) (D x : Nat) : Bool := decide (0 < rb_sn (rb_ee mt D x) 6)
theorem rb_sn_mono {f : Nat → Nat} {n : Nat} : ∀ m, n ≤ m → rb_sn f n ≤ rb_sn f m := by
  intro m
  induction m with
  | zero => intro h; rw [show n = 0 by omega]; exact Nat.le_refl _
  | succ m ih =>
    intro h
    by_cases e : n = m + 1
    · rw [e]; exact Nat.le_refl _
    · have := ih (by omega)
      rw [rb_sn]; omega
theorem rb_final {N D : Nat} {B : Nat → Nat} {mt : Nat → Option Nat} (hN : N ≤ 6) (hb : ∀ x, x < N → B x < 2 ^ N) (hm : rb_mv B mt N) (hd : rb_dd B mt N D) :
    rb_pl N (rb_mc mt) (rb_ok B) N [] ≠ [] ∧ ∃ S, S < 2 ^ (2 * N) ∧ rb_cov N B S ∧ rb_pc S (2 * N) ≤ rb_mc mt := by
  refine ⟨?_, ?_⟩
  · refine rb_place hb hN hm N [] (by rw [List.length_nil]; omega) (fun c _ hz => ?_) ?_
    · rw [show rb_tk N [] = 0 from rfl, Nat.zero_testBit] at hz; exact nomatch hz
    · show 0 + _ = _
      rw [Nat.zero_add]
      unfold rb_mc
      apply rb_sn_congr
      intro c _
      unfold rb_ge
      cases mt c with
      | none => rfl
      | some x =>
        show (if decide (([] : List Nat).length ≤ x) = true then 1 else 0) = 1
        rw [decide_eq_true (show ([] : List Nat).length ≤ x from Nat.zero_le _)]; rfl
  · refine ⟨rb_mk (fun b => if b < N then rb_cr mt D b else D.testBit (b - N)) (2 * N), rb_mk_b _ _, ?_, ?_⟩
    · intro r c hr hc hbt
      rw [rb_mk_t _ _ r (by omega), rb_mk_t _ _ (N + c) (by omega), if_pos hr, if_neg (by omega), show N + c - N = c by omega]
      rcases hd.2 r hr with ⟨y, h6, h1, h2⟩ | h
      · left
        unfold rb_cr
        apply decide_eq_true
        have := rb_sn_mem (f := rb_ee mt D r) 6 h6
        have e : rb_ee mt D r y = 1 := if_pos ⟨h1, h2⟩
        omega
      · exact Or.inr (h c (by omega) hbt)
    · rw [← rb_sn_pc]
      have e1 : rb_sn (fun b => if (rb_mk (fun b => if b < N then rb_cr mt D b else D.testBit (b - N)) (2 * N)).testBit b then 1 else 0) (2 * N) = rb_sn (fun b => if (if b < N then rb_cr mt D b else D.testBit (b - N)) then 1 else 0) (2 * N) := by
        apply rb_sn_congr
        intro b hb
        rw [rb_mk_t _ _ b hb]
      have e2 : rb_sn (fun b => if (if b < N then rb_cr mt D b else D.testBit (b - N)) then 1 else 0) N = rb_sn (fun b => if rb_cr mt D b then 1 else 0) N := by
        apply rb_sn_congr
        intro b hb
        rw [if_pos hb]
      have e3 : rb_sn (fun b => if (if N + b < N then rb_cr mt D (N + b) else D.testBit (N + b - N)) then 1 else 0) N = rb_sn (fun b => if D.testBit b then 1 else 0) N := by
        apply rb_sn_congr
        intro b hb
        rw [if_neg (show ¬ N + b < N by omega), show N + b - N = b by omega]
      rw [e1, show 2 * N = N + N by omega, rb_sn_split, e2, e3]
      have h1 : rb_sn (fun b => if rb_cr mt D b then 1 else 0) N ≤ rb_sn (fun x => rb_sn (fun c => rb_ee mt D x c) 6) N := by
        apply rb_sn_le
        intro x _
        unfold rb_cr
        by_cases z : 0 < rb_sn (rb_ee mt D x) 6
        · rw [decide_eq_true z]; exact z
        · rw [decide_eq_false z]; exact Nat.zero_le _
      rw [rb_sn_comm] at h1
      have h2 : rb_sn (fun c => rb_sn (fun x => rb_ee mt D x c) N) 6 ≤ rb_sn (fun c => if (mt c).isSome && !D.testBit c then 1 else 0) 6 := by
        apply rb_sn_le
        intro c _
        cases e : mt c with
        | none =>
          rw [rb_sn_z N]
          · exact Nat.zero_le _
          · intro x _
            unfold rb_ee
            rw [e, if_neg (fun z => nomatch z.1)]
        | some y =>
          cases eD : D.testBit c with
          | true =>
            rw [rb_sn_z N]
            · exact Nat.zero_le _
            · intro x _
              unfold rb_ee
              rw [eD, if_neg (fun z => nomatch z.2)]
          | false =>
            have e4 : rb_sn (fun x => rb_ee mt D x c) N = rb_sn (fun x => if x = y then 1 else 0) N := by
              apply rb_sn_congr
              intro x _
              unfold rb_ee
              rw [e, eD]
              by_cases z : x = y
              · rw [if_pos z, if_pos ⟨by rw [z], rfl⟩]
              · rw [if_neg z, if_neg (fun w => z (Option.some.inj w.1).symm)]
            rw [e4, rb_sn_1]
            show _ ≤ 1
            split <;> omega
      have h3 : rb_sn (fun b => if D.testBit b then 1 else 0) N ≤ rb_sn (fun b => if D.testBit b then 1 else 0) 6 := rb_sn_mono 6 hN
      have h4 : rb_mc mt = rb_sn (fun c => if (mt c).isSome && !D.testBit c then 1 else 0) 6 + rb_sn (fun b => if D.testBit b then 1 else 0) 6 := by
        unfold rb_mc
        rw [← rb_sn_add]
        apply rb_sn_congr
        intro c h6
        cases eD : D.testBit c with
        | false => rw [Bool.not_false, Bool.and_true]; rfl
        | true =>
          obtain ⟨x, hx⟩ := hd.1 c h6 eD
          rw [hx]; rfl
      omega
end
section
/-! most, lines, needed -/
/-- the number of rooks in a greatest placement -/
def rb_MM (N : Nat) (B : Nat → Nat) (m : Nat) : Prop := m ≤ N ∧ rb_pl N m (rb_ok B) N [] ≠ [] ∧ (∀ k, m < k → rb_pl N k (rb_ok B) N [] = []) ∧ (∃ S, S < 2 ^ (2 * N) ∧ rb_cov N B S ∧ rb_pc S (2 * N) ≤ m) ∧ (∀ S, rb_cov N B S → m ≤ rb_pc S (2 * N))
theorem rb_MM_i {N D : Nat} {B : Nat → Nat} {bd : Nat → Int32} {mt : Nat → Option Nat} (hN : N ≤ 6) (hB : rb_bd N B bd) (hm : rb_mv B mt N) (hd : rb_dd B mt N D) : rb_MM N B (rb_mc mt) := by
  obtain ⟨h1, S, h2, h3, h4⟩ := rb_final hN (fun x hx => (hB x (by omega)).2) hm hd
  refine ⟨?_, h1, fun k hk => ?_, ⟨S, h2, h3, h4⟩, fun S hS => rb_cov_le hS h1⟩
  · rcases Nat.lt_or_ge N (rb_mc mt) with z | z
    · exact absurd (rb_pl_z N [] (Or.inr (by rw [show rb_cn N [] = 0 from rfl]; omega))) h1
    · exact z
  · by_cases e : rb_pl N k (rb_ok B) N [] = []
    · exact e
    · have := rb_cov_le h3 e
      omega
section
variable {N k : Nat} {B : Nat → Nat} {ft : Int32} {bd we wy nx su la fa ch ro pr pc : Nat → Int32} {yr yp yt ya : Int32} {on co : Nat → Int32}
theorem rb_ycov {post : Int32 → Prop} {S : Nat} (hN : N ≤ 6) (hS : S < 2 ^ 31) (ho : rb_on B on) (hT : rb_cov N B S → post 1) (hF : ¬ rb_cov N B S → post 0) : wpY_covers post ((nI N), yr, yp, yt, ya, on, we, co) (nI S) := by
  have inner : ∀ (J : Int32 → Prop) (r : Nat), r < N → ((∀ c, c < N → (B r).testBit c = true → S.testBit r = true ∨ S.testBit (N + c) = true) → J (nI (r + 1))) →
      ∀ j c, c + j = N → (∀ d, d < c → (B r).testBit d = true → S.testBit r = true ∨ S.testBit (N + d) = true) → wY_covers_12 post J (nI S) (nI r) (nI N) yr yp yt ya on we co (j + 1) (nI c) := by
    intro J r hr hJ j
    induction j with
    | zero =>
      intro c hc h
      have e : c = N := by omega
      subst e
      rw [wY_covers_12]
      exact br_t (nI_le (Nat.le_refl _) (by omega)) (nm_r (nI_1 r) (hJ h))
    | succ j ih =>
      intro c hc h
      rw [wY_covers_12]
      have hstep : ((B r).testBit c = true → S.testBit r = true ∨ S.testBit (N + c) = true) → wY_covers_12 post J (nI S) (nI r) (nI N) yr yp yt ya on we co (j + 1) (nI (c + 1)) := by
        intro hc2
        refine ih (c + 1) (by omega) (fun d hd => ?_)
        by_cases e : d = c
        · rw [e]; exact hc2
        · exact h d (by omega)
      refine br_f (nI_ge (by omega) (by omega)) ?_
      rw [rb_ix6, nI_clamp (by omega), nI_add, rb_bit0 hS (by omega), rb_bit0 hS (by omega), ho r c (by omega) (by omega)]
      refine ⟨vp_in_nI (by omega) (by omega), ?_⟩
      cases e : (B r).testBit c with
      | false => exact br_t rfl (nm_r (nI_1 c) (hstep (fun z => by rw [e] at z; exact nomatch z)))
      | true =>
        refine br_f (by decide) (br_c (fun z => br_c (fun y => ?_) (fun y => ?_)) (fun z => ?_))
        · apply hF
          intro hcov
          rcases hcov r c hr (by omega) e with w | w
          · rw [z] at w; exact nomatch w
          · rw [y] at w; exact nomatch w
        · exact nm_r (nI_1 c) (hstep (fun _ => Or.inr (by simpa using y)))
        · exact nm_r (nI_1 c) (hstep (fun _ => Or.inl (by simpa using z)))
  have key : ∀ j r, r + j = N → (∀ x, x < r → ∀ c, c < N → (B x).testBit c = true → S.testBit x = true ∨ S.testBit (N + c) = true) → wY_covers_2 post (nI S) (nI N) yr yp yt ya on we co (j + 1) (nI r) := by
    intro j
    induction j with
    | zero =>
      intro r hr h
      have e : r = N := by omega
      subst e
      rw [wY_covers_2]
      exact br_t (nI_le (Nat.le_refl _) (by omega)) (hT (fun x c hx hc => h x hx c hc))
    | succ j ih =>
      intro r hr h
      rw [wY_covers_2]
      refine br_f (nI_ge (by omega) (by omega)) ⟨N + 1, ?_⟩
      refine inner _ r (by omega) (fun h2 => ih (r + 1) (by omega) (fun x hx => ?_)) N 0 (by omega) (fun d hd => absurd hd (Nat.not_lt_zero d))
      by_cases e : x = r
      · rw [e]; exact h2
      · exact h x (by omega)
  unfold wpY_covers
  exact ⟨N + 1, key N 0 (by omega) (fun x hx => absurd hx (Nat.not_lt_zero x))⟩
theorem rb_ylines {post : Int32 → Prop} {m : Nat} (hN0 : 0 < N) (hN : N ≤ 6) (ho : rb_on B on) (hm : rb_MM N B m) (h : post (nI m)) : wpY_lines post ((nI N), yr, yp, yt, ya, on, we, co) := by
  obtain ⟨hmN, _, _, ⟨S0, hS0, hc0, hp0⟩, hall⟩ := hm
  have e2 : (2 : Int32) * nI N = nI (2 * N) := by
    show nI 2 * nI N = _
    rw [pk_mul]
  have hpw : 2 ^ (2 * N) ≤ 4096 := Nat.pow_le_pow_right (n := 2) (j := 12) (by omega) (by omega)
  have inner : ∀ (J : Int32 → Int32 → Prop) (l S : Nat), l ≤ 12 → S < 4096 → (∀ l', (l' = l ∧ ¬ (rb_pc S (2 * N) < l ∧ rb_cov N B S)) ∨ (l' = rb_pc S (2 * N) ∧ rb_pc S (2 * N) < l ∧ rb_cov N B S) → J (nI l') (nI (S + 1))) →
      ∀ j b, b + j = 2 * N → wY_lines_26 post J (nI l) (nI S) (nI N) yr yp yt ya on we co (j + 1) (nI (rb_pc S b)) (nI b) := by
    intro J l S hl hS hJ j
    induction j with
    | zero =>
      intro b hb
      have e : b = 2 * N := by omega
      subst e
      rw [wY_lines_26, e2]
      have hb := rb_pc_le S (2 * N)
      refine br_t (nI_le (Nat.le_refl _) (by omega)) (pk_le l (rb_pc S (2 * N)) (fun z => nm_r (nI_1 S) (hJ l (Or.inl ⟨rfl, fun w => by omega⟩))) (fun z => ?_))
      refine rb_ycov hN (by omega) ho (fun y => ?_) (fun y => ?_)
      · exact br_f (by decide) (nm_r (nI_1 S) (hJ _ (Or.inr ⟨rfl, z, y⟩)))
      · exact br_t rfl (nm_r (nI_1 S) (hJ l (Or.inl ⟨rfl, fun w => y w.2⟩)))
    | succ j ih =>
      intro b hb
      rw [wY_lines_26, e2]
      refine br_f (nI_ge (by omega) (by omega)) (nm_r (e' := nI (rb_pc S (b + 1))) ?_ (nm_r (nI_1 b) (ih (b + 1) (by omega))))
      rw [rb_bitv (by omega) (by omega), nI_add]
      rfl
  have key : ∀ j S l, S + j = 2 ^ (2 * N) → m ≤ l → l ≤ 2 * N → (S0 < S → l = m) → wY_lines_9 post (nI N) yr yp yt ya on we co (j + 1) (nI l) (nI S) := by
    intro j
    induction j with
    | zero =>
      intro S l hS h1 h2 h3
      rw [wY_lines_9, e2, rb_shl (2 * N) (by omega)]
      have : l = m := h3 (by omega)
      subst this
      exact br_t (nI_le (by omega) (by omega)) h
    | succ j ih =>
      intro S l hS h1 h2 h3
      rw [wY_lines_9, e2, rb_shl (2 * N) (by omega)]
      refine br_f (nI_ge (by omega) (by omega)) ⟨2 * N + 1, ?_⟩
      refine inner _ l S (by omega) (by omega) (fun l' hl' => ?_) (2 * N) 0 (by omega)
      rcases hl' with ⟨e, hn⟩ | ⟨e, hlt, hcov⟩
      · subst e
        refine ih (S + 1) l' (by omega) h1 h2 (fun hlt => ?_)
        by_cases e : S0 = S
        · subst e
          have : ¬ rb_pc S0 (2 * N) < l' := fun w => hn ⟨w, hc0⟩
          omega
        · exact h3 (by omega)
      · subst e
        have hge := hall S hcov
        refine ih (S + 1) _ (by omega) hge (by omega) (fun hlt2 => ?_)
        by_cases e : S0 = S
        · subst e
          omega
        · have := h3 (by omega)
          omega
  unfold wpY_lines
  refine nm_r e2 ⟨2 ^ (2 * N) + 1, ?_⟩
  exact key (2 ^ (2 * N)) 0 (2 * N) (by omega) (by omega) (Nat.le_refl _) (fun hz => absurd hz (Nat.not_lt_zero _))
end
theorem i_vc_most {k : Nat} {u : SX} {v : SY} (I : i_Rel k u v) (hk : k + 4 ≤ 2049) : wpX_most (fun r u' => wpY_most (fun r' v' => r' = r ∧ i_Rel (k + 4) u' v') v) u := by
  refine rb_el (P := fun u v => wpX_most (fun r u' => wpY_most (fun r' v' => r' = r ∧ i_Rel (k + 4) u' v') v) u) I ?_
  intro N B ft bd we wy nx su la fa ch ro pr pc yr yp yt ya on co hR
  obtain ⟨hN0, hN, hB, hz, ho, ht⟩ := hR
  have hR : rb_R N B bd on fa ch := ⟨hN0, hN, hB, hz, ho, ht⟩
  unfold wpX_most
  refine rb_xmost hN hB (fun mt D ft ro pr pc hm hd => ?_)
  have hM := rb_MM_i hN hB hm hd
  exact rb_ymost hN0 hN hM.1 (rb_hok hN ho) hM.2.1 (fun k hk _ => hM.2.2.1 k hk) (fun yr yp yt ya co => ⟨rfl, rb_in hR⟩)
theorem i_vc_lines {k : Nat} {u : SX} {v : SY} (I : i_Rel k u v) (hk : k + 4 ≤ 2049) : wpX_lines (fun r u' => wpY_lines (fun r' => r' = r ∧ i_Rel (k + 4) u' v) v) u := by
  refine rb_el (P := fun u v => wpX_lines (fun r u' => wpY_lines (fun r' => r' = r ∧ i_Rel (k + 4) u' v) v) u) I ?_
  intro N B ft bd we wy nx su la fa ch ro pr pc yr yp yt ya on co hR
  obtain ⟨hN0, hN, hB, hz, ho, ht⟩ := hR
  have hR : rb_R N B bd on fa ch := ⟨hN0, hN, hB, hz, ho, ht⟩
  unfold wpX_lines
  refine rb_xmost hN hB (fun mt D ft ro pr pc hm hd => ?_)
  have hM := rb_MM_i hN hB hm hd
  exact rb_ylines hN0 hN ho hM ⟨rfl, rb_in hR⟩
end
section
/-! needed -/
def rb_W (N : Nat) (B : Nat → Nat) (m r c : Nat) : Int32 := rb_ls (fun q => if rb_at q r = c then 1 else 0) (rb_pl N m (rb_ok B) N [])
def rb_nv (N : Nat) (B : Nat → Nat) (m t : Nat) : Nat := if t / 6 < N ∧ t % 6 < N ∧ 0 < m ∧ rb_W N B m (t / 6) (t % 6) = nI (rb_ct N (rb_ok B) N m 0) then 1 else 0
section
variable {N k : Nat} {B : Nat → Nat} {ft : Int32} {bd we wy nx su la fa ch ro pr pc : Nat → Int32} {yr yp yt ya : Int32} {on co : Nat → Int32}
theorem rb_xbadc1 {post : Int32 → Prop} {t : Nat} (hN : N ≤ 6) (ht : t < 36) (hn : ¬ (t / 6 < N ∧ t % 6 < N)) (h : post 1) : wpX_badCell post ((nI N), ft, bd, we, wy, nx, su, la, fa, ch, ro, pr, pc) (nI t) := by
  have ed : nI t / 6 = nI (t / 6) := pk_div (d := 6) (by omega) (by omega) (by omega)
  have em : nI t - nI t / 6 * 6 = nI (t % 6) := pk_rem (d := 6) (by omega) (by omega) (by omega)
  unfold wpX_badCell
  refine br_f (nI_pos (by omega)) ⟨by decide, ?_⟩
  rw [em, ed]
  by_cases h1 : t / 6 < N
  · exact br_f (nI_ge h1 (by omega)) ⟨by decide, br_f (nI_nlt (by omega) (by omega)) h⟩
  · exact br_t (nI_le (by omega) (by omega)) h
theorem rb_xbadc2 {post : Int32 → Prop} {t : Nat} (hN : N ≤ 6) (h1 : t / 6 < N) (h2 : t % 6 < N) (h : post 0) : wpX_badCell post ((nI N), ft, bd, we, wy, nx, su, la, fa, ch, ro, pr, pc) (nI t) := by
  rw [show t = 6 * (t / 6) + t % 6 by omega]
  exact rb_xbadc0 hN h1 h2 h
theorem rb_xthr2 {post : Int32 → SX → Prop} {m t : Nat} (hN0 : 0 < N) (hN : N ≤ 6) (hm : m ≤ N) (h1 : t / 6 < N) (h2 : t % 6 < N) (hB : rb_bd N B bd)
    (h : ∀ bd wy nx, rb_bd N B bd → post (rb_W N B m (t / 6) (t % 6)) ((nI N), ft, bd, we, wy, nx, su, la, fa, ch, ro, pr, pc)) : wpX_countThrough post ((nI N), ft, bd, we, wy, nx, su, la, fa, ch, ro, pr, pc) (nI t) (nI m) := by
  have := rb_xthr (post := post) (ft := ft) (we := we) (wy := wy) (nx := nx) (su := su) (la := la) (fa := fa) (ch := ch) (ro := ro) (pr := pr) (pc := pc) hN0 hN hm h1 h2 hB h
  rw [show 6 * (t / 6) + t % 6 = t by omega] at this
  exact this
theorem rb_xneed {post : Int32 → SX → Prop} {m : Nat} (hN0 : 0 < N) (hN : N ≤ 6) (hm : m ≤ N)
    (h : ∀ bd wy nx, rb_bd N B bd → post (nI (rb_sn (rb_nv N B m) 36)) ((nI N), ft, bd, we, wy, nx, su, la, fa, ch, ro, pr, pc)) :
    ∀ j t bd wy nx, t + j = 36 → rb_bd N B bd → wX_needed_9 post (nI m) (j + 1) (nI (rb_sn (rb_nv N B m) t)) (nI t) (nI N) ft bd we wy nx su la fa ch ro pr pc := by
  intro j
  induction j with
  | zero =>
    intro t bd wy nx ht hB
    have e : t = 36 := by omega
    subst e
    rw [wX_needed_9]
    exact br_t (nI_le (a := 36) (b := 36) (by omega) (by omega)) (h bd wy nx hB)
  | succ j ih =>
    intro t bd wy nx ht hB
    rw [wX_needed_9]
    refine br_f (nI_ge (b := 36) (by omega) (by omega)) ?_
    have es : rb_sn (rb_nv N B m) (t + 1) = rb_sn (rb_nv N B m) t + rb_nv N B m t := rfl
    have hskip : rb_nv N B m t = 0 → ∀ bd wy nx, rb_bd N B bd → wX_needed_9 post (nI m) (j + 1) (nI (rb_sn (rb_nv N B m) t)) (nI (t + 1)) (nI N) ft bd we wy nx su la fa ch ro pr pc := by
      intro h0 bd wy nx hB
      have := ih (t + 1) bd wy nx (by omega) hB
      rw [es, h0] at this
      exact this
    by_cases hc : t / 6 < N ∧ t % 6 < N
    · refine rb_xbadc2 hN hc.1 hc.2 (br_t rfl ?_)
      refine pk_le m 0 (fun z => ?_) (fun z => ?_)
      · exact nm_r (nI_1 t) (hskip (if_neg (fun w => by have := w.2.2.1; omega)) bd wy nx hB)
      · refine rb_xthr2 hN0 hN hm hc.1 hc.2 hB (fun bd wy nx hB => ?_)
        refine rb_xcount hN0 hN hm hB (fun wy nx => ?_)
        refine br_c (fun w => ?_) (fun w => ?_)
        · have hv : rb_nv N B m t = 1 := if_pos ⟨hc.1, hc.2, z, w⟩
          have := ih (t + 1) bd wy nx (by omega) hB
          rw [es, hv] at this
          exact nm_r (nI_1 _) (nm_r (nI_1 t) this)
        · exact nm_r (nI_1 t) (hskip (if_neg (fun y => w y.2.2.2)) bd wy nx hB)
    · refine rb_xbadc1 hN (by omega) hc (br_f (by decide) ?_)
      exact nm_r (nI_1 t) (hskip (if_neg (fun w => hc ⟨w.1, w.2.1⟩)) bd wy nx hB)
theorem rb_nv_on {m t : Nat} (hN : N ≤ 6) (hB : rb_bd N B bd) (hz : ∀ r, N ≤ r → r < 6 → B r = 0) (hM : rb_MM N B m) (ht : t < 36) : rb_nv N B m t = if (B (t / 6)).testBit (t % 6) = true ∧ rb_W N B m (t / 6) (t % 6) = nI (rb_ct N (rb_ok B) N m 0) then 1 else 0 := by
  unfold rb_nv
  obtain ⟨hmN, h1, h2, ⟨S, hS, hc, hp⟩, _⟩ := hM
  have hlen : 0 < rb_ct N (rb_ok B) N m 0 := by
    rw [← rb_len0]
    exact List.length_pos_iff.mpr h1
  have hle := rb_ct_b (ok := rb_ok B) hN N m 0 (Nat.le_refl N)
  cases e : (B (t / 6)).testBit (t % 6) with
  | true =>
    have hr : t / 6 < N := by
      rcases Nat.lt_or_ge (t / 6) N with z | z
      · exact z
      · rw [hz _ z (by omega), Nat.zero_testBit] at e; exact nomatch e
    have hcN : t % 6 < N := by
      rcases Nat.lt_or_ge (t % 6) N with z | z
      · exact z
      · rw [rb_hi (hB _ (by omega)).2 z] at e; exact nomatch e
    have hm0 : 0 < m := by
      rcases Nat.eq_zero_or_pos m with z | z
      · have h0 : rb_pc S (2 * N) = 0 := by omega
        rw [← rb_sn_pc] at h0
        exfalso
        rcases hc _ _ hr hcN e with w | w
        · have := rb_sn_mem (f := fun b => if S.testBit b then 1 else 0) (2 * N) (show t / 6 < 2 * N by omega)
          rw [w, if_pos rfl] at this
          omega
        · have := rb_sn_mem (f := fun b => if S.testBit b then 1 else 0) (2 * N) (show N + t % 6 < 2 * N by omega)
          rw [w, if_pos rfl] at this
          omega
      · exact z
    by_cases w : rb_W N B m (t / 6) (t % 6) = nI (rb_ct N (rb_ok B) N m 0)
    · rw [if_pos ⟨hr, hcN, hm0, w⟩, if_pos ⟨rfl, w⟩]
    · rw [if_neg (fun y => w y.2.2.2), if_neg (fun y => w y.2)]
  | false =>
    rw [if_neg (c := false = true ∧ _) (fun y => nomatch y.1), if_neg]
    intro y
    have hw := y.2.2.2
    unfold rb_W at hw
    rw [rb_thr y.1 y.2.1] at hw
    have e2 : rb_ct N (rb_wo (rb_ok B) (t / 6) (t % 6)) N m 0 = rb_ct N (rb_ok B) N m 0 := by
      apply rb_ct_congr _ N m 0 (Nat.le_refl N)
      intro r c _ _
      unfold rb_wo rb_ok
      by_cases z : r = t / 6 ∧ c = t % 6
      · rw [z.1, z.2, e]; rfl
      · have : (decide (r = t / 6) && decide (c = t % 6)) = false := by
          cases h1 : (decide (r = t / 6) && decide (c = t % 6)) with
          | false => rfl
          | true =>
            rw [Bool.and_eq_true, decide_eq_true_iff, decide_eq_true_iff] at h1
            exact absurd h1 z
        rw [this]; simp
    rw [e2, Int32.sub_self] at hw
    exact nI_ne0 hlen (by omega) hw.symm
theorem rb_yneed {post : Int32 → SY → Prop} {m : Nat} (hN0 : 0 < N) (hN : N ≤ 6) (hB : rb_bd N B bd) (hz : ∀ r, N ≤ r → r < 6 → B r = 0) (ho : rb_on B on) (hM : rb_MM N B m)
    (h : ∀ yr yp yt ya co, post (nI (rb_sn (rb_nv N B m) 36)) ((nI N), yr, yp, yt, ya, on, we, co)) :
    ∀ j t yr yp yt ya co, t + j = 36 → wY_needed_16 post (nI m) (nI (rb_ct N (rb_ok B) N m 0)) (j + 1) (nI (rb_sn (rb_nv N B m) t)) (nI t) (nI N) yr yp yt ya on we co := by
  intro j
  induction j with
  | zero =>
    intro t yr yp yt ya co ht
    have e : t = 36 := by omega
    subst e
    rw [wY_needed_16]
    exact br_t (nI_le (a := 36) (b := 36) (by omega) (by omega)) (h yr yp yt ya co)
  | succ j ih =>
    intro t yr yp yt ya co ht
    rw [wY_needed_16]
    have es : rb_sn (rb_nv N B m) (t + 1) = rb_sn (rb_nv N B m) t + rb_nv N B m t := rfl
    have hv := rb_nv_on hN hB hz hM (show t < 36 by omega)
    have hon := ho (t / 6) (t % 6) (by omega) (by omega)
    rw [show 6 * (t / 6) + t % 6 = t by omega] at hon
    refine br_f (nI_ge (b := 36) (by omega) (by omega)) ⟨vp_in_nI (by omega) (by omega), ?_⟩
    rw [nI_clamp (by omega), hon]
    cases e : (B (t / 6)).testBit (t % 6) with
    | false =>
      refine br_t rfl (nm_r (nI_1 t) ?_)
      have := ih (t + 1) yr yp yt ya co (by omega)
      rw [e, if_neg (fun y => nomatch y.1)] at hv
      rw [es, hv] at this
      exact this
    | true =>
      have hr : t / 6 < N := by
        rcases Nat.lt_or_ge (t / 6) N with z | z
        · exact z
        · rw [hz _ z (by omega), Nat.zero_testBit] at e; exact nomatch e
      have hcN : t % 6 < N := by
        rcases Nat.lt_or_ge (t % 6) N with z | z
        · exact z
        · rw [rb_hi (hB _ (by omega)).2 z] at e; exact nomatch e
      refine br_f (by decide) ?_
      have ht2 : wpY_through (fun r u => match u with
        | (f_n_24, f_rows_25, f_placed_26, f_taken_27, f_anywhere_28, a_on_29, a_weights_30, a_columns_31) => (((r = nI (rb_ct N (rb_ok B) N m 0) → (∀ x3_34 : Int32, x3_34 = nI (rb_sn (rb_nv N B m) t) + 1 → (∀ x4_35 : Int32, x4_35 = nI t + 1 → (wY_needed_16 post (nI m) (nI (rb_ct N (rb_ok B) N m 0)) (j + 1) x3_34 x4_35 f_n_24 f_rows_25 f_placed_26 f_taken_27 f_anywhere_28 a_on_29 a_weights_30 a_columns_31)))) ∧ (¬ r = nI (rb_ct N (rb_ok B) N m 0) → (∀ x4_33 : Int32, x4_33 = nI t + 1 → (wY_needed_16 post (nI m) (nI (rb_ct N (rb_ok B) N m 0)) (j + 1) (nI (rb_sn (rb_nv N B m) t)) x4_33 f_n_24 f_rows_25 f_placed_26 f_taken_27 f_anywhere_28 a_on_29 a_weights_30 a_columns_31)))))) ((nI N), yr, yp, yt, ya, on, we, co) (nI (6 * (t / 6) + t % 6)) (nI m) := by
        refine rb_ythrough hN0 hN hM.1 hr hcN (rb_hok hN ho) (fun yr yp yt ya co => ?_)
        have := ih (t + 1) yr yp yt ya co (by omega)
        refine br_c (fun w => ?_) (fun w => ?_)
        · rw [if_pos ⟨e, w⟩] at hv
          rw [es, hv] at this
          exact nm_r (nI_1 _) (nm_r (nI_1 t) this)
        · rw [if_neg (fun y => w y.2)] at hv
          rw [es, hv] at this
          exact nm_r (nI_1 t) this
      rw [show 6 * (t / 6) + t % 6 = t by omega] at ht2
      exact ht2
end
theorem i_vc_needed {k : Nat} {u : SX} {v : SY} (I : i_Rel k u v) (hk : k + 4 ≤ 2049) : wpX_needed (fun r u' => wpY_needed (fun r' v' => r' = r ∧ i_Rel (k + 4) u' v') v) u := by
  refine rb_el (P := fun u v => wpX_needed (fun r u' => wpY_needed (fun r' v' => r' = r ∧ i_Rel (k + 4) u' v') v) u) I ?_
  intro N B ft bd we wy nx su la fa ch ro pr pc yr yp yt ya on co hR
  obtain ⟨hN0, hN, hB, hz, ho, ht⟩ := hR
  unfold wpX_needed
  refine rb_xmost hN hB (fun mt D ft ro pr pc hm hd => ?_)
  have hM := rb_MM_i hN hB hm hd
  refine ⟨37, rb_xneed hN0 hN hM.1 (fun bd wy nx hB => ?_) 36 0 bd wy nx rfl hB⟩
  unfold wpY_needed
  refine rb_ymost hN0 hN hM.1 (rb_hok hN ho) hM.2.1 (fun k hk _ => hM.2.2.1 k hk) (fun yr yp yt ya co => ?_)
  refine rb_yrooks hN0 hN hM.1 (rb_hok hN ho) (fun yr yp yt ya co => ?_)
  rw [rb_len0]
  exact ⟨37, rb_yneed hN0 hN hB hz ho hM (fun yr yp yt ya co => ⟨rfl, rb_in ⟨hN0, hN, hB, hz, ho, ht⟩⟩) 36 0 yr yp yt ya co rfl⟩
end
