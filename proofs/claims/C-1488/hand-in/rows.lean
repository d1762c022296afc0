section
/-! pure rows to paste: stores, nI and lN arithmetic, masks, shifts, narrowing, branches by naturals (pk_le, pk_lt, pk_eq), loops (lp1 .. lp16: the measure of the state; rp1 ..: recursion), negatives. Take what you need -/
theorem pk_us {f : Nat → Int32} {k : Nat} {x : Int32} : upd f k x k = x := if_pos rfl
theorem pk_un {f : Nat → Int32} {k j : Nat} {x : Int32} (h : j ≠ k) : upd f k x j = f j := if_neg h
theorem pk_uLs {f : Nat → Int64} {k : Nat} {x : Int64} : vp_updL f k x k = x := if_pos rfl
theorem pk_uLn {f : Nat → Int64} {k j : Nat} {x : Int64} (h : j ≠ k) : vp_updL f k x j = f j := if_neg h
theorem pk_sub {a b : Nat} (h : b ≤ a) : nI a - nI b = nI (a - b) := by
  obtain ⟨c, rfl⟩ : ∃ c, a = c + b := ⟨a - b, by omega⟩
  rw [← nI_add, Int32.add_sub_cancel, Nat.add_sub_cancel]
theorem pk_m1 (n : Nat) : nI (n + 1) + (-1) = nI n := by
  rw [← nI_1, Int32.add_assoc, show (1 : Int32) + (-1) = 0 from rfl, Int32.add_zero]
theorem pk_mul (a b : Nat) : nI a * nI b = nI (a * b) := (Int32.ofNat_mul a b).symm
theorem pk_div {a d : Nat} (ha : a < 2 ^ 31) (h0 : 0 < d) (hd : d < 2 ^ 31) : nI a / nI d = nI (a / d) := by
  apply Int32.toInt_inj.mp
  rw [lg_idiv_nonneg (by rw [nI_toInt ha]; omega) (by rw [nI_toInt hd]; omega), nI_toInt ha, nI_toInt hd, nI_toInt (Nat.lt_of_le_of_lt (Nat.div_le_self a d) ha)]
  first | rfl | exact (Int.natCast_ediv _ _).symm
theorem pk_rem {a d : Nat} (ha : a < 2 ^ 31) (h0 : 0 < d) (hd : d < 2 ^ 31) : nI a - nI a / nI d * nI d = nI (a % d) := by
  rw [pk_div ha h0 hd, pk_mul, pk_sub (Nat.div_mul_le_self a d)]
  exact congrArg nI (by have := Nat.div_add_mod' a d; omega)
theorem pk_sub_toInt {a b : Nat} (ha : a < 2 ^ 30) (hb : b < 2 ^ 30) : (nI a - nI b).toInt = (a : Int) - b := by
  rw [Int32.toInt_sub, nI_toInt (by omega), nI_toInt (by omega)]
  exact Int.bmod_eq_of_le (by omega) (by omega)
theorem pk_sneg {a b : Nat} (hb : b < 2 ^ 30) (h : a < b) : nI a - nI b < 0 := by
  rw [Int32.lt_iff_toInt_lt, pk_sub_toInt (by omega) hb, show (0 : Int32).toInt = 0 from by decide]
  omega
theorem pk_ix (x : Int32) {n : Nat} (hn : n < 2 ^ 31) : x < 0 ∨ nI n ≤ x ∨ ∃ j : Nat, j < n ∧ x = nI j := by
  by_cases h : x < 0
  · exact Or.inl h
  · obtain ⟨j, hj, rfl⟩ := nI_of h
    by_cases h2 : j < n
    · exact Or.inr (Or.inr ⟨j, h2, rfl⟩)
    · exact Or.inr (Or.inl (nI_le (by omega) hj))
theorem pk_le {x y : Int32} {A B : Prop} (a b : Nat) (f : a ≤ b → A) (g : b < a → B) (hx : x = nI a := by rfl) (hy : y = nI b := by rfl) (ha : a < 2 ^ 31 := by omega) (hb : b < 2 ^ 31 := by omega) : (x ≤ y → A) ∧ (¬ x ≤ y → B) := by
  subst hx hy
  rw [nI_leI ha hb]
  exact ⟨f, fun z => g (by omega)⟩
theorem pk_lt {x y : Int32} {A B : Prop} (a b : Nat) (f : a < b → A) (g : b ≤ a → B) (hx : x = nI a := by rfl) (hy : y = nI b := by rfl) (ha : a < 2 ^ 31 := by omega) (hb : b < 2 ^ 31 := by omega) : (x < y → A) ∧ (¬ x < y → B) := by
  subst hx hy
  rw [nI_ltI ha hb]
  exact ⟨f, fun z => g (by omega)⟩
theorem pk_eq {x y : Int32} {A B : Prop} (a b : Nat) (f : a = b → A) (g : a ≠ b → B) (hx : x = nI a := by rfl) (hy : y = nI b := by rfl) (ha : a < 2 ^ 31 := by omega) (hb : b < 2 ^ 31 := by omega) : (x = y → A) ∧ (¬ x = y → B) := by
  subst hx hy
  rw [nI_eq ha hb]
  exact ⟨f, g⟩
theorem pk_in {x : Int32} (n N : Nat) (h : n < N) (hx : x = nI n := by rfl) (hN : N < 2 ^ 31 := by omega) : vp_in x N := by
  subst hx
  exact vp_in_nI h hN
theorem pk_cl {x : Int32} (n : Nat) (hx : x = nI n := by rfl) (h : n < 2 ^ 31 := by omega) : x.toNatClampNeg = n := by
  subst hx
  exact nI_clamp h
theorem pk_tn {n : Nat} (h : n < 2 ^ 32) : (nI n).toBitVec.toNat = n := Nat.mod_eq_of_lt h
theorem pk_and (x : Int32) {m : Int32} (k : Nat) (hm : m.toBitVec.toNat = 2 ^ k - 1) : x &&& m = nI (x.toBitVec.toNat % 2 ^ k) := by
  apply Int32.toBitVec_inj.mp
  apply BitVec.eq_of_toNat_eq
  rw [Int32.toBitVec_and, BitVec.toNat_and, hm, Nat.and_two_pow_sub_one_eq_mod]
  show _ = (BitVec.ofNat 32 _).toNat
  rw [BitVec.toNat_ofNat]
  exact (Nat.mod_eq_of_lt (Nat.lt_of_le_of_lt (Nat.mod_le _ _) x.toBitVec.isLt)).symm
theorem pk_andN {n : Nat} (h : n < 2 ^ 32) {m : Int32} (k : Nat) (hm : m.toBitVec.toNat = 2 ^ k - 1) : nI n &&& m = nI (n % 2 ^ k) := by
  rw [pk_and _ k hm, pk_tn h]
theorem pk_andE (x : Int32) {m : Int32} (k : Nat) (hm : m.toBitVec.toNat = 2 ^ k - 1) : ∃ j : Nat, j < 2 ^ k ∧ x &&& m = nI j := ⟨_, Nat.mod_lt _ (Nat.two_pow_pos k), pk_and x k hm⟩
theorem pk_andIn (x : Int32) {m : Int32} (k : Nat) (hm : m.toBitVec.toNat = 2 ^ k - 1) (hk : k ≤ 30) : vp_in (x &&& m) (2 ^ k) := by
  obtain ⟨j, hj, e⟩ := pk_andE x k hm
  rw [e]
  exact vp_in_nI hj (Nat.lt_of_le_of_lt (Nat.pow_le_pow_right (by decide) hk) (by decide))
theorem pk_shl (a s : Int32) (k : Nat) (hs : (s.toBitVec.smod 32).toNat = k) : (a <<< s).toBitVec.toNat = a.toBitVec.toNat * 2 ^ k % 2 ^ 32 := by
  show (a.toBitVec <<< (s.toBitVec.smod 32).toNat).toNat = _
  rw [hs, BitVec.toNat_shiftLeft, Nat.shiftLeft_eq]
theorem pk_shlN {n : Nat} (s : Int32) (k : Nat) (hs : (s.toBitVec.smod 32).toNat = k) (h : n * 2 ^ k < 2 ^ 32) : nI n <<< s = nI (n * 2 ^ k) := by
  apply Int32.toBitVec_inj.mp
  apply BitVec.eq_of_toNat_eq
  have hn : n < 2 ^ 32 := Nat.lt_of_le_of_lt (Nat.le_mul_of_pos_right n (Nat.two_pow_pos k)) h
  rw [pk_shl _ _ k hs, pk_tn hn, pk_tn h, Nat.mod_eq_of_lt h]
theorem pk_shr (a s : Int32) (k : Nat) (hs : (s.toBitVec.smod 32).toNat = k) : (a >>> s).toInt = a.toInt >>> k := by
  show (a.toBitVec.sshiftRight (s.toBitVec.smod 32).toNat).toInt = _
  rw [hs, BitVec.toInt_sshiftRight]
  rfl
theorem pk_shrN {n : Nat} (h : n < 2 ^ 31) (s : Int32) (k : Nat) (hs : (s.toBitVec.smod 32).toNat = k) : nI n >>> s = nI (n / 2 ^ k) := by
  apply Int32.toInt_inj.mp
  have h2 : n / 2 ^ k ≤ n := Nat.div_le_self _ _
  rw [pk_shr _ _ k hs, nI_toInt h, nI_toInt (by omega), Int.shiftRight_eq_div_pow]
  rfl
theorem pk_ushr (x s : Int32) (k : Nat) (hs : ((s.toUInt32 &&& Int32.toUInt32 31).toBitVec % 32).toNat = k) : (x.toUInt32 >>> (s.toUInt32 &&& Int32.toUInt32 31)).toInt32.toBitVec.toNat = x.toBitVec.toNat / 2 ^ k := by
  have e : (x.toUInt32 >>> (s.toUInt32 &&& Int32.toUInt32 31)).toInt32.toBitVec = x.toBitVec >>> k := by
    rw [← hs]
    exact UInt32.toBitVec_shiftRight _ _
  rw [e, BitVec.toNat_ushiftRight, Nat.shiftRight_eq_div_pow]
theorem pk_ushrN {n : Nat} (hn : n < 2 ^ 32) (s : Int32) (k : Nat) (hs : ((s.toUInt32 &&& Int32.toUInt32 31).toBitVec % 32).toNat = k) : ((nI n).toUInt32 >>> (s.toUInt32 &&& Int32.toUInt32 31)).toInt32 = nI (n / 2 ^ k) := by
  apply Int32.toBitVec_inj.mp
  apply BitVec.eq_of_toNat_eq
  rw [pk_ushr _ s k hs, pk_tn hn, pk_tn (Nat.lt_of_le_of_lt (Nat.div_le_self _ _) hn)]
theorem pk_nb (z : Int32) : narrow .byte (.int z.toInt8.toInt32) = .int z.toInt8.toInt32 := congrArg Value.int (by simp)
theorem pk_ns (z : Int32) : narrow .short (.int z.toInt16.toInt32) = .int z.toInt16.toInt32 := congrArg Value.int (by simp)
theorem pk_fb (r : Int32) : fits .byte (.int r.toInt8.toInt32) = true := by
  have ⟨a, b⟩ := lg_i2b_range r
  have h1 : (-128 : Int32).toInt = -128 := by decide
  have h2 : (127 : Int32).toInt = 127 := by decide
  simp only [fits, Bool.and_eq_true, decide_eq_true_eq, Int32.le_iff_toInt_le, h1, h2]
  omega
theorem pk_fs (r : Int32) : fits .short (.int r.toInt16.toInt32) = true := by
  have ⟨a, b⟩ := lg_i2s_range r
  have h1 : (-32768 : Int32).toInt = -32768 := by decide
  have h2 : (32767 : Int32).toInt = 32767 := by decide
  simp only [fits, Bool.and_eq_true, decide_eq_true_eq, Int32.le_iff_toInt_le, h1, h2]
  omega
theorem pk_charN {q : Nat} (hq : q < 65536) : narrow .char (.int (nI q)) = .int (nI q) ∧ fits .char (.int (nI q)) = true := by
  constructor
  · have e : (nI q).toUInt32.toUInt16.toUInt32.toInt32 = nI q := by
      apply Int32.toBitVec_inj.mp
      apply BitVec.eq_of_toNat_eq
      show (nI q).toUInt32.toUInt16.toUInt32.toNat = q % 2 ^ 32
      rw [UInt16.toNat_toUInt32, UInt32.toNat_toUInt16, show (nI q).toUInt32.toNat = q % 2 ^ 32 from rfl]
      omega
    exact congrArg Value.int e
  · have a : (0 : Int32) ≤ nI q := nI_pos' (by omega)
    have b : nI q ≤ 65535 := nI_le (b := 65535) (by omega) (by decide)
    show (decide ((0 : Int32) ≤ nI q) && decide (nI q ≤ 65535)) = true
    rw [decide_eq_true a, decide_eq_true b]
    rfl
theorem pk_char (x : Int32) : (x.toUInt32 % 65536).toInt32 = nI (x.toBitVec.toNat % 65536) := by
  apply Int32.toBitVec_inj.mp
  apply BitVec.eq_of_toNat_eq
  rw [pk_tn (by omega)]
  show (x.toUInt32 % 65536).toNat = _
  rw [UInt32.toNat_mod]
  rfl
theorem pk_nc (x : Int32) : narrow .char (.int (x.toUInt32 % 65536).toInt32) = .int (x.toUInt32 % 65536).toInt32 := by
  rw [pk_char]
  exact (pk_charN (Nat.mod_lt _ (by decide))).1
theorem pk_fc (x : Int32) : fits .char (.int (x.toUInt32 % 65536).toInt32) = true := by
  rw [pk_char]
  exact (pk_charN (Nat.mod_lt _ (by decide))).2
theorem pk_vb (z : Int32) : vp_nar .byte z.toInt8.toInt32 = z.toInt8.toInt32 := by rw [vp_nar_byte]; simp
theorem pk_vs (z : Int32) : vp_nar .short z.toInt16.toInt32 = z.toInt16.toInt32 := by rw [vp_nar_short]; simp
theorem pk_vc (z : Int32) : vp_nar .char (z.toUInt32 % 65536).toInt32 = (z.toUInt32 % 65536).toInt32 := Value.int.inj (pk_nc z)
theorem pk_lT {n : Nat} (h : n < 2 ^ 63) : (lN n).toInt = (n : Int) := lg_ofNat_toInt h
theorem pk_lLT {a b : Nat} (ha : a < 2 ^ 63) (hb : b < 2 ^ 63) : lN a < lN b ↔ a < b := by
  rw [Int64.lt_iff_toInt_lt, pk_lT ha, pk_lT hb]; omega
theorem pk_lLE {a b : Nat} (ha : a < 2 ^ 63) (hb : b < 2 ^ 63) : lN a ≤ lN b ↔ a ≤ b := by
  rw [Int64.le_iff_toInt_le, pk_lT ha, pk_lT hb]; omega
theorem pk_lEQ {a b : Nat} (ha : a < 2 ^ 63) (hb : b < 2 ^ 63) : lN a = lN b ↔ a = b := by
  rw [← Int64.toInt_inj, pk_lT ha, pk_lT hb]; omega
theorem pk_lOf {x : Int64} (h : ¬ x < 0) : ∃ k : Nat, k < 2 ^ 63 ∧ x = lN k := by
  rw [Int64.lt_iff_toInt_lt] at h
  have h0 : (0 : Int64).toInt = 0 := by decide
  have hx := Int64.toInt_lt x
  refine ⟨x.toInt.toNat, by omega, Int64.toInt_inj.mp ?_⟩
  rw [pk_lT (by omega)]
  omega
theorem pk_lDiv {a b : Nat} (ha : a < 2 ^ 63) (h0 : 0 < b) (hb : b < 2 ^ 63) : lN a / lN b = lN (a / b) := by
  apply Int64.toInt_inj.mp
  rw [lg_ldiv_nonneg (by rw [pk_lT ha]; omega) (by rw [pk_lT hb]; omega), pk_lT ha, pk_lT hb, pk_lT (Nat.lt_of_le_of_lt (Nat.div_le_self a b) ha)]
  rfl
theorem pk_lRem {a b : Nat} (ha : a < 2 ^ 63) (h0 : 0 < b) (hb : b < 2 ^ 63) : lN a - lN a / lN b * lN b = lN (a % b) := by
  rw [pk_lDiv ha h0 hb, lN_mul, lN_sub (Nat.div_mul_le_self a b)]
  exact congrArg lN (by have := Nat.div_add_mod' a b; omega)
theorem pk_loop {σ : Type} (W : Nat → Nat → σ → Prop) (I : Nat → σ → Prop) (e i0 : Nat) (s : σ) (hi : i0 ≤ e) (h0 : I i0 s) (hx : ∀ n s, I e s → W (n + 1) e s)
    (hs : ∀ n i s, i < e → I i s → (∀ s', I (i + 1) s' → W n (i + 1) s') → W (n + 1) i s) : ∃ n, W n i0 s :=
  ⟨e + 1, loop_i W I e hx hs (e + 1) i0 s hi (by omega) h0⟩
theorem pk_loopD {σ : Type} (W : Nat → Nat → σ → Prop) (I : Nat → σ → Prop) (hx : ∀ n s, I 0 s → W (n + 1) 0 s)
    (hs : ∀ n i s, I (i + 1) s → (∀ s', I i s' → W n i s') → W (n + 1) (i + 1) s) : ∀ (e : Nat) (s : σ), I e s → W (e + 1) e s := by
  intro e
  induction e with
  | zero => exact fun s h => hx 0 s h
  | succ e ih => exact fun s h => hs (e + 1) e s h (fun s' h' => ih s' h')
theorem lp1 {A1 : Type} (W : Nat → A1 → Prop) (I : A1 → Prop) (μ : A1 → Nat) (hs : ∀ (n : Nat) (a1 : A1), I a1 → (∀ (b1 : A1), I b1 → μ b1 < μ a1 → W n b1) → W (n + 1) a1) (a1 : A1) (h : I a1) : ∃ n, W n a1 :=
  loop_m (σ := A1) (fun n s => W n s) (fun s => I s) (fun s => μ s) (fun n s hI hk => hs n s hI (fun b1 h9 hm => hk b1 h9 hm)) a1 h
theorem lp2 {A1 A2 : Type} (W : Nat → A1 → A2 → Prop) (I : A1 → A2 → Prop) (μ : A1 → A2 → Nat) (hs : ∀ (n : Nat) (a1 : A1) (a2 : A2), I a1 a2 → (∀ (b1 : A1) (b2 : A2), I b1 b2 → μ b1 b2 < μ a1 a2 → W n b1 b2) → W (n + 1) a1 a2) (a1 : A1) (a2 : A2) (h : I a1 a2) : ∃ n, W n a1 a2 :=
  loop_m (σ := A1 × A2) (fun n s => W n s.1 s.2) (fun s => I s.1 s.2) (fun s => μ s.1 s.2) (fun n s hI hk => hs n s.1 s.2 hI (fun b1 b2 h9 hm => hk (b1, b2) h9 hm)) (a1, a2) h
theorem lp3 {A1 A2 A3 : Type} (W : Nat → A1 → A2 → A3 → Prop) (I : A1 → A2 → A3 → Prop) (μ : A1 → A2 → A3 → Nat) (hs : ∀ (n : Nat) (a1 : A1) (a2 : A2) (a3 : A3), I a1 a2 a3 → (∀ (b1 : A1) (b2 : A2) (b3 : A3), I b1 b2 b3 → μ b1 b2 b3 < μ a1 a2 a3 → W n b1 b2 b3) → W (n + 1) a1 a2 a3) (a1 : A1) (a2 : A2) (a3 : A3) (h : I a1 a2 a3) : ∃ n, W n a1 a2 a3 :=
  loop_m (σ := A1 × A2 × A3) (fun n s => W n s.1 s.2.1 s.2.2) (fun s => I s.1 s.2.1 s.2.2) (fun s => μ s.1 s.2.1 s.2.2) (fun n s hI hk => hs n s.1 s.2.1 s.2.2 hI (fun b1 b2 b3 h9 hm => hk (b1, b2, b3) h9 hm)) (a1, a2, a3) h
theorem lp4 {A1 A2 A3 A4 : Type} (W : Nat → A1 → A2 → A3 → A4 → Prop) (I : A1 → A2 → A3 → A4 → Prop) (μ : A1 → A2 → A3 → A4 → Nat) (hs : ∀ (n : Nat) (a1 : A1) (a2 : A2) (a3 : A3) (a4 : A4), I a1 a2 a3 a4 → (∀ (b1 : A1) (b2 : A2) (b3 : A3) (b4 : A4), I b1 b2 b3 b4 → μ b1 b2 b3 b4 < μ a1 a2 a3 a4 → W n b1 b2 b3 b4) → W (n + 1) a1 a2 a3 a4) (a1 : A1) (a2 : A2) (a3 : A3) (a4 : A4) (h : I a1 a2 a3 a4) : ∃ n, W n a1 a2 a3 a4 :=
  loop_m (σ := A1 × A2 × A3 × A4) (fun n s => W n s.1 s.2.1 s.2.2.1 s.2.2.2) (fun s => I s.1 s.2.1 s.2.2.1 s.2.2.2) (fun s => μ s.1 s.2.1 s.2.2.1 s.2.2.2) (fun n s hI hk => hs n s.1 s.2.1 s.2.2.1 s.2.2.2 hI (fun b1 b2 b3 b4 h9 hm => hk (b1, b2, b3, b4) h9 hm)) (a1, a2, a3, a4) h
theorem lp5 {A1 A2 A3 A4 A5 : Type} (W : Nat → A1 → A2 → A3 → A4 → A5 → Prop) (I : A1 → A2 → A3 → A4 → A5 → Prop) (μ : A1 → A2 → A3 → A4 → A5 → Nat) (hs : ∀ (n : Nat) (a1 : A1) (a2 : A2) (a3 : A3) (a4 : A4) (a5 : A5), I a1 a2 a3 a4 a5 → (∀ (b1 : A1) (b2 : A2) (b3 : A3) (b4 : A4) (b5 : A5), I b1 b2 b3 b4 b5 → μ b1 b2 b3 b4 b5 < μ a1 a2 a3 a4 a5 → W n b1 b2 b3 b4 b5) → W (n + 1) a1 a2 a3 a4 a5) (a1 : A1) (a2 : A2) (a3 : A3) (a4 : A4) (a5 : A5) (h : I a1 a2 a3 a4 a5) : ∃ n, W n a1 a2 a3 a4 a5 :=
  loop_m (σ := A1 × A2 × A3 × A4 × A5) (fun n s => W n s.1 s.2.1 s.2.2.1 s.2.2.2.1 s.2.2.2.2) (fun s => I s.1 s.2.1 s.2.2.1 s.2.2.2.1 s.2.2.2.2) (fun s => μ s.1 s.2.1 s.2.2.1 s.2.2.2.1 s.2.2.2.2) (fun n s hI hk => hs n s.1 s.2.1 s.2.2.1 s.2.2.2.1 s.2.2.2.2 hI (fun b1 b2 b3 b4 b5 h9 hm => hk (b1, b2, b3, b4, b5) h9 hm)) (a1, a2, a3, a4, a5) h
theorem lp6 {A1 A2 A3 A4 A5 A6 : Type} (W : Nat → A1 → A2 → A3 → A4 → A5 → A6 → Prop) (I : A1 → A2 → A3 → A4 → A5 → A6 → Prop) (μ : A1 → A2 → A3 → A4 → A5 → A6 → Nat) (hs : ∀ (n : Nat) (a1 : A1) (a2 : A2) (a3 : A3) (a4 : A4) (a5 : A5) (a6 : A6), I a1 a2 a3 a4 a5 a6 → (∀ (b1 : A1) (b2 : A2) (b3 : A3) (b4 : A4) (b5 : A5) (b6 : A6), I b1 b2 b3 b4 b5 b6 → μ b1 b2 b3 b4 b5 b6 < μ a1 a2 a3 a4 a5 a6 → W n b1 b2 b3 b4 b5 b6) → W (n + 1) a1 a2 a3 a4 a5 a6) (a1 : A1) (a2 : A2) (a3 : A3) (a4 : A4) (a5 : A5) (a6 : A6) (h : I a1 a2 a3 a4 a5 a6) : ∃ n, W n a1 a2 a3 a4 a5 a6 :=
  loop_m (σ := A1 × A2 × A3 × A4 × A5 × A6) (fun n s => W n s.1 s.2.1 s.2.2.1 s.2.2.2.1 s.2.2.2.2.1 s.2.2.2.2.2) (fun s => I s.1 s.2.1 s.2.2.1 s.2.2.2.1 s.2.2.2.2.1 s.2.2.2.2.2) (fun s => μ s.1 s.2.1 s.2.2.1 s.2.2.2.1 s.2.2.2.2.1 s.2.2.2.2.2) (fun n s hI hk => hs n s.1 s.2.1 s.2.2.1 s.2.2.2.1 s.2.2.2.2.1 s.2.2.2.2.2 hI (fun b1 b2 b3 b4 b5 b6 h9 hm => hk (b1, b2, b3, b4, b5, b6) h9 hm)) (a1, a2, a3, a4, a5, a6) h
theorem lp7 {A1 A2 A3 A4 A5 A6 A7 : Type} (W : Nat → A1 → A2 → A3 → A4 → A5 → A6 → A7 → Prop) (I : A1 → A2 → A3 → A4 → A5 → A6 → A7 → Prop) (μ : A1 → A2 → A3 → A4 → A5 → A6 → A7 → Nat) (hs : ∀ (n : Nat) (a1 : A1) (a2 : A2) (a3 : A3) (a4 : A4) (a5 : A5) (a6 : A6) (a7 : A7), I a1 a2 a3 a4 a5 a6 a7 → (∀ (b1 : A1) (b2 : A2) (b3 : A3) (b4 : A4) (b5 : A5) (b6 : A6) (b7 : A7), I b1 b2 b3 b4 b5 b6 b7 → μ b1 b2 b3 b4 b5 b6 b7 < μ a1 a2 a3 a4 a5 a6 a7 → W n b1 b2 b3 b4 b5 b6 b7) → W (n + 1) a1 a2 a3 a4 a5 a6 a7) (a1 : A1) (a2 : A2) (a3 : A3) (a4 : A4) (a5 : A5) (a6 : A6) (a7 : A7) (h : I a1 a2 a3 a4 a5 a6 a7) : ∃ n, W n a1 a2 a3 a4 a5 a6 a7 :=
  loop_m (σ := A1 × A2 × A3 × A4 × A5 × A6 × A7) (fun n s => W n s.1 s.2.1 s.2.2.1 s.2.2.2.1 s.2.2.2.2.1 s.2.2.2.2.2.1 s.2.2.2.2.2.2) (fun s => I s.1 s.2.1 s.2.2.1 s.2.2.2.1 s.2.2.2.2.1 s.2.2.2.2.2.1 s.2.2.2.2.2.2) (fun s => μ s.1 s.2.1 s.2.2.1 s.2.2.2.1 s.2.2.2.2.1 s.2.2.2.2.2.1 s.2.2.2.2.2.2) (fun n s hI hk => hs n s.1 s.2.1 s.2.2.1 s.2.2.2.1 s.2.2.2.2.1 s.2.2.2.2.2.1 s.2.2.2.2.2.2 hI (fun b1 b2 b3 b4 b5 b6 b7 h9 hm => hk (b1, b2, b3, b4, b5, b6, b7) h9 hm)) (a1, a2, a3, a4, a5, a6, a7) h
theorem lp8 {A1 A2 A3 A4 A5 A6 A7 A8 : Type} (W : Nat → A1 → A2 → A3 → A4 → A5 → A6 → A7 → A8 → Prop) (I : A1 → A2 → A3 → A4 → A5 → A6 → A7 → A8 → Prop) (μ : A1 → A2 → A3 → A4 → A5 → A6 → A7 → A8 → Nat) (hs : ∀ (n : Nat) (a1 : A1) (a2 : A2) (a3 : A3) (a4 : A4) (a5 : A5) (a6 : A6) (a7 : A7) (a8 : A8), I a1 a2 a3 a4 a5 a6 a7 a8 → (∀ (b1 : A1) (b2 : A2) (b3 : A3) (b4 : A4) (b5 : A5) (b6 : A6) (b7 : A7) (b8 : A8), I b1 b2 b3 b4 b5 b6 b7 b8 → μ b1 b2 b3 b4 b5 b6 b7 b8 < μ a1 a2 a3 a4 a5 a6 a7 a8 → W n b1 b2 b3 b4 b5 b6 b7 b8) → W (n + 1) a1 a2 a3 a4 a5 a6 a7 a8) (a1 : A1) (a2 : A2) (a3 : A3) (a4 : A4) (a5 : A5) (a6 : A6) (a7 : A7) (a8 : A8) (h : I a1 a2 a3 a4 a5 a6 a7 a8) : ∃ n, W n a1 a2 a3 a4 a5 a6 a7 a8 :=
  loop_m (σ := A1 × A2 × A3 × A4 × A5 × A6 × A7 × A8) (fun n s => W n s.1 s.2.1 s.2.2.1 s.2.2.2.1 s.2.2.2.2.1 s.2.2.2.2.2.1 s.2.2.2.2.2.2.1 s.2.2.2.2.2.2.2) (fun s => I s.1 s.2.1 s.2.2.1 s.2.2.2.1 s.2.2.2.2.1 s.2.2.2.2.2.1 s.2.2.2.2.2.2.1 s.2.2.2.2.2.2.2) (fun s => μ s.1 s.2.1 s.2.2.1 s.2.2.2.1 s.2.2.2.2.1 s.2.2.2.2.2.1 s.2.2.2.2.2.2.1 s.2.2.2.2.2.2.2) (fun n s hI hk => hs n s.1 s.2.1 s.2.2.1 s.2.2.2.1 s.2.2.2.2.1 s.2.2.2.2.2.1 s.2.2.2.2.2.2.1 s.2.2.2.2.2.2.2 hI (fun b1 b2 b3 b4 b5 b6 b7 b8 h9 hm => hk (b1, b2, b3, b4, b5, b6, b7, b8) h9 hm)) (a1, a2, a3, a4, a5, a6, a7, a8) h
theorem lp9 {A1 A2 A3 A4 A5 A6 A7 A8 A9 : Type} (W : Nat → A1 → A2 → A3 → A4 → A5 → A6 → A7 → A8 → A9 → Prop) (I : A1 → A2 → A3 → A4 → A5 → A6 → A7 → A8 → A9 → Prop) (μ : A1 → A2 → A3 → A4 → A5 → A6 → A7 → A8 → A9 → Nat) (hs : ∀ (n : Nat) (a1 : A1) (a2 : A2) (a3 : A3) (a4 : A4) (a5 : A5) (a6 : A6) (a7 : A7) (a8 : A8) (a9 : A9), I a1 a2 a3 a4 a5 a6 a7 a8 a9 → (∀ (b1 : A1) (b2 : A2) (b3 : A3) (b4 : A4) (b5 : A5) (b6 : A6) (b7 : A7) (b8 : A8) (b9 : A9), I b1 b2 b3 b4 b5 b6 b7 b8 b9 → μ b1 b2 b3 b4 b5 b6 b7 b8 b9 < μ a1 a2 a3 a4 a5 a6 a7 a8 a9 → W n b1 b2 b3 b4 b5 b6 b7 b8 b9) → W (n + 1) a1 a2 a3 a4 a5 a6 a7 a8 a9) (a1 : A1) (a2 : A2) (a3 : A3) (a4 : A4) (a5 : A5) (a6 : A6) (a7 : A7) (a8 : A8) (a9 : A9) (h : I a1 a2 a3 a4 a5 a6 a7 a8 a9) : ∃ n, W n a1 a2 a3 a4 a5 a6 a7 a8 a9 :=
  loop_m (σ := A1 × A2 × A3 × A4 × A5 × A6 × A7 × A8 × A9) (fun n s => W n s.1 s.2.1 s.2.2.1 s.2.2.2.1 s.2.2.2.2.1 s.2.2.2.2.2.1 s.2.2.2.2.2.2.1 s.2.2.2.2.2.2.2.1 s.2.2.2.2.2.2.2.2) (fun s => I s.1 s.2.1 s.2.2.1 s.2.2.2.1 s.2.2.2.2.1 s.2.2.2.2.2.1 s.2.2.2.2.2.2.1 s.2.2.2.2.2.2.2.1 s.2.2.2.2.2.2.2.2) (fun s => μ s.1 s.2.1 s.2.2.1 s.2.2.2.1 s.2.2.2.2.1 s.2.2.2.2.2.1 s.2.2.2.2.2.2.1 s.2.2.2.2.2.2.2.1 s.2.2.2.2.2.2.2.2) (fun n s hI hk => hs n s.1 s.2.1 s.2.2.1 s.2.2.2.1 s.2.2.2.2.1 s.2.2.2.2.2.1 s.2.2.2.2.2.2.1 s.2.2.2.2.2.2.2.1 s.2.2.2.2.2.2.2.2 hI (fun b1 b2 b3 b4 b5 b6 b7 b8 b9 h9 hm => hk (b1, b2, b3, b4, b5, b6, b7, b8, b9) h9 hm)) (a1, a2, a3, a4, a5, a6, a7, a8, a9) h
theorem lp10 {A1 A2 A3 A4 A5 A6 A7 A8 A9 A10 : Type} (W : Nat → A1 → A2 → A3 → A4 → A5 → A6 → A7 → A8 → A9 → A10 → Prop) (I : A1 → A2 → A3 → A4 → A5 → A6 → A7 → A8 → A9 → A10 → Prop) (μ : A1 → A2 → A3 → A4 → A5 → A6 → A7 → A8 → A9 → A10 → Nat) (hs : ∀ (n : Nat) (a1 : A1) (a2 : A2) (a3 : A3) (a4 : A4) (a5 : A5) (a6 : A6) (a7 : A7) (a8 : A8) (a9 : A9) (a10 : A10), I a1 a2 a3 a4 a5 a6 a7 a8 a9 a10 → (∀ (b1 : A1) (b2 : A2) (b3 : A3) (b4 : A4) (b5 : A5) (b6 : A6) (b7 : A7) (b8 : A8) (b9 : A9) (b10 : A10), I b1 b2 b3 b4 b5 b6 b7 b8 b9 b10 → μ b1 b2 b3 b4 b5 b6 b7 b8 b9 b10 < μ a1 a2 a3 a4 a5 a6 a7 a8 a9 a10 → W n b1 b2 b3 b4 b5 b6 b7 b8 b9 b10) → W (n + 1) a1 a2 a3 a4 a5 a6 a7 a8 a9 a10) (a1 : A1) (a2 : A2) (a3 : A3) (a4 : A4) (a5 : A5) (a6 : A6) (a7 : A7) (a8 : A8) (a9 : A9) (a10 : A10) (h : I a1 a2 a3 a4 a5 a6 a7 a8 a9 a10) : ∃ n, W n a1 a2 a3 a4 a5 a6 a7 a8 a9 a10 :=
  loop_m (σ := A1 × A2 × A3 × A4 × A5 × A6 × A7 × A8 × A9 × A10) (fun n s => W n s.1 s.2.1 s.2.2.1 s.2.2.2.1 s.2.2.2.2.1 s.2.2.2.2.2.1 s.2.2.2.2.2.2.1 s.2.2.2.2.2.2.2.1 s.2.2.2.2.2.2.2.2.1 s.2.2.2.2.2.2.2.2.2) (fun s => I s.1 s.2.1 s.2.2.1 s.2.2.2.1 s.2.2.2.2.1 s.2.2.2.2.2.1 s.2.2.2.2.2.2.1 s.2.2.2.2.2.2.2.1 s.2.2.2.2.2.2.2.2.1 s.2.2.2.2.2.2.2.2.2) (fun s => μ s.1 s.2.1 s.2.2.1 s.2.2.2.1 s.2.2.2.2.1 s.2.2.2.2.2.1 s.2.2.2.2.2.2.1 s.2.2.2.2.2.2.2.1 s.2.2.2.2.2.2.2.2.1 s.2.2.2.2.2.2.2.2.2) (fun n s hI hk => hs n s.1 s.2.1 s.2.2.1 s.2.2.2.1 s.2.2.2.2.1 s.2.2.2.2.2.1 s.2.2.2.2.2.2.1 s.2.2.2.2.2.2.2.1 s.2.2.2.2.2.2.2.2.1 s.2.2.2.2.2.2.2.2.2 hI (fun b1 b2 b3 b4 b5 b6 b7 b8 b9 b10 h9 hm => hk (b1, b2, b3, b4, b5, b6, b7, b8, b9, b10) h9 hm)) (a1, a2, a3, a4, a5, a6, a7, a8, a9, a10) h
theorem lp11 {A1 A2 A3 A4 A5 A6 A7 A8 A9 A10 A11 : Type} (W : Nat → A1 → A2 → A3 → A4 → A5 → A6 → A7 → A8 → A9 → A10 → A11 → Prop) (I : A1 → A2 → A3 → A4 → A5 → A6 → A7 → A8 → A9 → A10 → A11 → Prop) (μ : A1 → A2 → A3 → A4 → A5 → A6 → A7 → A8 → A9 → A10 → A11 → Nat) (hs : ∀ (n : Nat) (a1 : A1) (a2 : A2) (a3 : A3) (a4 : A4) (a5 : A5) (a6 : A6) (a7 : A7) (a8 : A8) (a9 : A9) (a10 : A10) (a11 : A11), I a1 a2 a3 a4 a5 a6 a7 a8 a9 a10 a11 → (∀ (b1 : A1) (b2 : A2) (b3 : A3) (b4 : A4) (b5 : A5) (b6 : A6) (b7 : A7) (b8 : A8) (b9 : A9) (b10 : A10) (b11 : A11), I b1 b2 b3 b4 b5 b6 b7 b8 b9 b10 b11 → μ b1 b2 b3 b4 b5 b6 b7 b8 b9 b10 b11 < μ a1 a2 a3 a4 a5 a6 a7 a8 a9 a10 a11 → W n b1 b2 b3 b4 b5 b6 b7 b8 b9 b10 b11) → W (n + 1) a1 a2 a3 a4 a5 a6 a7 a8 a9 a10 a11) (a1 : A1) (a2 : A2) (a3 : A3) (a4 : A4) (a5 : A5) (a6 : A6) (a7 : A7) (a8 : A8) (a9 : A9) (a10 : A10) (a11 : A11) (h : I a1 a2 a3 a4 a5 a6 a7 a8 a9 a10 a11) : ∃ n, W n a1 a2 a3 a4 a5 a6 a7 a8 a9 a10 a11 :=
  loop_m (σ := A1 × A2 × A3 × A4 × A5 × A6 × A7 × A8 × A9 × A10 × A11) (fun n s => W n s.1 s.2.1 s.2.2.1 s.2.2.2.1 s.2.2.2.2.1 s.2.2.2.2.2.1 s.2.2.2.2.2.2.1 s.2.2.2.2.2.2.2.1 s.2.2.2.2.2.2.2.2.1 s.2.2.2.2.2.2.2.2.2.1 s.2.2.2.2.2.2.2.2.2.2) (fun s => I s.1 s.2.1 s.2.2.1 s.2.2.2.1 s.2.2.2.2.1 s.2.2.2.2.2.1 s.2.2.2.2.2.2.1 s.2.2.2.2.2.2.2.1 s.2.2.2.2.2.2.2.2.1 s.2.2.2.2.2.2.2.2.2.1 s.2.2.2.2.2.2.2.2.2.2) (fun s => μ s.1 s.2.1 s.2.2.1 s.2.2.2.1 s.2.2.2.2.1 s.2.2.2.2.2.1 s.2.2.2.2.2.2.1 s.2.2.2.2.2.2.2.1 s.2.2.2.2.2.2.2.2.1 s.2.2.2.2.2.2.2.2.2.1 s.2.2.2.2.2.2.2.2.2.2) (fun n s hI hk => hs n s.1 s.2.1 s.2.2.1 s.2.2.2.1 s.2.2.2.2.1 s.2.2.2.2.2.1 s.2.2.2.2.2.2.1 s.2.2.2.2.2.2.2.1 s.2.2.2.2.2.2.2.2.1 s.2.2.2.2.2.2.2.2.2.1 s.2.2.2.2.2.2.2.2.2.2 hI (fun b1 b2 b3 b4 b5 b6 b7 b8 b9 b10 b11 h9 hm => hk (b1, b2, b3, b4, b5, b6, b7, b8, b9, b10, b11) h9 hm)) (a1, a2, a3, a4, a5, a6, a7, a8, a9, a10, a11) h
theorem lp12 {A1 A2 A3 A4 A5 A6 A7 A8 A9 A10 A11 A12 : Type} (W : Nat → A1 → A2 → A3 → A4 → A5 → A6 → A7 → A8 → A9 → A10 → A11 → A12 → Prop) (I : A1 → A2 → A3 → A4 → A5 → A6 → A7 → A8 → A9 → A10 → A11 → A12 → Prop) (μ : A1 → A2 → A3 → A4 → A5 → A6 → A7 → A8 → A9 → A10 → A11 → A12 → Nat) (hs : ∀ (n : Nat) (a1 : A1) (a2 : A2) (a3 : A3) (a4 : A4) (a5 : A5) (a6 : A6) (a7 : A7) (a8 : A8) (a9 : A9) (a10 : A10) (a11 : A11) (a12 : A12), I a1 a2 a3 a4 a5 a6 a7 a8 a9 a10 a11 a12 → (∀ (b1 : A1) (b2 : A2) (b3 : A3) (b4 : A4) (b5 : A5) (b6 : A6) (b7 : A7) (b8 : A8) (b9 : A9) (b10 : A10) (b11 : A11) (b12 : A12), I b1 b2 b3 b4 b5 b6 b7 b8 b9 b10 b11 b12 → μ b1 b2 b3 b4 b5 b6 b7 b8 b9 b10 b11 b12 < μ a1 a2 a3 a4 a5 a6 a7 a8 a9 a10 a11 a12 → W n b1 b2 b3 b4 b5 b6 b7 b8 b9 b10 b11 b12) → W (n + 1) a1 a2 a3 a4 a5 a6 a7 a8 a9 a10 a11 a12) (a1 : A1) (a2 : A2) (a3 : A3) (a4 : A4) (a5 : A5) (a6 : A6) (a7 : A7) (a8 : A8) (a9 : A9) (a10 : A10) (a11 : A11) (a12 : A12) (h : I a1 a2 a3 a4 a5 a6 a7 a8 a9 a10 a11 a12) : ∃ n, W n a1 a2 a3 a4 a5 a6 a7 a8 a9 a10 a11 a12 :=
  loop_m (σ := A1 × A2 × A3 × A4 × A5 × A6 × A7 × A8 × A9 × A10 × A11 × A12) (fun n s => W n s.1 s.2.1 s.2.2.1 s.2.2.2.1 s.2.2.2.2.1 s.2.2.2.2.2.1 s.2.2.2.2.2.2.1 s.2.2.2.2.2.2.2.1 s.2.2.2.2.2.2.2.2.1 s.2.2.2.2.2.2.2.2.2.1 s.2.2.2.2.2.2.2.2.2.2.1 s.2.2.2.2.2.2.2.2.2.2.2) (fun s => I s.1 s.2.1 s.2.2.1 s.2.2.2.1 s.2.2.2.2.1 s.2.2.2.2.2.1 s.2.2.2.2.2.2.1 s.2.2.2.2.2.2.2.1 s.2.2.2.2.2.2.2.2.1 s.2.2.2.2.2.2.2.2.2.1 s.2.2.2.2.2.2.2.2.2.2.1 s.2.2.2.2.2.2.2.2.2.2.2) (fun s => μ s.1 s.2.1 s.2.2.1 s.2.2.2.1 s.2.2.2.2.1 s.2.2.2.2.2.1 s.2.2.2.2.2.2.1 s.2.2.2.2.2.2.2.1 s.2.2.2.2.2.2.2.2.1 s.2.2.2.2.2.2.2.2.2.1 s.2.2.2.2.2.2.2.2.2.2.1 s.2.2.2.2.2.2.2.2.2.2.2) (fun n s hI hk => hs n s.1 s.2.1 s.2.2.1 s.2.2.2.1 s.2.2.2.2.1 s.2.2.2.2.2.1 s.2.2.2.2.2.2.1 s.2.2.2.2.2.2.2.1 s.2.2.2.2.2.2.2.2.1 s.2.2.2.2.2.2.2.2.2.1 s.2.2.2.2.2.2.2.2.2.2.1 s.2.2.2.2.2.2.2.2.2.2.2 hI (fun b1 b2 b3 b4 b5 b6 b7 b8 b9 b10 b11 b12 h9 hm => hk (b1, b2, b3, b4, b5, b6, b7, b8, b9, b10, b11, b12) h9 hm)) (a1, a2, a3, a4, a5, a6, a7, a8, a9, a10, a11, a12) h
theorem lp13 {A1 A2 A3 A4 A5 A6 A7 A8 A9 A10 A11 A12 A13 : Type} (W : Nat → A1 → A2 → A3 → A4 → A5 → A6 → A7 → A8 → A9 → A10 → A11 → A12 → A13 → Prop) (I : A1 → A2 → A3 → A4 → A5 → A6 → A7 → A8 → A9 → A10 → A11 → A12 → A13 → Prop) (μ : A1 → A2 → A3 → A4 → A5 → A6 → A7 → A8 → A9 → A10 → A11 → A12 → A13 → Nat) (hs : ∀ (n : Nat) (a1 : A1) (a2 : A2) (a3 : A3) (a4 : A4) (a5 : A5) (a6 : A6) (a7 : A7) (a8 : A8) (a9 : A9) (a10 : A10) (a11 : A11) (a12 : A12) (a13 : A13), I a1 a2 a3 a4 a5 a6 a7 a8 a9 a10 a11 a12 a13 → (∀ (b1 : A1) (b2 : A2) (b3 : A3) (b4 : A4) (b5 : A5) (b6 : A6) (b7 : A7) (b8 : A8) (b9 : A9) (b10 : A10) (b11 : A11) (b12 : A12) (b13 : A13), I b1 b2 b3 b4 b5 b6 b7 b8 b9 b10 b11 b12 b13 → μ b1 b2 b3 b4 b5 b6 b7 b8 b9 b10 b11 b12 b13 < μ a1 a2 a3 a4 a5 a6 a7 a8 a9 a10 a11 a12 a13 → W n b1 b2 b3 b4 b5 b6 b7 b8 b9 b10 b11 b12 b13) → W (n + 1) a1 a2 a3 a4 a5 a6 a7 a8 a9 a10 a11 a12 a13) (a1 : A1) (a2 : A2) (a3 : A3) (a4 : A4) (a5 : A5) (a6 : A6) (a7 : A7) (a8 : A8) (a9 : A9) (a10 : A10) (a11 : A11) (a12 : A12) (a13 : A13) (h : I a1 a2 a3 a4 a5 a6 a7 a8 a9 a10 a11 a12 a13) : ∃ n, W n a1 a2 a3 a4 a5 a6 a7 a8 a9 a10 a11 a12 a13 :=
  loop_m (σ := A1 × A2 × A3 × A4 × A5 × A6 × A7 × A8 × A9 × A10 × A11 × A12 × A13) (fun n s => W n s.1 s.2.1 s.2.2.1 s.2.2.2.1 s.2.2.2.2.1 s.2.2.2.2.2.1 s.2.2.2.2.2.2.1 s.2.2.2.2.2.2.2.1 s.2.2.2.2.2.2.2.2.1 s.2.2.2.2.2.2.2.2.2.1 s.2.2.2.2.2.2.2.2.2.2.1 s.2.2.2.2.2.2.2.2.2.2.2.1 s.2.2.2.2.2.2.2.2.2.2.2.2) (fun s => I s.1 s.2.1 s.2.2.1 s.2.2.2.1 s.2.2.2.2.1 s.2.2.2.2.2.1 s.2.2.2.2.2.2.1 s.2.2.2.2.2.2.2.1 s.2.2.2.2.2.2.2.2.1 s.2.2.2.2.2.2.2.2.2.1 s.2.2.2.2.2.2.2.2.2.2.1 s.2.2.2.2.2.2.2.2.2.2.2.1 s.2.2.2.2.2.2.2.2.2.2.2.2) (fun s => μ s.1 s.2.1 s.2.2.1 s.2.2.2.1 s.2.2.2.2.1 s.2.2.2.2.2.1 s.2.2.2.2.2.2.1 s.2.2.2.2.2.2.2.1 s.2.2.2.2.2.2.2.2.1 s.2.2.2.2.2.2.2.2.2.1 s.2.2.2.2.2.2.2.2.2.2.1 s.2.2.2.2.2.2.2.2.2.2.2.1 s.2.2.2.2.2.2.2.2.2.2.2.2) (fun n s hI hk => hs n s.1 s.2.1 s.2.2.1 s.2.2.2.1 s.2.2.2.2.1 s.2.2.2.2.2.1 s.2.2.2.2.2.2.1 s.2.2.2.2.2.2.2.1 s.2.2.2.2.2.2.2.2.1 s.2.2.2.2.2.2.2.2.2.1 s.2.2.2.2.2.2.2.2.2.2.1 s.2.2.2.2.2.2.2.2.2.2.2.1 s.2.2.2.2.2.2.2.2.2.2.2.2 hI (fun b1 b2 b3 b4 b5 b6 b7 b8 b9 b10 b11 b12 b13 h9 hm => hk (b1, b2, b3, b4, b5, b6, b7, b8, b9, b10, b11, b12, b13) h9 hm)) (a1, a2, a3, a4, a5, a6, a7, a8, a9, a10, a11, a12, a13) h
theorem lp14 {A1 A2 A3 A4 A5 A6 A7 A8 A9 A10 A11 A12 A13 A14 : Type} (W : Nat → A1 → A2 → A3 → A4 → A5 → A6 → A7 → A8 → A9 → A10 → A11 → A12 → A13 → A14 → Prop) (I : A1 → A2 → A3 → A4 → A5 → A6 → A7 → A8 → A9 → A10 → A11 → A12 → A13 → A14 → Prop) (μ : A1 → A2 → A3 → A4 → A5 → A6 → A7 → A8 → A9 → A10 → A11 → A12 → A13 → A14 → Nat) (hs : ∀ (n : Nat) (a1 : A1) (a2 : A2) (a3 : A3) (a4 : A4) (a5 : A5) (a6 : A6) (a7 : A7) (a8 : A8) (a9 : A9) (a10 : A10) (a11 : A11) (a12 : A12) (a13 : A13) (a14 : A14), I a1 a2 a3 a4 a5 a6 a7 a8 a9 a10 a11 a12 a13 a14 → (∀ (b1 : A1) (b2 : A2) (b3 : A3) (b4 : A4) (b5 : A5) (b6 : A6) (b7 : A7) (b8 : A8) (b9 : A9) (b10 : A10) (b11 : A11) (b12 : A12) (b13 : A13) (b14 : A14), I b1 b2 b3 b4 b5 b6 b7 b8 b9 b10 b11 b12 b13 b14 → μ b1 b2 b3 b4 b5 b6 b7 b8 b9 b10 b11 b12 b13 b14 < μ a1 a2 a3 a4 a5 a6 a7 a8 a9 a10 a11 a12 a13 a14 → W n b1 b2 b3 b4 b5 b6 b7 b8 b9 b10 b11 b12 b13 b14) → W (n + 1) a1 a2 a3 a4 a5 a6 a7 a8 a9 a10 a11 a12 a13 a14) (a1 : A1) (a2 : A2) (a3 : A3) (a4 : A4) (a5 : A5) (a6 : A6) (a7 : A7) (a8 : A8) (a9 : A9) (a10 : A10) (a11 : A11) (a12 : A12) (a13 : A13) (a14 : A14) (h : I a1 a2 a3 a4 a5 a6 a7 a8 a9 a10 a11 a12 a13 a14) : ∃ n, W n a1 a2 a3 a4 a5 a6 a7 a8 a9 a10 a11 a12 a13 a14 :=
  loop_m (σ := A1 × A2 × A3 × A4 × A5 × A6 × A7 × A8 × A9 × A10 × A11 × A12 × A13 × A14) (fun n s => W n s.1 s.2.1 s.2.2.1 s.2.2.2.1 s.2.2.2.2.1 s.2.2.2.2.2.1 s.2.2.2.2.2.2.1 s.2.2.2.2.2.2.2.1 s.2.2.2.2.2.2.2.2.1 s.2.2.2.2.2.2.2.2.2.1 s.2.2.2.2.2.2.2.2.2.2.1 s.2.2.2.2.2.2.2.2.2.2.2.1 s.2.2.2.2.2.2.2.2.2.2.2.2.1 s.2.2.2.2.2.2.2.2.2.2.2.2.2) (fun s => I s.1 s.2.1 s.2.2.1 s.2.2.2.1 s.2.2.2.2.1 s.2.2.2.2.2.1 s.2.2.2.2.2.2.1 s.2.2.2.2.2.2.2.1 s.2.2.2.2.2.2.2.2.1 s.2.2.2.2.2.2.2.2.2.1 s.2.2.2.2.2.2.2.2.2.2.1 s.2.2.2.2.2.2.2.2.2.2.2.1 s.2.2.2.2.2.2.2.2.2.2.2.2.1 s.2.2.2.2.2.2.2.2.2.2.2.2.2) (fun s => μ s.1 s.2.1 s.2.2.1 s.2.2.2.1 s.2.2.2.2.1 s.2.2.2.2.2.1 s.2.2.2.2.2.2.1 s.2.2.2.2.2.2.2.1 s.2.2.2.2.2.2.2.2.1 s.2.2.2.2.2.2.2.2.2.1 s.2.2.2.2.2.2.2.2.2.2.1 s.2.2.2.2.2.2.2.2.2.2.2.1 s.2.2.2.2.2.2.2.2.2.2.2.2.1 s.2.2.2.2.2.2.2.2.2.2.2.2.2) (fun n s hI hk => hs n s.1 s.2.1 s.2.2.1 s.2.2.2.1 s.2.2.2.2.1 s.2.2.2.2.2.1 s.2.2.2.2.2.2.1 s.2.2.2.2.2.2.2.1 s.2.2.2.2.2.2.2.2.1 s.2.2.2.2.2.2.2.2.2.1 s.2.2.2.2.2.2.2.2.2.2.1 s.2.2.2.2.2.2.2.2.2.2.2.1 s.2.2.2.2.2.2.2.2.2.2.2.2.1 s.2.2.2.2.2.2.2.2.2.2.2.2.2 hI (fun b1 b2 b3 b4 b5 b6 b7 b8 b9 b10 b11 b12 b13 b14 h9 hm => hk (b1, b2, b3, b4, b5, b6, b7, b8, b9, b10, b11, b12, b13, b14) h9 hm)) (a1, a2, a3, a4, a5, a6, a7, a8, a9, a10, a11, a12, a13, a14) h
theorem lp15 {A1 A2 A3 A4 A5 A6 A7 A8 A9 A10 A11 A12 A13 A14 A15 : Type} (W : Nat → A1 → A2 → A3 → A4 → A5 → A6 → A7 → A8 → A9 → A10 → A11 → A12 → A13 → A14 → A15 → Prop) (I : A1 → A2 → A3 → A4 → A5 → A6 → A7 → A8 → A9 → A10 → A11 → A12 → A13 → A14 → A15 → Prop) (μ : A1 → A2 → A3 → A4 → A5 → A6 → A7 → A8 → A9 → A10 → A11 → A12 → A13 → A14 → A15 → Nat) (hs : ∀ (n : Nat) (a1 : A1) (a2 : A2) (a3 : A3) (a4 : A4) (a5 : A5) (a6 : A6) (a7 : A7) (a8 : A8) (a9 : A9) (a10 : A10) (a11 : A11) (a12 : A12) (a13 : A13) (a14 : A14) (a15 : A15), I a1 a2 a3 a4 a5 a6 a7 a8 a9 a10 a11 a12 a13 a14 a15 → (∀ (b1 : A1) (b2 : A2) (b3 : A3) (b4 : A4) (b5 : A5) (b6 : A6) (b7 : A7) (b8 : A8) (b9 : A9) (b10 : A10) (b11 : A11) (b12 : A12) (b13 : A13) (b14 : A14) (b15 : A15), I b1 b2 b3 b4 b5 b6 b7 b8 b9 b10 b11 b12 b13 b14 b15 → μ b1 b2 b3 b4 b5 b6 b7 b8 b9 b10 b11 b12 b13 b14 b15 < μ a1 a2 a3 a4 a5 a6 a7 a8 a9 a10 a11 a12 a13 a14 a15 → W n b1 b2 b3 b4 b5 b6 b7 b8 b9 b10 b11 b12 b13 b14 b15) → W (n + 1) a1 a2 a3 a4 a5 a6 a7 a8 a9 a10 a11 a12 a13 a14 a15) (a1 : A1) (a2 : A2) (a3 : A3) (a4 : A4) (a5 : A5) (a6 : A6) (a7 : A7) (a8 : A8) (a9 : A9) (a10 : A10) (a11 : A11) (a12 : A12) (a13 : A13) (a14 : A14) (a15 : A15) (h : I a1 a2 a3 a4 a5 a6 a7 a8 a9 a10 a11 a12 a13 a14 a15) : ∃ n, W n a1 a2 a3 a4 a5 a6 a7 a8 a9 a10 a11 a12 a13 a14 a15 :=
  loop_m (σ := A1 × A2 × A3 × A4 × A5 × A6 × A7 × A8 × A9 × A10 × A11 × A12 × A13 × A14 × A15) (fun n s => W n s.1 s.2.1 s.2.2.1 s.2.2.2.1 s.2.2.2.2.1 s.2.2.2.2.2.1 s.2.2.2.2.2.2.1 s.2.2.2.2.2.2.2.1 s.2.2.2.2.2.2.2.2.1 s.2.2.2.2.2.2.2.2.2.1 s.2.2.2.2.2.2.2.2.2.2.1 s.2.2.2.2.2.2.2.2.2.2.2.1 s.2.2.2.2.2.2.2.2.2.2.2.2.1 s.2.2.2.2.2.2.2.2.2.2.2.2.2.1 s.2.2.2.2.2.2.2.2.2.2.2.2.2.2) (fun s => I s.1 s.2.1 s.2.2.1 s.2.2.2.1 s.2.2.2.2.1 s.2.2.2.2.2.1 s.2.2.2.2.2.2.1 s.2.2.2.2.2.2.2.1 s.2.2.2.2.2.2.2.2.1 s.2.2.2.2.2.2.2.2.2.1 s.2.2.2.2.2.2.2.2.2.2.1 s.2.2.2.2.2.2.2.2.2.2.2.1 s.2.2.2.2.2.2.2.2.2.2.2.2.1 s.2.2.2.2.2.2.2.2.2.2.2.2.2.1 s.2.2.2.2.2.2.2.2.2.2.2.2.2.2) (fun s => μ s.1 s.2.1 s.2.2.1 s.2.2.2.1 s.2.2.2.2.1 s.2.2.2.2.2.1 s.2.2.2.2.2.2.1 s.2.2.2.2.2.2.2.1 s.2.2.2.2.2.2.2.2.1 s.2.2.2.2.2.2.2.2.2.1 s.2.2.2.2.2.2.2.2.2.2.1 s.2.2.2.2.2.2.2.2.2.2.2.1 s.2.2.2.2.2.2.2.2.2.2.2.2.1 s.2.2.2.2.2.2.2.2.2.2.2.2.2.1 s.2.2.2.2.2.2.2.2.2.2.2.2.2.2) (fun n s hI hk => hs n s.1 s.2.1 s.2.2.1 s.2.2.2.1 s.2.2.2.2.1 s.2.2.2.2.2.1 s.2.2.2.2.2.2.1 s.2.2.2.2.2.2.2.1 s.2.2.2.2.2.2.2.2.1 s.2.2.2.2.2.2.2.2.2.1 s.2.2.2.2.2.2.2.2.2.2.1 s.2.2.2.2.2.2.2.2.2.2.2.1 s.2.2.2.2.2.2.2.2.2.2.2.2.1 s.2.2.2.2.2.2.2.2.2.2.2.2.2.1 s.2.2.2.2.2.2.2.2.2.2.2.2.2.2 hI (fun b1 b2 b3 b4 b5 b6 b7 b8 b9 b10 b11 b12 b13 b14 b15 h9 hm => hk (b1, b2, b3, b4, b5, b6, b7, b8, b9, b10, b11, b12, b13, b14, b15) h9 hm)) (a1, a2, a3, a4, a5, a6, a7, a8, a9, a10, a11, a12, a13, a14, a15) h
theorem lp16 {A1 A2 A3 A4 A5 A6 A7 A8 A9 A10 A11 A12 A13 A14 A15 A16 : Type} (W : Nat → A1 → A2 → A3 → A4 → A5 → A6 → A7 → A8 → A9 → A10 → A11 → A12 → A13 → A14 → A15 → A16 → Prop) (I : A1 → A2 → A3 → A4 → A5 → A6 → A7 → A8 → A9 → A10 → A11 → A12 → A13 → A14 → A15 → A16 → Prop) (μ : A1 → A2 → A3 → A4 → A5 → A6 → A7 → A8 → A9 → A10 → A11 → A12 → A13 → A14 → A15 → A16 → Nat) (hs : ∀ (n : Nat) (a1 : A1) (a2 : A2) (a3 : A3) (a4 : A4) (a5 : A5) (a6 : A6) (a7 : A7) (a8 : A8) (a9 : A9) (a10 : A10) (a11 : A11) (a12 : A12) (a13 : A13) (a14 : A14) (a15 : A15) (a16 : A16), I a1 a2 a3 a4 a5 a6 a7 a8 a9 a10 a11 a12 a13 a14 a15 a16 → (∀ (b1 : A1) (b2 : A2) (b3 : A3) (b4 : A4) (b5 : A5) (b6 : A6) (b7 : A7) (b8 : A8) (b9 : A9) (b10 : A10) (b11 : A11) (b12 : A12) (b13 : A13) (b14 : A14) (b15 : A15) (b16 : A16), I b1 b2 b3 b4 b5 b6 b7 b8 b9 b10 b11 b12 b13 b14 b15 b16 → μ b1 b2 b3 b4 b5 b6 b7 b8 b9 b10 b11 b12 b13 b14 b15 b16 < μ a1 a2 a3 a4 a5 a6 a7 a8 a9 a10 a11 a12 a13 a14 a15 a16 → W n b1 b2 b3 b4 b5 b6 b7 b8 b9 b10 b11 b12 b13 b14 b15 b16) → W (n + 1) a1 a2 a3 a4 a5 a6 a7 a8 a9 a10 a11 a12 a13 a14 a15 a16) (a1 : A1) (a2 : A2) (a3 : A3) (a4 : A4) (a5 : A5) (a6 : A6) (a7 : A7) (a8 : A8) (a9 : A9) (a10 : A10) (a11 : A11) (a12 : A12) (a13 : A13) (a14 : A14) (a15 : A15) (a16 : A16) (h : I a1 a2 a3 a4 a5 a6 a7 a8 a9 a10 a11 a12 a13 a14 a15 a16) : ∃ n, W n a1 a2 a3 a4 a5 a6 a7 a8 a9 a10 a11 a12 a13 a14 a15 a16 :=
  loop_m (σ := A1 × A2 × A3 × A4 × A5 × A6 × A7 × A8 × A9 × A10 × A11 × A12 × A13 × A14 × A15 × A16) (fun n s => W n s.1 s.2.1 s.2.2.1 s.2.2.2.1 s.2.2.2.2.1 s.2.2.2.2.2.1 s.2.2.2.2.2.2.1 s.2.2.2.2.2.2.2.1 s.2.2.2.2.2.2.2.2.1 s.2.2.2.2.2.2.2.2.2.1 s.2.2.2.2.2.2.2.2.2.2.1 s.2.2.2.2.2.2.2.2.2.2.2.1 s.2.2.2.2.2.2.2.2.2.2.2.2.1 s.2.2.2.2.2.2.2.2.2.2.2.2.2.1 s.2.2.2.2.2.2.2.2.2.2.2.2.2.2.1 s.2.2.2.2.2.2.2.2.2.2.2.2.2.2.2) (fun s => I s.1 s.2.1 s.2.2.1 s.2.2.2.1 s.2.2.2.2.1 s.2.2.2.2.2.1 s.2.2.2.2.2.2.1 s.2.2.2.2.2.2.2.1 s.2.2.2.2.2.2.2.2.1 s.2.2.2.2.2.2.2.2.2.1 s.2.2.2.2.2.2.2.2.2.2.1 s.2.2.2.2.2.2.2.2.2.2.2.1 s.2.2.2.2.2.2.2.2.2.2.2.2.1 s.2.2.2.2.2.2.2.2.2.2.2.2.2.1 s.2.2.2.2.2.2.2.2.2.2.2.2.2.2.1 s.2.2.2.2.2.2.2.2.2.2.2.2.2.2.2) (fun s => μ s.1 s.2.1 s.2.2.1 s.2.2.2.1 s.2.2.2.2.1 s.2.2.2.2.2.1 s.2.2.2.2.2.2.1 s.2.2.2.2.2.2.2.1 s.2.2.2.2.2.2.2.2.1 s.2.2.2.2.2.2.2.2.2.1 s.2.2.2.2.2.2.2.2.2.2.1 s.2.2.2.2.2.2.2.2.2.2.2.1 s.2.2.2.2.2.2.2.2.2.2.2.2.1 s.2.2.2.2.2.2.2.2.2.2.2.2.2.1 s.2.2.2.2.2.2.2.2.2.2.2.2.2.2.1 s.2.2.2.2.2.2.2.2.2.2.2.2.2.2.2) (fun n s hI hk => hs n s.1 s.2.1 s.2.2.1 s.2.2.2.1 s.2.2.2.2.1 s.2.2.2.2.2.1 s.2.2.2.2.2.2.1 s.2.2.2.2.2.2.2.1 s.2.2.2.2.2.2.2.2.1 s.2.2.2.2.2.2.2.2.2.1 s.2.2.2.2.2.2.2.2.2.2.1 s.2.2.2.2.2.2.2.2.2.2.2.1 s.2.2.2.2.2.2.2.2.2.2.2.2.1 s.2.2.2.2.2.2.2.2.2.2.2.2.2.1 s.2.2.2.2.2.2.2.2.2.2.2.2.2.2.1 s.2.2.2.2.2.2.2.2.2.2.2.2.2.2.2 hI (fun b1 b2 b3 b4 b5 b6 b7 b8 b9 b10 b11 b12 b13 b14 b15 b16 h9 hm => hk (b1, b2, b3, b4, b5, b6, b7, b8, b9, b10, b11, b12, b13, b14, b15, b16) h9 hm)) (a1, a2, a3, a4, a5, a6, a7, a8, a9, a10, a11, a12, a13, a14, a15, a16) h
theorem pk_least (P : Nat → Prop) (h : ∃ k, P k) : ∃ k, P k ∧ ∀ j, j < k → ¬ P j := by
  obtain ⟨k, hk⟩ := h
  induction k using Nat.strongRecOn with
  | ind k ih =>
    by_cases e : ∃ j, j < k ∧ P j
    · obtain ⟨j, hj, pj⟩ := e
      exact ih j hj pj
    · exact ⟨k, hk, fun j hj pj => e ⟨j, hj, pj⟩⟩
theorem rp1 {ρ A1 : Type} (W : Nat → (ρ → Prop) → A1 → Prop) (ok : A1 → Prop) (μ : A1 → Nat) (val : A1 → ρ)
    (hs : ∀ (d : Nat) (post : ρ → Prop) (a1 : A1), ok a1 → post (val a1) → (∀ (post' : ρ → Prop) (b1 : A1), ok b1 → μ b1 < μ a1 → post' (val b1) → W d post' b1) → W (d + 1) post a1) :
    ∀ (d : Nat) (post : ρ → Prop) (a1 : A1), ok a1 → μ a1 < d → post (val a1) → W d post a1 := by
  intro d
  induction d with
  | zero => intro post a1 _ h; omega
  | succ d ih =>
    intro post a1 ho hm hp
    exact hs d post a1 ho hp (fun post' b1 ho' hm' hp' => ih post' b1 ho' (by omega) hp')
theorem rp2 {ρ A1 A2 : Type} (W : Nat → (ρ → Prop) → A1 → A2 → Prop) (ok : A1 → A2 → Prop) (μ : A1 → A2 → Nat) (val : A1 → A2 → ρ)
    (hs : ∀ (d : Nat) (post : ρ → Prop) (a1 : A1) (a2 : A2), ok a1 a2 → post (val a1 a2) → (∀ (post' : ρ → Prop) (b1 : A1) (b2 : A2), ok b1 b2 → μ b1 b2 < μ a1 a2 → post' (val b1 b2) → W d post' b1 b2) → W (d + 1) post a1 a2) :
    ∀ (d : Nat) (post : ρ → Prop) (a1 : A1) (a2 : A2), ok a1 a2 → μ a1 a2 < d → post (val a1 a2) → W d post a1 a2 := by
  intro d
  induction d with
  | zero => intro post a1 a2 _ h; omega
  | succ d ih =>
    intro post a1 a2 ho hm hp
    exact hs d post a1 a2 ho hp (fun post' b1 b2 ho' hm' hp' => ih post' b1 b2 ho' (by omega) hp')
theorem rp3 {ρ A1 A2 A3 : Type} (W : Nat → (ρ → Prop) → A1 → A2 → A3 → Prop) (ok : A1 → A2 → A3 → Prop) (μ : A1 → A2 → A3 → Nat) (val : A1 → A2 → A3 → ρ)
    (hs : ∀ (d : Nat) (post : ρ → Prop) (a1 : A1) (a2 : A2) (a3 : A3), ok a1 a2 a3 → post (val a1 a2 a3) → (∀ (post' : ρ → Prop) (b1 : A1) (b2 : A2) (b3 : A3), ok b1 b2 b3 → μ b1 b2 b3 < μ a1 a2 a3 → post' (val b1 b2 b3) → W d post' b1 b2 b3) → W (d + 1) post a1 a2 a3) :
    ∀ (d : Nat) (post : ρ → Prop) (a1 : A1) (a2 : A2) (a3 : A3), ok a1 a2 a3 → μ a1 a2 a3 < d → post (val a1 a2 a3) → W d post a1 a2 a3 := by
  intro d
  induction d with
  | zero => intro post a1 a2 a3 _ h; omega
  | succ d ih =>
    intro post a1 a2 a3 ho hm hp
    exact hs d post a1 a2 a3 ho hp (fun post' b1 b2 b3 ho' hm' hp' => ih post' b1 b2 b3 ho' (by omega) hp')
theorem rp4 {ρ A1 A2 A3 A4 : Type} (W : Nat → (ρ → Prop) → A1 → A2 → A3 → A4 → Prop) (ok : A1 → A2 → A3 → A4 → Prop) (μ : A1 → A2 → A3 → A4 → Nat) (val : A1 → A2 → A3 → A4 → ρ)
    (hs : ∀ (d : Nat) (post : ρ → Prop) (a1 : A1) (a2 : A2) (a3 : A3) (a4 : A4), ok a1 a2 a3 a4 → post (val a1 a2 a3 a4) → (∀ (post' : ρ → Prop) (b1 : A1) (b2 : A2) (b3 : A3) (b4 : A4), ok b1 b2 b3 b4 → μ b1 b2 b3 b4 < μ a1 a2 a3 a4 → post' (val b1 b2 b3 b4) → W d post' b1 b2 b3 b4) → W (d + 1) post a1 a2 a3 a4) :
    ∀ (d : Nat) (post : ρ → Prop) (a1 : A1) (a2 : A2) (a3 : A3) (a4 : A4), ok a1 a2 a3 a4 → μ a1 a2 a3 a4 < d → post (val a1 a2 a3 a4) → W d post a1 a2 a3 a4 := by
  intro d
  induction d with
  | zero => intro post a1 a2 a3 a4 _ h; omega
  | succ d ih =>
    intro post a1 a2 a3 a4 ho hm hp
    exact hs d post a1 a2 a3 a4 ho hp (fun post' b1 b2 b3 b4 ho' hm' hp' => ih post' b1 b2 b3 b4 ho' (by omega) hp')
theorem rp5 {ρ A1 A2 A3 A4 A5 : Type} (W : Nat → (ρ → Prop) → A1 → A2 → A3 → A4 → A5 → Prop) (ok : A1 → A2 → A3 → A4 → A5 → Prop) (μ : A1 → A2 → A3 → A4 → A5 → Nat) (val : A1 → A2 → A3 → A4 → A5 → ρ)
    (hs : ∀ (d : Nat) (post : ρ → Prop) (a1 : A1) (a2 : A2) (a3 : A3) (a4 : A4) (a5 : A5), ok a1 a2 a3 a4 a5 → post (val a1 a2 a3 a4 a5) → (∀ (post' : ρ → Prop) (b1 : A1) (b2 : A2) (b3 : A3) (b4 : A4) (b5 : A5), ok b1 b2 b3 b4 b5 → μ b1 b2 b3 b4 b5 < μ a1 a2 a3 a4 a5 → post' (val b1 b2 b3 b4 b5) → W d post' b1 b2 b3 b4 b5) → W (d + 1) post a1 a2 a3 a4 a5) :
    ∀ (d : Nat) (post : ρ → Prop) (a1 : A1) (a2 : A2) (a3 : A3) (a4 : A4) (a5 : A5), ok a1 a2 a3 a4 a5 → μ a1 a2 a3 a4 a5 < d → post (val a1 a2 a3 a4 a5) → W d post a1 a2 a3 a4 a5 := by
  intro d
  induction d with
  | zero => intro post a1 a2 a3 a4 a5 _ h; omega
  | succ d ih =>
    intro post a1 a2 a3 a4 a5 ho hm hp
    exact hs d post a1 a2 a3 a4 a5 ho hp (fun post' b1 b2 b3 b4 b5 ho' hm' hp' => ih post' b1 b2 b3 b4 b5 ho' (by omega) hp')
theorem rp6 {ρ A1 A2 A3 A4 A5 A6 : Type} (W : Nat → (ρ → Prop) → A1 → A2 → A3 → A4 → A5 → A6 → Prop) (ok : A1 → A2 → A3 → A4 → A5 → A6 → Prop) (μ : A1 → A2 → A3 → A4 → A5 → A6 → Nat) (val : A1 → A2 → A3 → A4 → A5 → A6 → ρ)
    (hs : ∀ (d : Nat) (post : ρ → Prop) (a1 : A1) (a2 : A2) (a3 : A3) (a4 : A4) (a5 : A5) (a6 : A6), ok a1 a2 a3 a4 a5 a6 → post (val a1 a2 a3 a4 a5 a6) → (∀ (post' : ρ → Prop) (b1 : A1) (b2 : A2) (b3 : A3) (b4 : A4) (b5 : A5) (b6 : A6), ok b1 b2 b3 b4 b5 b6 → μ b1 b2 b3 b4 b5 b6 < μ a1 a2 a3 a4 a5 a6 → post' (val b1 b2 b3 b4 b5 b6) → W d post' b1 b2 b3 b4 b5 b6) → W (d + 1) post a1 a2 a3 a4 a5 a6) :
    ∀ (d : Nat) (post : ρ → Prop) (a1 : A1) (a2 : A2) (a3 : A3) (a4 : A4) (a5 : A5) (a6 : A6), ok a1 a2 a3 a4 a5 a6 → μ a1 a2 a3 a4 a5 a6 < d → post (val a1 a2 a3 a4 a5 a6) → W d post a1 a2 a3 a4 a5 a6 := by
  intro d
  induction d with
  | zero => intro post a1 a2 a3 a4 a5 a6 _ h; omega
  | succ d ih =>
    intro post a1 a2 a3 a4 a5 a6 ho hm hp
    exact hs d post a1 a2 a3 a4 a5 a6 ho hp (fun post' b1 b2 b3 b4 b5 b6 ho' hm' hp' => ih post' b1 b2 b3 b4 b5 b6 ho' (by omega) hp')
theorem rec_p {σ ρ : Type} (W : Nat → (ρ → Prop) → σ → Prop) (ok : σ → Prop) (μ : σ → Nat) (val : σ → ρ)
    (hs : ∀ d s post, ok s → post (val s) → (∀ s' post', ok s' → μ s' < μ s → post' (val s') → W d post' s') → W (d + 1) post s) :
    ∀ d s post, ok s → μ s < d → post (val s) → W d post s := by
  intro d
  induction d with
  | zero => intro s post _ h; omega
  | succ d ih =>
    intro s post ho hm hp
    exact hs d s post ho hp (fun s' post' ho' hm' hp' => ih s' post' ho' (by omega) hp')
theorem rec_q {σ ρ : Type} (W : Nat → (ρ → Prop) → σ → Prop) (ok : σ → Prop) (μ : σ → Nat) (Q : σ → ρ → Prop)
    (hs : ∀ d s post, ok s → (∀ r, Q s r → post r) → (∀ s' post', ok s' → μ s' < μ s → (∀ r, Q s' r → post' r) → W d post' s') → W (d + 1) post s) :
    ∀ d s post, ok s → μ s < d → (∀ r, Q s r → post r) → W d post s := by
  intro d
  induction d with
  | zero => intro s post _ h; omega
  | succ d ih =>
    intro s post ho hm hp
    exact hs d s post ho hp (fun s' post' ho' hm' hp' => ih s' post' ho' (by omega) hp')
def bx_sum (f : Nat → Int32) : Nat → Int32
  | 0 => 0
  | n + 1 => bx_sum f n + f n
theorem ek_u {A : Prop} {B : Nat → Prop} {k N : Nat} (hk : k < N) (h : B k) : (some k = none → A) ∧ (∀ y : Nat, some k = some y → (y < N ∧ B y)) :=
  ⟨fun z => absurd z (Option.some_ne_none k), fun _ e => (by cases e; exact ⟨hk, h⟩)⟩
theorem ek_nu {A : Prop} {B : Nat → Prop} (h : A) : ((none : Option Nat) = none → A) ∧ (∀ y : Nat, (none : Option Nat) = some y → B y) :=
  ⟨fun _ => h, fun _ e => (by cases e)⟩
theorem ek_if {c d A B : Prop} (e : c ↔ d) (f : d → A) (g : ¬ d → B) : (c → A) ∧ (¬ c → B) :=
  ⟨fun z => f (e.mp z), fun z => g (fun y => z (e.mpr y))⟩
theorem ek_v {α : Sort _} {P : α → Prop} {a b : α} (e : a = b) (h : P b) : P a := e ▸ h
theorem co_some {x : Option Nat} {A : Prop} {B : Nat → Prop} (i : Nat) (h : B i) (hx : x = some i := by rfl) : (x = none → A) ∧ (∀ y : Nat, x = some y → B y) := by
  subst hx
  exact ⟨fun e => (nomatch e), fun y e => Option.some.inj e ▸ h⟩
theorem co_none {x : Option Nat} {A : Prop} {B : Nat → Prop} (h : A) (hx : x = none := by rfl) : (x = none → A) ∧ (∀ y : Nat, x = some y → B y) := by
  subst hx
  exact ⟨fun _ => h, fun y e => (nomatch e)⟩
theorem co_any {x : Option Nat} {A : Prop} {B : Nat → Prop} (hn : x = none → A) (hs : ∀ i : Nat, x = some i → B i) : (x = none → A) ∧ (∀ y : Nat, x = some y → B y) := ⟨hn, hs⟩
theorem co_2 {P : Nat → Prop} (h0 : P 0) (h1 : P 1) {i : Nat} (hi : i < 2) : P i :=
  match i, hi with
  | 0, _ => h0
  | 1, _ => h1
theorem co_3 {P : Nat → Prop} (h0 : P 0) (h1 : P 1) (h2 : P 2) {i : Nat} (hi : i < 3) : P i :=
  match i, hi with
  | 0, _ => h0
  | 1, _ => h1
  | 2, _ => h2
theorem co_4 {P : Nat → Prop} (h0 : P 0) (h1 : P 1) (h2 : P 2) (h3 : P 3) {i : Nat} (hi : i < 4) : P i :=
  match i, hi with
  | 0, _ => h0
  | 1, _ => h1
  | 2, _ => h2
  | 3, _ => h3
theorem co_dec {N : Nat} {P : Nat → Prop} [DecidablePred P] (h : (List.range N).all (fun i => decide (P i)) = true) {i : Nat} (hi : i < N) : P i := by
  have := List.all_eq_true.mp h i (List.mem_range.mpr hi)
  exact of_decide_eq_true this
theorem co_tab {α : Type} {l : List α} {d : α} {P : α → Prop} (h : ∀ a, a ∈ l → P a) {i : Nat} (hi : i < l.length) : P (l.getD i d) := by
  rw [List.getD_eq_getElem?_getD, List.getElem?_eq_getElem hi]
  exact h _ (List.getElem_mem hi)
theorem pk_mu {x : Int32} {L : Nat} (h0 : ¬ x < 0) (h : ¬ nI L ≤ x) (hL : L < 2 ^ 31) : ∃ j : Nat, j < L ∧ x = nI j ∧ x + 1 = nI (j + 1) ∧ x.toNatClampNeg = j ∧ L - (x + 1).toNatClampNeg < L - x.toNatClampNeg := by
  obtain ⟨j, hj, rfl⟩ := nI_of h0
  have hl : j < L := Nat.not_le.mp fun q => h (nI_le q hj)
  refine ⟨j, hl, rfl, nI_1 j, nI_clamp hj, ?_⟩
  rw [nI_1, nI_clamp (by omega), nI_clamp hj]
  omega
theorem op_s {α : Type} {r : Option α} {A : Prop} {B : α → Prop} {y : α} (h : r = some y) (b : B y) : (r = none → A) ∧ ∀ z, r = some z → B z :=
  ⟨fun e => (by rw [h] at e; cases e), fun z e => (by rw [h] at e; cases e; exact b)⟩
def l_holds {α : Type} (a : Nat → Option Nat) (LP : List Nat) (p : Nat → α) (c : Nat) (b : Nat → α) : Prop :=
  ∀ j, j < c → ∃ y, a j = some y ∧ y ∈ LP ∧ p y = b j
theorem l_holds_0 {α : Type} {a : Nat → Option Nat} {LP : List Nat} {p b : Nat → α} : l_holds a LP p 0 b := fun j h => absurd h (Nat.not_lt_zero j)
theorem l_in_new (LP : List Nat) (q : Nat) : q ∈ LP ++ [q] := List.mem_append.mpr (Or.inr (List.mem_singleton.mpr rfl))
def l_sum (b : Nat → Int32) : Nat → Int32
  | 0 => 0
  | k + 1 => l_sum b k + b k
theorem sb_shr0 (x : Int32) : x >>> ((0 : Int32) &&& 31) = x := by
  rw [show ((0 : Int32) &&& 31) = 0 by decide]
  simp
theorem sb_shl0 (x : Int32) : x <<< ((0 : Int32) &&& 31) = x := by
  rw [show ((0 : Int32) &&& 31) = 0 by decide]
  simp
theorem sb_cl0 : (0 : Int32).toNatClampNeg = 0 := by decide
theorem sb_m1 {p : Nat} (h : 0 < p) : nI p + (-1) = nI (p - 1) := by
  obtain ⟨q, rfl⟩ : ∃ q, p = q + 1 := ⟨p - 1, by omega⟩
  exact pk_m1 q
def sb_b (c : Nat) : Int32 := (nI c).toInt8.toInt32
theorem sb_byte : ∀ c, c < 256 → sb_b c &&& 255 = nI c ∧ ((nI c).toUInt32 % 65536).toInt32 = nI c ∧ nI c ≤ 255 := by decide +kernel
def sb_Fit (a : Nat → Int32) : Prop := ∀ j, fits .byte (.int (a j)) = true
def sb_Lat (t : Nat → Nat) (n : Nat) (a : Nat → Int32) : Prop := ∀ j, j < n → t j < 256 ∧ a j = sb_b (t j)
theorem sb_fitB (c : Nat) : fits .byte (.int (sb_b c)) = true := pk_fb _
theorem sb_fit0 : sb_Fit (fun _ => 0) := fun _ => by
  show fits .byte (.int 0) = true
  decide
theorem sb_fitU {a : Nat → Int32} {k : Nat} {x : Int32} (h : sb_Fit a) (hx : fits .byte (.int x) = true) : sb_Fit (upd a k x) := by
  intro j
  by_cases e : j = k
  · subst e
    rw [pk_us]
    exact hx
  · rw [pk_un e]
    exact h j
def sb_cat (t : Nat → Nat) (n : Nat) (s : Nat → Nat) : Nat → Nat := fun j => if j < n then t j else s (j - n)
theorem sb_cat_lo {t s : Nat → Nat} {n j : Nat} (h : j < n) : sb_cat t n s j = t j := if_pos h
theorem sb_cat_hi {t s : Nat → Nat} {n j : Nat} : sb_cat t n s (n + j) = s j := by
  show (if n + j < n then t (n + j) else s (n + j - n)) = s j
  rw [if_neg (by omega), Nat.add_sub_cancel_left]
theorem sb_latPut {t s : Nat → Nat} {n w : Nat} {a a' : Nat → Int32} (h : sb_Lat t n a) (hk : ∀ j, j < n → a' j = a j) (hs : ∀ i, i < w → s i < 256 ∧ a' (n + i) = sb_b (s i)) : sb_Lat (sb_cat t n s) (n + w) a' := by
  intro j hj
  by_cases e : j < n
  · rw [sb_cat_lo e, hk j e]
    exact h j e
  · obtain ⟨i, rfl⟩ : ∃ i, j = n + i := ⟨j - n, by omega⟩
    rw [sb_cat_hi]
    exact hs i (by omega)
theorem sb_latKeep {t : Nat → Nat} {n : Nat} {a a' : Nat → Int32} (h : sb_Lat t n a) (hk : ∀ j, j < n → a' j = a j) : sb_Lat t n a' := fun j hj => by
  rw [hk j hj]
  exact h j hj
def sb_cap (q m : Nat) : Nat := if q ≤ m then m else if 2 * m + 2 < q then q else 2 * m + 2
def sb_Room (q m mc ms : Nat) : Prop := q ≤ m ∨ (1 ≤ mc ∧ sb_cap q m ≤ ms ∧ sb_cap q m ≤ 65536)
theorem sb_cap_ge (q m : Nat) : q ≤ sb_cap q m := by
  unfold sb_cap
  split
  · omega
  · split <;> omega
theorem sb_cap_gem (q m : Nat) : m ≤ sb_cap q m := by
  unfold sb_cap
  split
  · omega
  · split <;> omega
theorem sb_cap_le {q m mc ms : Nat} (hm : m ≤ 65536) (hr : sb_Room q m mc ms) : sb_cap q m ≤ 65536 := by
  rcases hr with h | h
  · rw [sb_cap, if_pos h]
    exact hm
  · exact h.2.2
theorem sb_at {P : Int32 → Prop} {x y : Int32} (e : x = y) (h : P y) : P x := e ▸ h
def sb_dg (w : Nat) : Nat := if w < 10 then 1 else if w < 100 then 2 else if w < 1000 then 3 else if w < 10000 then 4 else if w < 100000 then 5 else if w < 1000000 then 6 else if w < 10000000 then 7 else if w < 100000000 then 8 else if w < 1000000000 then 9 else 10
def sb_dec (v : Nat) : Nat → Nat := fun i => 48 + v / 10 ^ (sb_dg v - 1 - i) % 10
theorem sb_dg_in (w : Nat) : 1 ≤ sb_dg w ∧ sb_dg w ≤ 10 := by
  unfold sb_dg
  constructor <;> (repeat' split) <;> omega
theorem sb_dg100 {w : Nat} (h : 100 ≤ w) (hw : w < 2 ^ 31) : sb_dg w = sb_dg (w / 100) + 2 := by
  rw [sb_dg, sb_dg, if_neg (show ¬ w < 10 by omega), if_neg (show ¬ w < 100 by omega)]
  by_cases h3 : w < 1000
  · rw [if_pos h3, if_pos (show w / 100 < 10 by omega)]
  rw [if_neg h3, if_neg (show ¬ w / 100 < 10 by omega)]
  by_cases h4 : w < 10000
  · rw [if_pos h4, if_pos (show w / 100 < 100 by omega)]
  rw [if_neg h4, if_neg (show ¬ w / 100 < 100 by omega)]
  by_cases h5 : w < 100000
  · rw [if_pos h5, if_pos (show w / 100 < 1000 by omega)]
  rw [if_neg h5, if_neg (show ¬ w / 100 < 1000 by omega)]
  by_cases h6 : w < 1000000
  · rw [if_pos h6, if_pos (show w / 100 < 10000 by omega)]
  rw [if_neg h6, if_neg (show ¬ w / 100 < 10000 by omega)]
  by_cases h7 : w < 10000000
  · rw [if_pos h7, if_pos (show w / 100 < 100000 by omega)]
  rw [if_neg h7, if_neg (show ¬ w / 100 < 100000 by omega)]
  by_cases h8 : w < 100000000
  · rw [if_pos h8, if_pos (show w / 100 < 1000000 by omega)]
  rw [if_neg h8, if_neg (show ¬ w / 100 < 1000000 by omega)]
  by_cases h9 : w < 1000000000
  · rw [if_pos h9, if_pos (show w / 100 < 10000000 by omega)]
  rw [if_neg h9, if_neg (show ¬ w / 100 < 10000000 by omega)]
  rw [if_pos (show w / 100 < 100000000 by omega)]
theorem sb_negT {w : Nat} (h : w < 2 ^ 31) : (-nI w).toInt = -(w : Int) := by
  rw [Int32.toInt_neg, nI_toInt h]
  exact Int.bmod_eq_of_le (by omega) (by omega)
theorem sb_nle {a b : Nat} (ha : a < 2 ^ 31) (hb : b < 2 ^ 31) : -nI a ≤ -nI b ↔ b ≤ a := by
  rw [Int32.le_iff_toInt_le, sb_negT ha, sb_negT hb]
  omega
theorem sb_nlt {a b : Nat} (ha : a < 2 ^ 31) (hb : b < 2 ^ 31) : -nI a < -nI b ↔ b < a := by
  rw [Int32.lt_iff_toInt_lt, sb_negT ha, sb_negT hb]
  omega
theorem sb_cmp {A B : Prop} {x : Int32} (v c : Nat) (f : c ≤ v → A) (g : v < c → B) (hv : v < 2 ^ 31) (hx : x = -nI c := by rfl) (hc : c < 2 ^ 31 := by omega) : (-nI v ≤ x → A) ∧ (¬ -nI v ≤ x → B) := by
  subst hx
  rw [sb_nle hv hc]
  exact ⟨f, fun z => g (by omega)⟩
theorem sb_ndiv {w : Nat} (hw : w < 2 ^ 31) : (-nI w) / 100 = -nI (w / 100) := by
  apply Int32.toInt_inj.mp
  have h100 : (100 : Int32).toInt = 100 := by decide
  rw [Int32.toInt_div, sb_negT hw, h100, sb_negT (by omega), Int.neg_tdiv, Int.tdiv_eq_ediv_of_nonneg (by omega), Int.bmod_eq_of_le (by omega) (by omega)]
  omega
theorem sb_nrem {w : Nat} (hw : w < 2 ^ 31) : (-nI (w / 100)) * 100 - (-nI w) = nI (w % 100) := by
  have h := pk_rem (a := w) (d := 100) hw (by decide) (by decide)
  rw [pk_div hw (by decide) (by decide)] at h
  rw [← h]
  show (-nI (w / 100)) * nI 100 - (-nI w) = nI w - nI (w / 100) * nI 100
  rw [Int32.neg_mul, Int32.sub_neg, Int32.add_comm, ← Int32.sub_eq_add_neg]
end
section
/-! rows on bits, shifts and unsigned numbers, to paste: each family out of a closed proof of our own, whole with what it rests on; each by itself clean at Lean in its own claim (generation 39, form 5). Take a family whole -/
/-! ===== Int32 by its bits: bt x i ===== -/
def bt (x : Int32) (i : Nat) : Bool := x.toBitVec.getLsbD i
theorem b_ext {x y : Int32} (h : ∀ i, i < 32 → bt x i = bt y i) : x = y := Int32.toBitVec_inj.mp (BitVec.eq_of_getLsbD_eq (fun i hi => h i hi))
theorem b_or (x y : Int32) (i : Nat) : bt (x ||| y) i = (bt x i || bt y i) := by unfold bt; rw [Int32.toBitVec_or, BitVec.getLsbD_or]
theorem b_and (x y : Int32) (i : Nat) : bt (x &&& y) i = (bt x i && bt y i) := by unfold bt; rw [Int32.toBitVec_and, BitVec.getLsbD_and]
theorem b_xor (x y : Int32) (i : Nat) : bt (x ^^^ y) i = (bt x i ^^ bt y i) := by unfold bt; rw [Int32.toBitVec_xor, BitVec.getLsbD_xor]
theorem b_big {x : Int32} {i : Nat} (h : 32 ≤ i) : bt x i = false := BitVec.getLsbD_of_ge _ _ h
theorem b_255 (i : Nat) : bt 255 i = decide (i < 8) := by
  rcases Nat.lt_or_ge i 32 with h | h
  · exact (by decide +kernel : ∀ i, i < 32 → bt 255 i = decide (i < 8)) i h
  · rw [b_big h, decide_eq_false (by omega)]
theorem b_65535 (i : Nat) : bt 65535 i = decide (i < 16) := by
  rcases Nat.lt_or_ge i 32 with h | h
  · exact (by decide +kernel : ∀ i, i < 32 → bt 65535 i = decide (i < 16)) i h
  · rw [b_big h, decide_eq_false (by omega)]
theorem b_m1 : ∀ i, i < 32 → bt (-1) i = true := by decide +kernel
theorem b_0 (i : Nat) : bt 0 i = false := BitVec.getLsbD_zero
theorem s_l : ∀ n, n < 32 → ((nI n &&& 31).toBitVec.smod 32).toNat = n := by decide +kernel
theorem s_u : ∀ n, n < 32 → (((nI n).toUInt32 &&& Int32.toUInt32 31).toBitVec % 32).toNat = n := by decide +kernel
theorem b_shl (n : Nat) (hn : n < 32) (x : Int32) {i : Nat} (hi : i < 32) : bt (x <<< (nI n &&& 31)) i = (decide (n ≤ i) && bt x (i - n)) := by
  unfold bt
  rw [Int32.toBitVec_shiftLeft]
  show (x.toBitVec <<< ((nI n &&& 31).toBitVec.smod 32).toNat).getLsbD i = _
  rw [s_l n hn, BitVec.getLsbD_shiftLeft]
  rcases Nat.lt_or_ge i n with h | h
  · simp [h, Nat.not_le.mpr h]
  · simp [hi, h, Nat.not_lt.mpr h]
theorem b_ushr (n : Nat) (hn : n < 32) (x : Int32) (i : Nat) : bt ((x.toUInt32 >>> ((nI n).toUInt32 &&& Int32.toUInt32 31)).toInt32) i = bt x (n + i) := by
  show (x.toUInt32 >>> ((nI n).toUInt32 &&& Int32.toUInt32 31)).toBitVec.getLsbD i = x.toUInt32.toBitVec.getLsbD (n + i)
  rw [UInt32.toBitVec_shiftRight]
  show (x.toUInt32.toBitVec >>> (((nI n).toUInt32 &&& Int32.toUInt32 31).toBitVec % 32).toNat).getLsbD i = _
  rw [s_u n hn, BitVec.getLsbD_ushiftRight]
theorem b_sshr (n : Nat) (hn : n < 32) (x : Int32) {i : Nat} (hi : i < 32) : bt (x >>> (nI n &&& 31)) i = if n + i < 32 then bt x (n + i) else bt x 31 := by
  unfold bt
  rw [Int32.toBitVec_shiftRight]
  show (x.toBitVec.sshiftRight ((nI n &&& 31).toBitVec.smod 32).toNat).getLsbD i = _
  rw [s_l n hn, BitVec.getLsbD_sshiftRight, BitVec.msb_eq_getLsbD_last]
  simp [hi]
theorem b_shl8 (x : Int32) {i : Nat} (hi : i < 32) : bt (x <<< ((8 : Int32) &&& 31)) i = (decide (8 ≤ i) && bt x (i - 8)) := b_shl 8 (by omega) x hi
theorem b_shl16 (x : Int32) {i : Nat} (hi : i < 32) : bt (x <<< ((16 : Int32) &&& 31)) i = (decide (16 ≤ i) && bt x (i - 16)) := b_shl 16 (by omega) x hi
theorem b_shl24 (x : Int32) {i : Nat} (hi : i < 32) : bt (x <<< ((24 : Int32) &&& 31)) i = (decide (24 ≤ i) && bt x (i - 24)) := b_shl 24 (by omega) x hi
theorem b_sshr8 (x : Int32) {i : Nat} (hi : i < 32) : bt (x >>> ((8 : Int32) &&& 31)) i = if 8 + i < 32 then bt x (8 + i) else bt x 31 := b_sshr 8 (by omega) x hi
/-! ===== nI under and, xor, >>>, one bit, 65535 ===== -/
theorem nx_and (a b : Nat) : nI a &&& nI b = nI (a &&& b) := by
  apply Int32.toBitVec_inj.1
  show BitVec.ofNat 32 a &&& BitVec.ofNat 32 b = BitVec.ofNat 32 (a &&& b)
  apply BitVec.eq_of_getLsbD_eq
  intro i hi
  simp [hi]
theorem nx_xor (a b : Nat) : nI a ^^^ nI b = nI (a ^^^ b) := by
  apply Int32.toBitVec_inj.1
  show BitVec.ofNat 32 a ^^^ BitVec.ofNat 32 b = BitVec.ofNat 32 (a ^^^ b)
  apply BitVec.eq_of_getLsbD_eq
  intro i hi
  simp [hi]
theorem nx_cnt : ∀ j : Fin 32, (UInt32.ofNat j.val &&& Int32.toUInt32 31).toNat % 32 = j.val := by decide +kernel
theorem nx_ush {k j : Nat} (hk : k < 65536) (hj : j < 32) : ((nI k).toUInt32 >>> ((nI j).toUInt32 &&& Int32.toUInt32 31)).toInt32 = nI (k >>> j) := by
  have hs : k >>> j ≤ k := by
    rw [Nat.shiftRight_eq_div_pow]
    exact Nat.div_le_self _ _
  have e2 : UInt32.ofNat k >>> (UInt32.ofNat j &&& Int32.toUInt32 31) = UInt32.ofNat (k >>> j) := by
    apply UInt32.toNat_inj.1
    have h1 : (UInt32.ofNat k).toNat = k := Nat.mod_eq_of_lt (by omega)
    have h2 : (UInt32.ofNat (k >>> j)).toNat = k >>> j := Nat.mod_eq_of_lt (by omega)
    rw [UInt32.toNat_shiftRight, nx_cnt ⟨j, hj⟩, h1, h2]
  show (UInt32.ofNat k >>> (UInt32.ofNat j &&& Int32.toUInt32 31)).toInt32 = _
  rw [e2]
  rfl
theorem nx_bit {k j : Nat} (hk : k < 65536) (hj : j < 16) : (((nI k).toUInt32 >>> ((nI j).toUInt32 &&& Int32.toUInt32 31)).toInt32 &&& 1) = 0 ↔ k.testBit j = false := by
  rw [nx_ush hk (by omega)]
  show nI (k >>> j) &&& nI 1 = 0 ↔ _
  rw [nx_and, Nat.and_one_is_mod, ← nI_0, nI_eq (by omega) (by omega), Nat.testBit_eq_decide_div_mod_eq, Nat.shiftRight_eq_div_pow, decide_eq_false_iff_not]
  generalize k / 2 ^ j = z
  omega
theorem nx_mod (k : Nat) : nI k &&& 65535 = nI (k % 65536) := by
  show nI k &&& nI 65535 = _
  rw [nx_and, show (65535 : Nat) = 2 ^ 16 - 1 from rfl, Nat.and_two_pow_sub_one_eq_mod]
theorem nx_m16 {k : Nat} (h : k < 65536) : nI k &&& 65535 = nI k := by rw [nx_mod, Nat.mod_eq_of_lt h]
theorem nx_mask (x : Int32) : ∃ k, k < 65536 ∧ x &&& 65535 = nI k := by
  have e : x = nI x.toBitVec.toNat := by
    apply Int32.toBitVec_inj.1
    show x.toBitVec = BitVec.ofNat 32 x.toBitVec.toNat
    simp
  refine ⟨x.toBitVec.toNat % 65536, Nat.mod_lt _ (by omega), ?_⟩
  rw [← nx_mod, ← e]
/-! ===== Int32 as a set of bits: test, set ===== -/
def nf_M (m : Int32) : Nat := 4294967296 - m.toBitVec.toNat
theorem nf_sh : ∀ l, l < 32 → ((1 : Int32) <<< (nI l &&& 31)).toBitVec = BitVec.twoPow 32 l := by decide +kernel
theorem nf_sl : ∀ l, l < 32 → (((nI l).toUInt32 &&& Int32.toUInt32 31).toBitVec % 32).toNat = l := by decide +kernel
theorem nf_tp : ∀ l, l < 32 → BitVec.twoPow 32 l ≠ 0#32 := by decide +kernel
theorem nf_bit (m : Int32) (l : Nat) (hl : l < 32) : ((m.toUInt32 >>> ((nI l).toUInt32 &&& Int32.toUInt32 31)).toInt32 &&& 1) = 0 ↔ (m &&& ((1 : Int32) <<< (nI l &&& 31))) = 0 := by
  have e : ((m.toUInt32 >>> ((nI l).toUInt32 &&& Int32.toUInt32 31)).toInt32).toBitVec = m.toBitVec >>> l := by
    show m.toBitVec >>> (((nI l).toUInt32 &&& Int32.toUInt32 31).toBitVec % 32) = m.toBitVec >>> l
    rw [BitVec.ushiftRight_eq', nf_sl l hl]
  rw [← Int32.toBitVec_inj, ← Int32.toBitVec_inj, Int32.toBitVec_and, Int32.toBitVec_and, nf_sh l hl, e, BitVec.and_twoPow]
  show (m.toBitVec >>> l &&& 1#32) = 0#32 ↔ _ = 0#32
  rw [BitVec.and_one_eq_setWidth_ofBool_getLsbD, BitVec.getLsbD_ushiftRight, Nat.add_zero]
  cases hb : m.toBitVec.getLsbD l
  · exact ⟨fun _ => by simp, fun _ => by decide⟩
  · exact ⟨fun z => absurd z (by decide), fun z => absurd ((if_pos rfl).symm.trans z) (nf_tp l hl)⟩
theorem nf_gr (m k : Int32) (h : m &&& k = 0) (hk : k ≠ 0) : nf_M (m ||| k) < nf_M m := by
  have hm := m.toBitVec.isLt
  have hm' := (m ||| k).toBitVec.isLt
  have h1 : m.toBitVec.toNat ≤ (m ||| k).toBitVec.toNat := by
    rw [Int32.toBitVec_or, BitVec.toNat_or]
    exact Nat.left_le_or
  have h2 : m.toBitVec.toNat ≠ (m ||| k).toBitVec.toNat := by
    intro e
    have e2 : m = m ||| k := Int32.toBitVec_inj.mp (BitVec.eq_of_toNat_eq e)
    apply hk
    apply Int32.toBitVec_inj.mp
    show k.toBitVec = 0#32
    apply BitVec.eq_of_getLsbD_eq
    intro i hi
    have a : m.toBitVec.getLsbD i = (m.toBitVec.getLsbD i || k.toBitVec.getLsbD i) := by rw [← BitVec.getLsbD_or, ← Int32.toBitVec_or, ← e2]
    have b : (m.toBitVec.getLsbD i && k.toBitVec.getLsbD i) = false := by
      rw [← BitVec.getLsbD_and, ← Int32.toBitVec_and, h]
      exact BitVec.getLsbD_zero
    rw [BitVec.getLsbD_zero]
    revert a b
    cases m.toBitVec.getLsbD i <;> cases k.toBitVec.getLsbD i <;> simp
  unfold nf_M
  omega
/-! ===== a byte read unsigned ===== -/
theorem bp_b (x : Int32) : x.toInt8.toInt32 &&& 255 = x &&& 255 := by
  apply Int32.toBitVec_inj.mp
  rw [Int32.toBitVec_and, Int32.toBitVec_and, Int8.toBitVec_toInt32, Int32.toBitVec_toInt8]
  apply BitVec.eq_of_getLsbD_eq
  intro i hi
  rw [BitVec.getLsbD_and, BitVec.getLsbD_and]
  have hm : ∀ i < 32, 8 ≤ i → (255 : Int32).toBitVec.getLsbD i = false := by decide
  rcases Nat.lt_or_ge i 8 with z | z
  · rw [BitVec.getLsbD_signExtend, BitVec.getLsbD_signExtend, if_pos z, if_pos hi]
    simp only [z, hi, decide_true, Bool.true_and]
  · rw [hm i hi z]; simp
/-! ===== the char cast and 65535 ===== -/
theorem em_w (v : Int32) : ∃ w : Nat, w < 65536 ∧ (v.toUInt32 % 65536).toInt32 = nI w ∧ v &&& 65535 = nI w := by
  have hr := lw_u16_r v
  have h0 : (0 : Int32).toInt = 0 := by decide
  obtain ⟨w, h1, h2⟩ := nI_of (x := lw_u16 v) (by rw [Int32.lt_iff_toInt_lt]; omega)
  have h3 : (v.toUInt32 % 65536).toInt32 = nI w := h2
  rw [h2, nI_toInt h1] at hr
  exact ⟨w, by omega, h3, by rw [← lg_i2c_mask, ← lg_i2c_nf, h3]⟩
/-! ===== Int64 as a set of bits: test, set, clear ===== -/
theorem ts_nf {x : Bool} (h : ¬ x = false) : x = true := by cases x <;> first | rfl | exact absurd rfl h
theorem ts_nt {x : Bool} (h : ¬ x = true) : x = false := by cases x <;> first | rfl | exact absurd rfl h
theorem ts_bit {w : Int64} {s : UInt64} {j : Nat} (hj : j < 64) (hs : s.toNat = j) : ((w.toUInt64 >>> s).toInt64 &&& 1) = 0 ↔ w.toBitVec.getLsbD j = false := by
  have e : (w.toUInt64 >>> s).toInt64.toBitVec = w.toBitVec >>> j := by
    apply BitVec.eq_of_toNat_eq
    show (w.toUInt64 >>> s).toNat = _
    rw [UInt64.toNat_shiftRight, hs, Nat.mod_eq_of_lt hj, BitVec.toNat_ushiftRight]
    rfl
  rw [← Int64.toBitVec_inj, Int64.toBitVec_and, e]
  show w.toBitVec >>> j &&& 1#64 = 0#64 ↔ _
  constructor
  · intro h
    have t := congrArg (fun x => x.getLsbD 0) h
    simpa using t
  · intro h
    apply BitVec.eq_of_getLsbD_eq
    intro i hi
    cases i with
    | zero => simp [h]
    | succ i => simp
theorem ts_or {w m : Int64} {j : Nat} (hj : j < 64) (hm : m.toBitVec = BitVec.twoPow 64 j) : (w ||| m) = w ↔ w.toBitVec.getLsbD j = true := by
  rw [← Int64.toBitVec_inj, Int64.toBitVec_or, hm]
  constructor
  · intro h
    have t := congrArg (fun x => x.getLsbD j) h
    simp only [BitVec.getLsbD_or, BitVec.getLsbD_twoPow] at t
    simpa [hj] using t.symm
  · intro h
    apply BitVec.eq_of_getLsbD_eq
    intro i hi
    rw [BitVec.getLsbD_or, BitVec.getLsbD_twoPow]
    by_cases e : j = i
    · subst e; rw [h, Bool.true_or]
    · simp [e]
theorem ts_and {w m : Int64} {j : Nat} (hj : j < 64) (hm : m.toBitVec = BitVec.twoPow 64 j) : (w &&& (m ^^^ (-1))) = w ↔ w.toBitVec.getLsbD j = false := by
  have ha : (-1 : Int64).toBitVec = BitVec.allOnes 64 := by decide
  rw [← Int64.toBitVec_inj, Int64.toBitVec_and, Int64.toBitVec_xor, hm, ha]
  constructor
  · intro h
    have t := congrArg (fun x => x.getLsbD j) h
    simp only [BitVec.getLsbD_and, BitVec.getLsbD_xor, BitVec.getLsbD_twoPow, BitVec.getLsbD_allOnes] at t
    simpa [hj] using t.symm
  · intro h
    apply BitVec.eq_of_getLsbD_eq
    intro i hi
    rw [BitVec.getLsbD_and, BitVec.getLsbD_xor, BitVec.getLsbD_twoPow, BitVec.getLsbD_allOnes]
    by_cases e : j = i
    · subst e; rw [h, Bool.false_and]
    · simp [e, hi]
/-! ===== lN n to 2^64: shifts, and, or, masks, one bit ===== -/
theorem wb_tb (n : Nat) : (lN n).toBitVec = BitVec.ofNat 64 n := rfl
theorem wb_inj {a b : Int64} (h : a.toBitVec = b.toBitVec) : a = b := Int64.toBitVec_inj.mp h
theorem wb_tn {n : Nat} (h : n < 2 ^ 64) : (lN n).toBitVec.toNat = n := by rw [wb_tb, BitVec.toNat_ofNat, Nat.mod_eq_of_lt h]
theorem wb_of (x : Int64) : ∃ n, n < 2 ^ 64 ∧ x = lN n := ⟨x.toBitVec.toNat, x.toBitVec.isLt, wb_inj (by rw [wb_tb]; simp)⟩
theorem wb_of32 (x : Int32) : ∃ n, n < 2 ^ 32 ∧ x = nI n := ⟨x.toBitVec.toNat, x.toBitVec.isLt, Int32.toBitVec_inj.mp (by show _ = BitVec.ofNat 32 _; simp)⟩
theorem wb_c : ∀ k, k < 64 → ((nI k).toInt64 &&& 63) = lN k := by decide +kernel
theorem wb_cu : ∀ k, k < 64 → ((nI k).toInt64.toUInt64 &&& Int64.toUInt64 63) = UInt64.ofNat k := by decide +kernel
theorem wb_sm : ∀ k, k < 64 → (BitVec.ofNat 64 k).smod 64 = BitVec.ofNat 64 k := by decide +kernel
theorem wb_pw {a b : Nat} (h : a ≤ b) : 2 ^ b = 2 ^ a * 2 ^ (b - a) := by rw [← Nat.pow_add]; congr 1; omega
theorem wb_lt2 {a b : Nat} (h : a < b) : 2 ^ a < 2 ^ b := Nat.pow_lt_pow_right (by decide) h
theorem wb_mod (n : Nat) : lN n = lN (n % 2 ^ 64) := wb_inj (by rw [wb_tb, wb_tb]; apply BitVec.eq_of_toNat_eq; rw [BitVec.toNat_ofNat, BitVec.toNat_ofNat, Nat.mod_mod])
theorem wb_shr {n k : Nat} (hn : n < 2 ^ 64) (hk : k < 64) : ((lN n).toUInt64 >>> ((nI k).toInt64.toUInt64 &&& Int64.toUInt64 63)).toInt64 = lN (n / 2 ^ k) := by
  rw [wb_cu k hk]
  apply wb_inj
  apply BitVec.eq_of_toNat_eq
  show ((lN n).toUInt64 >>> UInt64.ofNat k).toNat = (BitVec.ofNat 64 _).toNat
  have h1 : (UInt64.ofNat k).toNat = k := by
    show (BitVec.ofNat 64 k).toNat = k
    rw [BitVec.toNat_ofNat, Nat.mod_eq_of_lt (by omega)]
  have h2 : (lN n).toUInt64.toNat = n := wb_tn hn
  rw [UInt64.toNat_shiftRight, h1, h2, Nat.mod_eq_of_lt hk, Nat.shiftRight_eq_div_pow, BitVec.toNat_ofNat, Nat.mod_eq_of_lt (Nat.lt_of_le_of_lt (Nat.div_le_self _ _) hn)]
theorem wb_shl (n : Nat) {k : Nat} (hk : k < 64) : lN n <<< ((nI k).toInt64 &&& 63) = lN (n * 2 ^ k) := by
  rw [wb_c k hk]
  apply wb_inj
  rw [Int64.toBitVec_shiftLeft, wb_tb, wb_tb, wb_tb, wb_sm k hk]
  apply BitVec.eq_of_toNat_eq
  rw [BitVec.shiftLeft_eq', BitVec.toNat_shiftLeft, BitVec.toNat_ofNat, BitVec.toNat_ofNat, BitVec.toNat_ofNat, Nat.mod_eq_of_lt (show k < 2 ^ 64 by omega), Nat.shiftLeft_eq, Nat.mul_mod, Nat.mod_mod, ← Nat.mul_mod]
theorem wb_and {a b : Nat} (ha : a < 2 ^ 64) (hb : b < 2 ^ 64) : lN a &&& lN b = lN (a &&& b) := by
  apply wb_inj
  rw [Int64.toBitVec_and, wb_tb, wb_tb, wb_tb]
  apply BitVec.eq_of_toNat_eq
  rw [BitVec.toNat_and, BitVec.toNat_ofNat, BitVec.toNat_ofNat, BitVec.toNat_ofNat, Nat.mod_eq_of_lt ha, Nat.mod_eq_of_lt hb, Nat.mod_eq_of_lt (Nat.and_lt_two_pow _ hb)]
theorem wb_or {a b : Nat} (ha : a < 2 ^ 64) (hb : b < 2 ^ 64) : lN a ||| lN b = lN (a ||| b) := by
  apply wb_inj
  rw [Int64.toBitVec_or, wb_tb, wb_tb, wb_tb]
  apply BitVec.eq_of_toNat_eq
  rw [BitVec.toNat_or, BitVec.toNat_ofNat, BitVec.toNat_ofNat, BitVec.toNat_ofNat, Nat.mod_eq_of_lt ha, Nat.mod_eq_of_lt hb, Nat.mod_eq_of_lt (Nat.or_lt_two_pow ha hb)]
theorem wb_mask {n k : Nat} (hn : n < 2 ^ 64) (hk : k < 64) : lN n &&& lN (2 ^ k - 1) = lN (n % 2 ^ k) := by
  rw [wb_and hn (by have := wb_lt2 hk; omega), Nat.and_two_pow_sub_one_eq_mod]
theorem wb_a1 {n : Nat} (hn : n < 2 ^ 64) : lN n &&& 1 = lN (n % 2) := wb_mask (k := 1) hn (by decide)
theorem wb_bit {n k : Nat} (hn : n < 2 ^ 64) (hk : k < 64) : ((lN n).toUInt64 >>> ((nI k).toInt64.toUInt64 &&& Int64.toUInt64 63)).toInt64 &&& 1 = lN (n / 2 ^ k % 2) := by
  rw [wb_shr hn hk, wb_a1 (Nat.lt_of_le_of_lt (Nat.div_le_self _ _) hn)]
theorem wb_xor {q k : Nat} (hk : k < 63) (h : 2 ^ k ≤ q) (h2 : q < 2 ^ (k + 1)) : lN q ^^^ lN (2 ^ k) = lN (q - 2 ^ k) := by
  obtain ⟨r, rfl⟩ : ∃ r, q = 2 ^ k + r := ⟨q - 2 ^ k, by omega⟩
  have hr : r < 2 ^ k := by rw [Nat.pow_succ] at h2; omega
  have hx : (2 ^ k + r) ^^^ 2 ^ k = r := by
    apply Nat.eq_of_testBit_eq
    intro i
    rw [Nat.testBit_xor, Nat.testBit_two_pow]
    rcases Nat.lt_trichotomy i k with h | h | h
    · rw [Nat.testBit_two_pow_add_gt h]
      simp [show ¬ k = i by omega]
    · subst h
      rw [Nat.testBit_two_pow_add_eq]
      simp
    · have a1 : 2 ^ (k + 1) ≤ 2 ^ i := Nat.pow_le_pow_right (by decide) h
      rw [Nat.testBit_lt_two_pow (show 2 ^ k + r < 2 ^ i by omega), Nat.testBit_lt_two_pow (show r < 2 ^ i by omega)]
      simp [show ¬ k = i by omega]
  have b1 := wb_lt2 (show k + 1 < 64 by omega)
  have b2 := wb_lt2 (show k < 64 by omega)
  apply wb_inj
  rw [Int64.toBitVec_xor, wb_tb, wb_tb, wb_tb]
  apply BitVec.eq_of_toNat_eq
  rw [BitVec.toNat_xor, BitVec.toNat_ofNat, BitVec.toNat_ofNat, BitVec.toNat_ofNat, Nat.mod_eq_of_lt (by omega : 2 ^ k + r < 2 ^ 64), Nat.mod_eq_of_lt b2, hx, Nat.add_sub_cancel_left, Nat.mod_eq_of_lt (by omega)]
/-! ===== lN: masks, 'or' of parts that don't overlap is a sum ===== -/
theorem u_tn {n : Nat} (h : n < 2 ^ 64) : (UInt64.ofNat n).toNat = n := Nat.mod_eq_of_lt h
theorem g_and {a b c : Nat} (ha : a < 2 ^ 64) (hb : b < 2 ^ 64) (hc : a &&& b = c) : lN a &&& lN b = lN c := by
  subst hc
  have h : UInt64.ofNat a &&& UInt64.ofNat b = UInt64.ofNat (a &&& b) := UInt64.toNat_inj.mp (by rw [UInt64.toNat_and, u_tn ha, u_tn hb, u_tn (Nat.and_lt_two_pow a hb)])
  have h2 := congrArg UInt64.toInt64 h
  exact h2
theorem g_and1 {a : Nat} (ha : a < 2 ^ 64) : lN a &&& 1 = lN (a % 2) := g_and (b := 1) ha (by decide) (Nat.and_two_pow_sub_one_eq_mod a 1)
theorem g_mask {a s p : Nat} (hp : 2 ^ s = p) (hs : s < 64) (ha : a < 2 ^ 64) : lN a &&& lN (p - 1) = lN (a % p) := by
  subst hp
  have := Nat.pow_lt_pow_right (show 1 < 2 by decide) hs
  exact g_and ha (by omega) (Nat.and_two_pow_sub_one_eq_mod a s)
theorem g_or {k p a b : Nat} (hp : 2 ^ k = p) (ha : a < p) (h : b * p + a < 2 ^ 64) : lN (b * p) ||| lN a = lN (b * p + a) := by
  subst hp
  have h1 : b * 2 ^ k ||| a = b * 2 ^ k + a := by rw [← Nat.shiftLeft_eq, Nat.shiftLeft_add_eq_or_of_lt ha]
  have h3 : UInt64.ofNat (b * 2 ^ k) ||| UInt64.ofNat a = UInt64.ofNat (b * 2 ^ k + a) := UInt64.toNat_inj.mp (by rw [UInt64.toNat_or, u_tn (by omega), u_tn (by omega), u_tn h, h1])
  have h2 := congrArg UInt64.toInt64 h3
  exact h2
theorem g_or' {k p a b : Nat} (hp : 2 ^ k = p) (ha : a < p) (h : a + b * p < 2 ^ 64) : lN a ||| lN (b * p) = lN (a + b * p) := by
  rw [Int64.or_comm, g_or hp ha (by omega), Nat.add_comm]
theorem g_ushr {a k p : Nat} {y : UInt64} (hy : y = UInt64.ofNat k) (hk : k < 64) (hp : 2 ^ k = p) (ha : a < 2 ^ 64) : ((lN a).toUInt64 >>> y).toInt64 = lN (a / p) := by
  subst hy hp
  have h : UInt64.ofNat a >>> UInt64.ofNat k = UInt64.ofNat (a / 2 ^ k) := UInt64.toNat_inj.mp (by rw [UInt64.toNat_shiftRight, u_tn ha, u_tn (by omega), u_tn (Nat.lt_of_le_of_lt (Nat.div_le_self _ _) ha), Nat.mod_eq_of_lt hk, Nat.shiftRight_eq_div_pow])
  have h2 := congrArg UInt64.toInt64 h
  exact h2
theorem g_shl {a k p : Nat} {y : Int64} (hy : y.toBitVec.smod 64 = BitVec.ofNat 64 k) (hk : k < 64) (hp : 2 ^ k = p) (ha : a < 2 ^ 64) : lN a <<< y = lN (a * p) := by
  subst hp
  apply Int64.toBitVec_inj.mp
  rw [Int64.toBitVec_shiftLeft, hy]
  apply BitVec.eq_of_toNat_eq
  have hb : (lN a).toBitVec.toNat = a := Nat.mod_eq_of_lt ha
  have hk' : (BitVec.ofNat 64 k).toNat = k := Nat.mod_eq_of_lt (by omega)
  have h : ((lN a).toBitVec <<< BitVec.ofNat 64 k).toNat = (a * 2 ^ k) % 2 ^ 64 := by simp only [BitVec.shiftLeft_eq', BitVec.toNat_shiftLeft, hb, hk', Nat.shiftLeft_eq]
  exact h
/-! ===== lN to 2^62 under >> and >>> ===== -/
theorem pf_lI {a : Nat} (h : a < 2 ^ 63) : (lN a).toInt = (a : Int) := lg_ofNat_toInt h
theorem pf_shr {a d : Nat} {D : Int64} (hD : (D.toBitVec.smod 64).toNat = d) (h : a < 2 ^ 62) : lN a >>> D = lN (a / 2 ^ d) := by
  have hd : a / 2 ^ d ≤ a := Nat.div_le_self _ _
  apply Int64.toInt_inj.mp
  have e : (lN a >>> D).toInt = (lN a).toInt >>> d := by
    rw [← hD]
    exact BitVec.toInt_sshiftRight ..
  rw [e, Int.shiftRight_eq_div_pow, pf_lI (by omega), pf_lI (by omega)]
  rfl
theorem pf_ushr {a d : Nat} {D : UInt64} (hD : D.toNat % 64 = d) (h : a < 2 ^ 62) : ((lN a).toUInt64 >>> D).toInt64 = lN (a / 2 ^ d) := by
  have hd : a / 2 ^ d ≤ a := Nat.div_le_self _ _
  have e : (lN a).toUInt64 >>> D = UInt64.ofNat (a / 2 ^ d) := UInt64.toNat_inj.mp (by
    rw [UInt64.toNat_shiftRight, hD, Nat.shiftRight_eq_div_pow, UInt64.toNat_ofNat']
    show (UInt64.ofNat a).toNat / 2 ^ d = _
    rw [UInt64.toNat_ofNat', Nat.mod_eq_of_lt (by omega), Nat.mod_eq_of_lt (by omega)])
  rw [e]
  rfl
theorem pf_andw (x : Int64) : ∃ m, m < 2 ^ 32 ∧ x &&& 4294967295 = lN m := ⟨x.toBitVec.toNat % 2 ^ 32, Nat.mod_lt _ (by decide), Int64.toBitVec_inj.mp (BitVec.eq_of_toNat_eq (by
  show (x.toBitVec &&& 4294967295#64).toNat = (BitVec.ofNat 64 (x.toBitVec.toNat % 2 ^ 32)).toNat
  rw [BitVec.toNat_and, show (4294967295#64).toNat = 2 ^ 32 - 1 from by decide, Nat.and_two_pow_sub_one_eq_mod, BitVec.toNat_ofNat]
  omega))⟩
/-! ===== Int64 as an unsigned number: uN x ===== -/
def uN (x : Int64) : Nat := x.toUInt64.toNat
theorem uN_lt (x : Int64) : uN x < 18446744073709551616 := x.toUInt64.toNat_lt
theorem uN_inj {x y : Int64} (h : uN x = uN y) : x = y := congrArg UInt64.toInt64 (UInt64.toNat_inj.mp h)
theorem uN_add (x y : Int64) : uN (x + y) = (uN x + uN y) % 18446744073709551616 := by
  show (x.toUInt64 + y.toUInt64).toNat = _
  exact UInt64.toNat_add _ _
theorem uN_mul (x y : Int64) : uN (x * y) = (uN x * uN y) % 18446744073709551616 := by
  show (x.toUInt64 * y.toUInt64).toNat = _
  exact UInt64.toNat_mul _ _
theorem uN_shl (x : Int64) : uN (x <<< ((1 : Int32).toInt64 &&& 63)) = (2 * uN x) % 18446744073709551616 := by
  have h : (((1 : Int32).toInt64 &&& 63).toBitVec.smod 64).toNat = 1 := by decide
  show (x.toBitVec <<< (((1 : Int32).toInt64 &&& 63).toBitVec.smod 64).toNat).toNat = _
  rw [h, BitVec.toNat_shiftLeft, Nat.shiftLeft_eq, Nat.mul_comm]
  rfl
theorem uN_shr (x : Int64) (s : UInt64) : uN (x.toUInt64 >>> s).toInt64 = uN x / 2 ^ (s.toNat % 64) := by
  show (x.toUInt64 >>> s).toNat = _
  rw [UInt64.toNat_shiftRight, Nat.shiftRight_eq_div_pow]
  rfl
theorem uN_s32 (x : Int64) : uN (x.toUInt64 >>> ((32 : Int32).toInt64.toUInt64 &&& Int64.toUInt64 63)).toInt64 = uN x / 4294967296 := by
  have h : ((32 : Int32).toInt64.toUInt64 &&& Int64.toUInt64 63).toNat % 64 = 32 := by decide
  rw [uN_shr, h]
theorem uN_s63 (x : Int64) : uN (x.toUInt64 >>> ((63 : Int32).toInt64.toUInt64 &&& Int64.toUInt64 63)).toInt64 = uN x / 9223372036854775808 := by
  have h : ((63 : Int32).toInt64.toUInt64 &&& Int64.toUInt64 63).toNat % 64 = 63 := by decide
  rw [uN_shr, h]
theorem uN_lo (x : Int64) : uN (x &&& 4294967295) = uN x % 4294967296 := by
  show (x.toUInt64 &&& Int64.toUInt64 4294967295).toNat = _
  rw [UInt64.toNat_and]
  exact Nat.and_two_pow_sub_one_eq_mod _ 32
theorem uN_bit (x : Int64) : (x &&& 1) = 0 ↔ uN x % 2 = 0 := by
  have h : uN (x &&& 1) = uN x % 2 := by
    show (x.toUInt64 &&& Int64.toUInt64 1).toNat = _
    rw [UInt64.toNat_and]
    exact Nat.and_two_pow_sub_one_eq_mod _ 1
  rw [← h]
  exact ⟨fun z => by rw [z]; rfl, fun z => uN_inj (z.trans rfl)⟩
theorem uN_or {x y : Int64} (hy : uN y < 2) : uN ((x <<< ((1 : Int32).toInt64 &&& 63)) ||| y) = (2 * uN x) % 18446744073709551616 + uN y := by
  have h1 : uN ((x <<< ((1 : Int32).toInt64 &&& 63)) ||| y) = uN (x <<< ((1 : Int32).toInt64 &&& 63)) ||| uN y := UInt64.toNat_or _ _
  have h2 : (2 * uN x) % 18446744073709551616 = 2 ^ 1 * (uN x % 9223372036854775808) := by omega
  rw [h1, uN_shl, h2]
  exact (Nat.two_pow_add_eq_or_of_lt (i := 1) hy _).symm
theorem nat_xor {a : Nat} (h : a < 18446744073709551616) : a ^^^ 2 ^ 63 = (a + 9223372036854775808) % 18446744073709551616 := by
  have h1 : (a ^^^ 2 ^ 63) % 2 ^ 63 = a % 2 ^ 63 := by rw [Nat.xor_mod_two_pow, Nat.mod_self, Nat.xor_zero]
  have h2 : (a ^^^ 2 ^ 63) / 2 ^ 63 = (a / 2 ^ 63) ^^^ 1 := by rw [Nat.xor_div_two_pow, Nat.div_self (Nat.two_pow_pos 63)]
  have h3 : a / 2 ^ 63 = 0 ∨ a / 2 ^ 63 = 1 := by omega
  generalize a ^^^ 2 ^ 63 = t at h1 h2
  rcases h3 with h3 | h3
  · rw [h3] at h2
    have h2 : t / 2 ^ 63 = 1 := h2
    omega
  · rw [h3] at h2
    have h2 : t / 2 ^ 63 = 0 := h2
    omega
theorem uN_xor (x : Int64) : uN (x ^^^ (-9223372036854775808)) = (uN x + 9223372036854775808) % 18446744073709551616 := by
  rw [← nat_xor (uN_lt x)]
  exact UInt64.toNat_xor _ _
theorem uN_int (x : Int64) : x.toInt = if 2 * uN x < 18446744073709551616 then (uN x : Int) else (uN x : Int) - 18446744073709551616 := BitVec.toInt_eq_toNat_cond _
theorem uN_le (x y : Int64) : (x ^^^ (-9223372036854775808)) ≤ (y ^^^ (-9223372036854775808)) ↔ uN x ≤ uN y := by
  have hx := uN_lt x
  have hy := uN_lt y
  rw [Int64.le_iff_toInt_le, uN_int, uN_int, uN_xor, uN_xor]
  omega
theorem uN_sk (x : Int64) {k : Nat} (hk : k < 64) : uN (x.toUInt64 >>> ((nI k).toInt64.toUInt64 &&& Int64.toUInt64 63)).toInt64 = uN x / 2 ^ k := by
  have h : ((nI k).toInt64.toUInt64 &&& Int64.toUInt64 63).toNat % 64 = k := by
    rw [nI_l (by omega), UInt64.toNat_and]
    have e : (lN k).toUInt64.toNat = k % 2 ^ 64 := rfl
    have e2 : (Int64.toUInt64 63).toNat = 2 ^ 6 - 1 := by decide
    rw [e, e2, Nat.and_two_pow_sub_one_eq_mod]
    omega
  rw [uN_shr, h]
/-! ===== unsigned comparison by xor with the least ===== -/
theorem lN_bv (n : Nat) : (lN n).toBitVec = BitVec.ofNat 64 n := rfl
theorem lN_nat {n : Nat} (h : n < 2 ^ 64) : (lN n).toBitVec.toNat = n := by rw [lN_bv, BitVec.toNat_ofNat]; exact Nat.mod_eq_of_lt h
theorem lN_xor (a b : Nat) : lN a ^^^ lN b = lN (a ^^^ b) := by
  apply Int64.toBitVec_inj.mp; rw [Int64.toBitVec_xor, lN_bv, lN_bv, lN_bv]; apply BitVec.eq_of_getLsbD_eq; intro i hi; simp [BitVec.getLsbD_ofNat, Nat.testBit_xor, hi]
theorem lN_ti {m : Nat} (h : m < 2 ^ 64) : (lN m).toInt = if m < 2 ^ 63 then (m : Int) else (m : Int) - 2 ^ 64 := by
  have c := BitVec.toInt_eq_toNat_cond (lN m).toBitVec
  rw [lN_nat h] at c
  show (lN m).toBitVec.toInt = _
  rw [c]
  split <;> split <;> omega
theorem xor63 {x : Nat} (h : x < 2 ^ 63) : x ^^^ 2 ^ 63 = 2 ^ 63 + x := by
  apply Nat.eq_of_testBit_eq
  intro i
  rw [Nat.testBit_xor, Nat.testBit_two_pow]
  rcases Nat.lt_trichotomy i 63 with z | z | z
  · rw [Nat.testBit_two_pow_add_gt z, decide_eq_false (by omega)]; simp
  · subst z; rw [Nat.testBit_two_pow_add_eq]; simp
  · have hp : 2 ^ 64 ≤ 2 ^ i := Nat.pow_le_pow_right (by decide) z
    rw [Nat.testBit_lt_two_pow (show x < 2 ^ i by omega), Nat.testBit_lt_two_pow (show 2 ^ 63 + x < 2 ^ i by omega), decide_eq_false (by omega)]; rfl
theorem xorS {a : Nat} (h : a < 2 ^ 64) : (lN a ^^^ (-9223372036854775808)).toInt = (a : Int) - 2 ^ 63 := by
  rw [show (-9223372036854775808 : Int64) = lN (2 ^ 63) from by decide +kernel, lN_xor]
  rcases Nat.lt_or_ge a (2 ^ 63) with z | z
  · rw [xor63 z, lN_ti (by omega), if_neg (by omega)]; omega
  · obtain ⟨x, rfl⟩ : ∃ x, a = 2 ^ 63 + x := ⟨a - 2 ^ 63, by omega⟩
    rw [← xor63 (by omega), Nat.xor_assoc, Nat.xor_self, Nat.xor_zero, lN_ti (by omega), if_pos (by omega), xor63 (by omega)]; omega
theorem ultL {a b : Nat} (ha : a < 2 ^ 64) (hb : b < 2 ^ 64) : ((lN b ^^^ (-9223372036854775808)) ≤ (lN a ^^^ (-9223372036854775808))) ↔ b ≤ a := by
  rw [Int64.le_iff_toInt_le, xorS ha, xorS hb]; omega
/-! ===== Int64 masks of n low bits ===== -/
theorem cr_bits (W U M : BitVec 64) : ((W &&& U) &&& (U &&& (M ^^^ BitVec.allOnes 64))) = 0#64 ↔ (W &&& U) &&& M = W &&& U := by
  constructor
  · intro h
    apply BitVec.eq_of_getLsbD_eq
    intro i hi
    have e := congrArg (fun x => BitVec.getLsbD x i) h
    simp only [BitVec.getLsbD_and, BitVec.getLsbD_xor, BitVec.getLsbD_allOnes, BitVec.getLsbD_zero, hi, decide_true] at e ⊢
    revert e
    cases W.getLsbD i <;> cases U.getLsbD i <;> cases M.getLsbD i <;> decide
  · intro h
    apply BitVec.eq_of_getLsbD_eq
    intro i hi
    have e := congrArg (fun x => BitVec.getLsbD x i) h
    simp only [BitVec.getLsbD_and, BitVec.getLsbD_xor, BitVec.getLsbD_allOnes, BitVec.getLsbD_zero, hi, decide_true] at e ⊢
    revert e
    cases W.getLsbD i <;> cases U.getLsbD i <;> cases M.getLsbD i <;> decide
theorem cr_mask (w U m : Int64) (n : Nat) (hm : m.toBitVec.toNat = 2 ^ n - 1) : ((w &&& U) &&& (U &&& (m ^^^ (-1)))) = 0 ↔ (w &&& U).toBitVec.toNat < 2 ^ n := by
  have e0 : (-1 : Int64).toBitVec = BitVec.allOnes 64 := by decide
  have z0 : (0 : Int64).toBitVec = 0#64 := by decide
  rw [← Int64.toBitVec_inj, z0, Int64.toBitVec_and, Int64.toBitVec_and, Int64.toBitVec_and, Int64.toBitVec_xor, e0, cr_bits]
  generalize w.toBitVec &&& U.toBitVec = T
  rw [← BitVec.toNat_inj, BitVec.toNat_and, hm, Nat.and_two_pow_sub_one_eq_mod]
  constructor
  · intro h
    have t := Nat.mod_lt T.toNat (Nat.two_pow_pos n)
    rw [h] at t
    exact t
  · exact Nat.mod_eq_of_lt
theorem cr_shr (t : Int64) (x : UInt64) (n : Nat) (hx : x.toNat % 64 = n) : (t.toUInt64 >>> x).toInt64 = 0 ↔ t.toBitVec.toNat < 2 ^ n := by
  rw [← Int64.toBitVec_inj, ← BitVec.toNat_inj]
  show (t.toUInt64 >>> x).toNat = 0 ↔ t.toUInt64.toNat < 2 ^ n
  rw [UInt64.toNat_shiftRight, hx, Nat.shiftRight_eq_div_pow]
  constructor
  · intro h
    have d : t.toUInt64.toNat / 2 ^ n < 1 := by
      rw [h]
      decide
    have e := (Nat.div_lt_iff_lt_mul (Nat.two_pow_pos n)).mp d
    rw [Nat.one_mul] at e
    exact e
  · exact Nat.div_eq_of_lt
theorem cr_amt (s : Int64) : ∃ n, n < 64 ∧ s &&& 63 = lN n ∧ (s.toUInt64 &&& Int64.toUInt64 63).toNat % 64 = n := by
  have e : (s.toUInt64 &&& Int64.toUInt64 63).toNat = s.toUInt64.toNat % 2 ^ 6 := by
    rw [UInt64.toNat_and, show (Int64.toUInt64 63).toNat = 2 ^ 6 - 1 from by decide, Nat.and_two_pow_sub_one_eq_mod]
  refine ⟨s.toUInt64.toNat % 2 ^ 6, by omega, ?_, by omega⟩
  rw [← Int64.toBitVec_inj, ← BitVec.toNat_inj]
  show (s.toUInt64 &&& Int64.toUInt64 63).toNat = (BitVec.ofNat 64 (s.toUInt64.toNat % 2 ^ 6)).toNat
  rw [e, BitVec.toNat_ofNat]
  omega
end
section
/-- how many i below N have p -/
def cw_cn (p : Nat → Bool) : Nat → Nat
  | 0 => 0
  | n + 1 => cw_cn p n + (p n).toNat
theorem cw_cn_s (p : Nat → Bool) (n : Nat) : cw_cn p (n + 1) = cw_cn p n + (p n).toNat := rfl
theorem cw_cn_congr {p q : Nat → Bool} : ∀ {N : Nat}, (∀ i, i < N → p i = q i) → cw_cn p N = cw_cn q N := by
  intro N
  induction N with
  | zero => intro _; rfl
  | succ n ih =>
    intro h
    rw [cw_cn_s, cw_cn_s, ih (fun i hi => h i (by omega)), h n (by omega)]
theorem cw_cn_upd {p q : Nat → Bool} {k : Nat} : ∀ {N : Nat}, k < N → (∀ i, i < N → i ≠ k → p i = q i) → cw_cn p N + (q k).toNat = cw_cn q N + (p k).toNat := by
  intro N
  induction N with
  | zero => intro h; omega
  | succ n ih =>
    intro hk h
    rw [cw_cn_s, cw_cn_s]
    by_cases e : n = k
    · subst e
      rw [cw_cn_congr (N := n) (fun i hi => h i (by omega) (by omega))]
      omega
    · have h1 := ih (by omega) (fun i hi hn => h i (by omega) hn)
      rw [h n (by omega) e]
      omega
theorem cw_cn_pos {p : Nat → Bool} : ∀ {N : Nat}, 0 < cw_cn p N → ∃ i, i < N ∧ p i = true := by
  intro N
  induction N with
  | zero => intro h; exact absurd h (Nat.lt_irrefl 0)
  | succ n ih =>
    intro h
    by_cases e : p n = true
    · exact ⟨n, by omega, e⟩
    · have e' : p n = false := by simpa using e
      rw [cw_cn_s, e'] at h
      obtain ⟨i, hi, hp⟩ := ih (by simpa using h)
      exact ⟨i, by omega, hp⟩
theorem cw_cn_one {p : Nat → Bool} {i : Nat} : ∀ {N : Nat}, i < N → p i = true → 0 < cw_cn p N := by
  intro N
  induction N with
  | zero => intro h; omega
  | succ n ih =>
    intro hi h
    rw [cw_cn_s]
    by_cases e : i = n
    · subst e; rw [h]; simp
    · have := ih (by omega) h; omega
theorem cw_cn_zero {p : Nat → Bool} {N : Nat} (h : ∀ i, i < N → p i = false) : cw_cn p N = 0 := by
  by_cases e : cw_cn p N = 0
  · exact e
  · obtain ⟨i, hi, hp⟩ := cw_cn_pos (p := p) (N := N) (by omega)
    rw [h i hi] at hp; exact absurd hp (by decide)
theorem cw_cn_no {p : Nat → Bool} {N : Nat} (h : cw_cn p N = 0) : ∀ i, i < N → p i = false := by
  intro i hi
  by_cases e : p i = true
  · have := cw_cn_one hi e; omega
  · simpa using e
theorem cw_bn (b : Bool) : b.toNat ≤ 1 := by cases b <;> decide
theorem cw_cn_le {p : Nat → Bool} : ∀ N : Nat, cw_cn p N ≤ N := by
  intro N
  induction N with
  | zero => exact Nat.le_refl _
  | succ n ih => rw [cw_cn_s]; have := cw_bn (p n); omega
theorem cw_cn_mono {p q : Nat → Bool} : ∀ {N : Nat}, (∀ i, i < N → p i = true → q i = true) → cw_cn p N ≤ cw_cn q N := by
  intro N
  induction N with
  | zero => intro _; exact Nat.le_refl _
  | succ n ih =>
    intro h
    rw [cw_cn_s, cw_cn_s]
    have h1 := ih (fun i hi => h i (by omega))
    have h2 : (p n).toNat ≤ (q n).toNat := by
      by_cases e : p n = true
      · rw [h n (by omega) e, e]; exact Nat.le_refl _
      · have e' : p n = false := by simpa using e
        rw [e']; exact Nat.zero_le _
    omega
theorem cw_cn_lt {p : Nat → Bool} {i : Nat} : ∀ {N : Nat}, i < N → p i = false → cw_cn p N < N := by
  intro N
  induction N with
  | zero => intro h; omega
  | succ n ih =>
    intro hi h
    rw [cw_cn_s]
    by_cases e : i = n
    · subst e; rw [h]; have := cw_cn_le (p := p) i; simp; omega
    · have := ih (by omega) h; have := cw_bn (p n); omega
theorem cw_cn_add {p : Nat → Bool} (N : Nat) : ∀ M : Nat, cw_cn p (N + M) = cw_cn p N + cw_cn (fun j => p (N + j)) M := by
  intro M
  induction M with
  | zero => rfl
  | succ m ih => rw [← Nat.add_assoc, cw_cn_s, cw_cn_s, ih]; omega
theorem cw_cn_four {q : Nat → Bool} : ∀ N : Nat, cw_cn (fun k => q (k / 4)) (4 * N) = 4 * cw_cn q N := by
  intro N
  induction N with
  | zero => rfl
  | succ n ih =>
    rw [show 4 * (n + 1) = 4 * n + 1 + 1 + 1 + 1 by omega, cw_cn_s, cw_cn_s, cw_cn_s, cw_cn_s, cw_cn_s, ih]
    rw [show (4 * n) / 4 = n by omega, show (4 * n + 1) / 4 = n by omega, show (4 * n + 1 + 1) / 4 = n by omega, show (4 * n + 1 + 1 + 1) / 4 = n by omega]
    omega
/-- every n with p is the target of an own k with q -/
theorem cw_cn_inj {q : Nat → Bool} {E : Nat → Option Nat} {N : Nat} : ∀ {K : Nat} {p : Nat → Bool}, (∀ n, n < N → p n = true → ∃ k, k < K ∧ q k = true ∧ E k = some n) → cw_cn p N ≤ cw_cn q K := by
  intro K
  induction K with
  | zero =>
    intro p h
    have : cw_cn p N = 0 := cw_cn_zero (fun i hi => by
      by_cases e : p i = true
      · obtain ⟨k, hk, _⟩ := h i hi e; omega
      · simpa using e)
    omega
  | succ K ih =>
    intro p h
    rw [cw_cn_s]
    by_cases e : ∃ n0, n0 < N ∧ p n0 = true ∧ q K = true ∧ E K = some n0
    · obtain ⟨n0, hn0, hp0, hq, hE⟩ := e
      have h1 := ih (p := fun n => p n && !decide (n = n0)) (fun n hn hp => by
        simp only [Bool.and_eq_true, Bool.not_eq_true', decide_eq_false_iff_not] at hp
        obtain ⟨k, hk, hqk, hEk⟩ := h n hn hp.1
        by_cases ek : k = K
        · subst ek; rw [hE] at hEk; exact absurd (Option.some.inj hEk).symm hp.2
        · exact ⟨k, by omega, hqk, hEk⟩)
      have h2 := cw_cn_upd (p := p) (q := fun n => p n && !decide (n = n0)) hn0 (fun i hi hne => by simp [hne])
      have h3 : (p n0 && !decide (n0 = n0)) = false := by simp
      rw [hq]
      simp only [h3, hp0] at h2
      simp only [Bool.toNat_true, Bool.toNat_false] at h2 ⊢
      omega
    · have h1 := ih (p := p) (fun n hn hp => by
        obtain ⟨k, hk, hqk, hEk⟩ := h n hn hp
        by_cases ek : k = K
        · subst ek; exact absurd ⟨n, hn, hp, hqk, hEk⟩ e
        · exact ⟨k, by omega, hqk, hEk⟩)
      omega
/-- a sum -/
def cw_sm (f : Nat → Nat) : Nat → Nat
  | 0 => 0
  | n + 1 => cw_sm f n + f n
theorem cw_sm_s (f : Nat → Nat) (n : Nat) : cw_sm f (n + 1) = cw_sm f n + f n := rfl
theorem cw_sm_congr {f g : Nat → Nat} : ∀ {N : Nat}, (∀ i, i < N → f i = g i) → cw_sm f N = cw_sm g N := by
  intro N
  induction N with
  | zero => intro _; rfl
  | succ n ih => intro h; rw [cw_sm_s, cw_sm_s, ih (fun i hi => h i (by omega)), h n (by omega)]
theorem cw_sm_add (f g : Nat → Nat) : ∀ N : Nat, cw_sm (fun i => f i + g i) N = cw_sm f N + cw_sm g N := by
  intro N
  induction N with
  | zero => rfl
  | succ n ih => rw [cw_sm_s, cw_sm_s, cw_sm_s, ih]; omega
theorem cw_sm_le {f : Nat → Nat} {c : Nat} : ∀ {N : Nat}, (∀ i, i < N → f i ≤ c) → cw_sm f N ≤ N * c := by
  intro N
  induction N with
  | zero => intro _; exact Nat.zero_le _
  | succ n ih => intro h; rw [cw_sm_s, Nat.succ_mul]; have := ih (fun i hi => h i (by omega)); have := h n (by omega); omega
theorem cw_sm_zero {f : Nat → Nat} : ∀ {N : Nat}, cw_sm f N = 0 → ∀ i, i < N → f i = 0 := by
  intro N
  induction N with
  | zero => intro _ i hi; omega
  | succ n ih =>
    intro h i hi
    rw [cw_sm_s] at h
    by_cases e : i = n
    · subst e; omega
    · exact ih (by omega) i (by omega)
theorem cw_sm_zero' {f : Nat → Nat} {N : Nat} (h : ∀ i, i < N → f i = 0) : cw_sm f N = 0 := by
  have := cw_sm_le (f := f) (c := 0) (N := N) (fun i hi => by rw [h i hi]; exact Nat.le_refl _)
  omega
theorem cw_sm_ge {f : Nat → Nat} {i : Nat} : ∀ {N : Nat}, i < N → f i ≤ cw_sm f N := by
  intro N
  induction N with
  | zero => intro h; omega
  | succ n ih =>
    intro h
    rw [cw_sm_s]
    by_cases e : i = n
    · subst e; omega
    · have := ih (by omega); omega
theorem cw_sm_mul (f : Nat → Nat) (c : Nat) : ∀ N : Nat, cw_sm (fun i => f i * c) N = cw_sm f N * c := by
  intro N
  induction N with
  | zero => exact (Nat.zero_mul c).symm
  | succ n ih => rw [cw_sm_s, cw_sm_s, ih, Nat.add_mul]
theorem cw_sm_cn (p : Nat → Bool) : ∀ N : Nat, cw_sm (fun i => (p i).toNat) N = cw_cn p N := by
  intro N
  induction N with
  | zero => rfl
  | succ n ih => rw [cw_sm_s, cw_cn_s, ih]
theorem cw_cn_blk {p : Nat → Bool} (M : Nat) : ∀ N : Nat, cw_cn p (N * M) = cw_sm (fun i => cw_cn (fun j => p (i * M + j)) M) N := by
  intro N
  induction N with
  | zero => rw [Nat.zero_mul]; rfl
  | succ n ih => rw [Nat.succ_mul, cw_cn_add, ih, cw_sm_s]
theorem cw_sm_one {f : Nat → Nat} {k : Nat} : ∀ {N : Nat}, k < N → (∀ i, i < N → i ≠ k → f i = 0) → cw_sm f N = f k := by
  intro N
  induction N with
  | zero => intro h; omega
  | succ n ih =>
    intro hk h
    rw [cw_sm_s]
    by_cases e : n = k
    · subst e
      rw [cw_sm_zero' (fun i hi => h i (by omega) (by omega))]; omega
    · rw [ih (by omega) (fun i hi hn => h i (by omega) hn), h n (by omega) e]; omega
end
section
def cw_un {α : Type} (f : Nat → α) (k : Nat) (x : α) : Nat → α := fun j => if j = k then x else f j
theorem cw_us {α : Type} {f : Nat → α} {k : Nat} {x : α} : cw_un f k x k = x := if_pos rfl
theorem cw_uo {α : Type} {f : Nat → α} {k j : Nat} {x : α} (h : j ≠ k) : cw_un f k x j = f j := if_neg h
theorem cw_uu {α : Type} {f : Nat → α} {k : Nat} {x y : α} : cw_un (cw_un f k x) k y = cw_un f k y := by
  funext j
  by_cases e : j = k
  · subst e; rw [cw_us, cw_us]
  · rw [cw_uo e, cw_uo e, cw_uo e]
theorem cw_uself {α : Type} {f : Nat → α} {k : Nat} {x : α} (h : f k = x) : cw_un f k x = f := by
  funext j
  by_cases e : j = k
  · subst e; rw [cw_us, h]
  · rw [cw_uo e]
/-- one more pending reference -/
def cw_ad (P : Nat → Nat) (x : Option Nat) : Nat → Nat := fun j => P j + (if x = some j then 1 else 0)
theorem cw_ad_0 {P : Nat → Nat} : cw_ad P none = P := by
  funext j; simp [cw_ad]
theorem cw_ad_c {P : Nat → Nat} {x y : Option Nat} : cw_ad (cw_ad P x) y = cw_ad (cw_ad P y) x := by
  funext j; exact Nat.add_right_comm _ _ _
theorem cw_ad_s {P : Nat → Nat} {n : Nat} : cw_ad P (some n) n = P n + 1 := by
  simp [cw_ad]
theorem cw_ad_o {P : Nat → Nat} {n j : Nat} (h : j ≠ n) : cw_ad P (some n) j = P j := by
  have h' : ¬ n = j := fun e => h e.symm
  simp [cw_ad, h']
theorem cw_ad_le {P : Nat → Nat} {x : Option Nat} {c : Nat} (h : ∀ j, P j ≤ c) : ∀ j, cw_ad P x j ≤ c + 1 := by
  intro j
  unfold cw_ad
  have := h j
  by_cases e : x = some j
  · rw [if_pos e]; omega
  · rw [if_neg e]; omega
theorem cw_ad_ge {P : Nat → Nat} {x : Option Nat} (j : Nat) : P j ≤ cw_ad P x j := Nat.le_add_right _ _
/-- all edges: the branches, then the roots -/
def cw_E (B R : Nat → Option Nat) : Nat → Option Nat := fun k => if k < 640 then B k else R (k - 640)
theorem cw_E_b {B R : Nat → Option Nat} {k : Nat} (h : k < 640) : cw_E B R k = B k := if_pos h
theorem cw_E_r {B R : Nat → Option Nat} {v : Nat} : cw_E B R (640 + v) = R v := by
  unfold cw_E
  rw [if_neg (by omega), show 640 + v - 640 = v by omega]
theorem cw_E_ub {B R : Nat → Option Nat} {k : Nat} {x : Option Nat} (h : k < 640) : cw_E (cw_un B k x) R = cw_un (cw_E B R) k x := by
  funext j
  by_cases e : j = k
  · subst e; rw [cw_E_b h, cw_us, cw_us]
  · rw [cw_uo e]
    unfold cw_E
    by_cases e2 : j < 640
    · rw [if_pos e2, if_pos e2, cw_uo e]
    · rw [if_neg e2, if_neg e2]
theorem cw_E_ur {B R : Nat → Option Nat} {v : Nat} {x : Option Nat} : cw_E B (cw_un R v x) = cw_un (cw_E B R) (640 + v) x := by
  funext j
  by_cases e : j = 640 + v
  · subst e; rw [cw_E_r, cw_us, cw_us]
  · rw [cw_uo e]
    unfold cw_E
    by_cases e2 : j < 640
    · rw [if_pos e2, if_pos e2]
    · rw [if_neg e2, if_neg e2, cw_uo (by omega)]
/-- k is an active edge to node n -/
def cw_rn (A : Nat → Nat) (E : Nat → Option Nat) (n k : Nat) : Bool := decide (1 ≤ A k ∧ A k ≤ 3 ∧ E k = some n)
/-- k is an active edge to block b -/
def cw_rb (A : Nat → Nat) (E : Nat → Option Nat) (b k : Nat) : Bool := decide (A k = 4 ∧ E k = some b)
/-- no active edge to n -/
def cw_nr (A : Nat → Nat) (E : Nat → Option Nat) (n : Nat) : Prop := ∀ i, i < 646 → 1 ≤ A i → A i ≤ 3 → E i ≠ some n
/-- all four edges of n are active at level a -/
def cw_fu (A : Nat → Nat) (n a : Nat) : Prop := ∀ j, j < 4 → A (4 * n + j) = a
def cw_T (A L : Nat → Nat) (E : Nat → Option Nat) : Prop := ∀ k n, k < 646 → 1 ≤ A k → A k ≤ 3 → E k = some n → n < 160 ∧ L n = A k + 1 ∧ cw_fu A n (A k + 1)
def cw_D (A : Nat → Nat) (E : Nat → Option Nat) : Prop := ∀ k b, k < 646 → A k = 4 → E k = some b → b < 80
def cw_V (A L : Nat → Nat) : Prop := (∀ k, k < 640 → A k = 0 ∨ A k = L (k / 4)) ∧ (∀ k, 640 ≤ k → k < 646 → A k ≤ 1) ∧ (∀ n, n < 160 → L n = 0 ∨ (2 ≤ L n ∧ L n ≤ 4))
def cw_U (A : Nat → Nat) (E : Nat → Option Nat) (P U : Nat → Nat) : Prop := ∀ n, n < 160 → U n = cw_cn (cw_rn A E n) 646 + P n
def cw_H (A : Nat → Nat) (E : Nat → Option Nat) (Q H : Nat → Nat) : Prop := ∀ b, b < 80 → H b = cw_cn (cw_rb A E b) 646 + Q b
def cw_F (L F : Nat → Nat) (fn : Nat) : Prop := fn = cw_cn (fun n => decide (L n = 0)) 160 ∧ (∀ i, i < fn → F i < 160 ∧ L (F i) = 0) ∧ (∀ i j, i < fn → j < fn → F i = F j → i = j)
def cw_Z (L U P : Nat → Nat) (Z : Nat → Bool) : Prop := ∀ n, n < 160 → (L n ≠ 0 → U n ≠ 0 ∨ Z n = true) ∧ (L n = 0 → P n = 0)
def cw_Iv (A L : Nat → Nat) (E : Nat → Option Nat) (U H F : Nat → Nat) (fn : Nat) (P Q : Nat → Nat) (Z : Nat → Bool) : Prop :=
  cw_T A L E ∧ cw_D A E ∧ cw_V A L ∧ cw_U A E P U ∧ cw_H A E Q H ∧ cw_F L F fn ∧ cw_Z L U P Z
section
variable {A L : Nat → Nat} {E : Nat → Option Nat} {U H F : Nat → Nat} {fn : Nat} {P Q : Nat → Nat} {Z : Nat → Bool} {k n a : Nat}
theorem cw_Iv_mk (h1 : cw_T A L E) (h2 : cw_D A E) (h3 : cw_V A L) (h4 : cw_U A E P U) (h5 : cw_H A E Q H) (h6 : cw_F L F fn) (h7 : cw_Z L U P Z) : cw_Iv A L E U H F fn P Q Z :=
  And.intro h1 (And.intro h2 (And.intro h3 (And.intro h4 (And.intro h5 (And.intro h6 h7)))))
theorem cw_rn_t : cw_rn A E n k = true ↔ (1 ≤ A k ∧ A k ≤ 3 ∧ E k = some n) := by
  unfold cw_rn; exact decide_eq_true_iff
theorem cw_rb_t {b : Nat} : cw_rb A E b k = true ↔ (A k = 4 ∧ E k = some b) := by
  unfold cw_rb; exact decide_eq_true_iff
theorem cw_rn_n (h : ¬ (1 ≤ A k ∧ A k ≤ 3)) : (cw_rn A E n k).toNat = 0 := by
  unfold cw_rn
  rw [decide_eq_false (fun z => h ⟨z.1, z.2.1⟩)]; rfl
theorem cw_rn_y (h1 : 1 ≤ A k) (h3 : A k ≤ 3) : (cw_rn A E n k).toNat = if E k = some n then 1 else 0 := by
  unfold cw_rn
  by_cases e : E k = some n
  · rw [if_pos e, decide_eq_true ⟨h1, h3, e⟩]; rfl
  · rw [if_neg e, decide_eq_false (fun z => e z.2.2)]; rfl
theorem cw_rb_n {b : Nat} (h : ¬ A k = 4) : (cw_rb A E b k).toNat = 0 := by
  unfold cw_rb
  rw [decide_eq_false (fun z => h z.1)]; rfl
theorem cw_rb_y {b : Nat} (h : A k = 4) : (cw_rb A E b k).toNat = if E k = some b then 1 else 0 := by
  unfold cw_rb
  by_cases e : E k = some b
  · rw [if_pos e, decide_eq_true ⟨h, e⟩]; rfl
  · rw [if_neg e, decide_eq_false (fun z => e z.2)]; rfl
/-- the count of references when one edge's activity changes -/
theorem cw_cnN (hk : k < 646) (n : Nat) : cw_cn (cw_rn A E n) 646 + (cw_rn (cw_un A k a) E n k).toNat = cw_cn (cw_rn (cw_un A k a) E n) 646 + (cw_rn A E n k).toNat :=
  cw_cn_upd hk (fun i _ hne => by unfold cw_rn; rw [cw_uo hne])
theorem cw_cnB (hk : k < 646) (b : Nat) : cw_cn (cw_rb A E b) 646 + (cw_rb (cw_un A k a) E b k).toNat = cw_cn (cw_rb (cw_un A k a) E b) 646 + (cw_rb A E b k).toNat :=
  cw_cn_upd hk (fun i _ hne => by unfold cw_rb; rw [cw_uo hne])
/-- an edge to a node becomes inactive; its reference is pending -/
theorem cw_deN (h : cw_Iv A L E U H F fn P Q Z) (hk : k < 646) (h1 : 1 ≤ A k) (h3 : A k ≤ 3) (ho : k < 640 → cw_nr A E (k / 4)) : cw_Iv (cw_un A k 0) L E U H F fn (cw_ad P (E k)) Q Z := by
  obtain ⟨hT, hD, hV, hU, hH, hF, hZ⟩ := h
  refine cw_Iv_mk ?_ ?_ ?_ ?_ ?_ hF ?_
  · intro k' n hk' h1' h3' hE'
    by_cases e : k' = k
    · rw [e, cw_us] at h1'; omega
    · rw [cw_uo e] at h1' h3'
      rw [cw_uo e]
      obtain ⟨a1, b1, c1⟩ := hT k' n hk' h1' h3' hE'
      refine ⟨a1, b1, fun j hj => ?_⟩
      have hne : 4 * n + j ≠ k := by
        intro e2
        exact ho (by omega) k' hk' h1' h3' (by rw [show k / 4 = n by omega]; exact hE')
      rw [cw_uo hne]; exact c1 j hj
  · intro k' b hk' h4 hE'
    by_cases e : k' = k
    · rw [e, cw_us] at h4; omega
    · rw [cw_uo e] at h4; exact hD k' b hk' h4 hE'
  · refine ⟨fun k' hk' => ?_, fun k' ha hb => ?_, hV.2.2⟩
    · by_cases e : k' = k
      · rw [e, cw_us]; exact Or.inl rfl
      · rw [cw_uo e]; exact hV.1 k' hk'
    · by_cases e : k' = k
      · rw [e, cw_us]; omega
      · rw [cw_uo e]; exact hV.2.1 k' ha hb
  · intro n hn
    have c := cw_cnN (A := A) (E := E) (a := 0) hk n
    rw [cw_rn_n (A := cw_un A k 0) (by rw [cw_us]; omega), cw_rn_y h1 h3] at c
    rw [hU n hn]
    unfold cw_ad
    omega
  · intro b hb
    have c := cw_cnB (A := A) (E := E) (a := 0) hk b
    rw [cw_rb_n (A := cw_un A k 0) (by rw [cw_us]; omega), cw_rb_n (by omega)] at c
    rw [hH b hb]
    omega
  · intro n hn
    refine ⟨(hZ n hn).1, fun h0 => ?_⟩
    have e := (hZ n hn).2 h0
    unfold cw_ad
    by_cases e2 : E k = some n
    · have := (hT k n hk h1 h3 e2).2.1
      omega
    · rw [if_neg e2]; omega
/-- an edge to a block becomes inactive -/
theorem cw_deB (h : cw_Iv A L E U H F fn P Q Z) (hk : k < 640) (h4 : A k = 4) (ho : cw_nr A E (k / 4)) : cw_Iv (cw_un A k 0) L E U H F fn P (cw_ad Q (E k)) Z := by
  obtain ⟨hT, hD, hV, hU, hH, hF, hZ⟩ := h
  refine cw_Iv_mk ?_ ?_ ?_ ?_ ?_ hF hZ
  · intro k' n hk' h1' h3' hE'
    by_cases e : k' = k
    · rw [e, cw_us] at h1'; omega
    · rw [cw_uo e] at h1' h3'
      rw [cw_uo e]
      obtain ⟨a1, b1, c1⟩ := hT k' n hk' h1' h3' hE'
      refine ⟨a1, b1, fun j hj => ?_⟩
      have hne : 4 * n + j ≠ k := by
        intro e2
        exact ho k' hk' h1' h3' (by rw [show k / 4 = n by omega]; exact hE')
      rw [cw_uo hne]; exact c1 j hj
  · intro k' b hk' h4 hE'
    by_cases e : k' = k
    · rw [e, cw_us] at h4; omega
    · rw [cw_uo e] at h4; exact hD k' b hk' h4 hE'
  · refine ⟨fun k' hk' => ?_, fun k' ha hb => ?_, hV.2.2⟩
    · by_cases e : k' = k
      · rw [e, cw_us]; exact Or.inl rfl
      · rw [cw_uo e]; exact hV.1 k' hk'
    · rw [cw_uo (by omega)]; exact hV.2.1 k' ha hb
  · intro n hn
    have c := cw_cnN (A := A) (E := E) (a := 0) (k := k) (by omega) n
    rw [cw_rn_n (A := cw_un A k 0) (by rw [cw_us]; omega), cw_rn_n (by omega)] at c
    rw [hU n hn]
    omega
  · intro b hb
    have c := cw_cnB (A := A) (E := E) (a := 0) (k := k) (by omega) b
    rw [cw_rb_n (A := cw_un A k 0) (by rw [cw_us]; omega), cw_rb_y h4] at c
    rw [hH b hb]
    unfold cw_ad
    omega
/-- an inactive edge becomes an active one to a node, for a pending reference -/
theorem cw_acN (h : cw_Iv A L E U H F fn (cw_ad P (E k)) Q Z) (hk : k < 646) (h0 : A k = 0) (ha : 1 ≤ a) (ha3 : a ≤ 3) (hl : k < 640 → L (k / 4) = a) (hr : 640 ≤ k → a = 1) (ht : ∀ n, E k = some n → n < 160 ∧ L n = a + 1 ∧ cw_fu A n (a + 1)) : cw_Iv (cw_un A k a) L E U H F fn P Q Z := by
  obtain ⟨hT, hD, hV, hU, hH, hF, hZ⟩ := h
  refine cw_Iv_mk ?_ ?_ ?_ ?_ ?_ hF ?_
  · intro k' n hk' h1' h3' hE'
    have hfu : ∀ c, c ≠ 0 → cw_fu A n c → cw_fu (cw_un A k a) n c := by
      intro c hc hf j hj
      have hj2 := hf j hj
      have hne : 4 * n + j ≠ k := by
        intro e2; rw [e2, h0] at hj2; exact hc hj2.symm
      rw [cw_uo hne]; exact hj2
    by_cases e : k' = k
    · rw [e] at hE'
      rw [e, cw_us]
      obtain ⟨a1, b1, c1⟩ := ht n hE'
      exact ⟨a1, b1, hfu _ (by omega) c1⟩
    · rw [cw_uo e] at h1' h3'
      rw [cw_uo e]
      obtain ⟨a1, b1, c1⟩ := hT k' n hk' h1' h3' hE'
      exact ⟨a1, b1, hfu _ (by omega) c1⟩
  · intro k' b hk' h4 hE'
    by_cases e : k' = k
    · rw [e, cw_us] at h4; omega
    · rw [cw_uo e] at h4; exact hD k' b hk' h4 hE'
  · refine ⟨fun k' hk' => ?_, fun k' hc hb => ?_, hV.2.2⟩
    · by_cases e : k' = k
      · subst e; rw [cw_us]; exact Or.inr (hl hk').symm
      · rw [cw_uo e]; exact hV.1 k' hk'
    · by_cases e : k' = k
      · subst e; rw [cw_us, hr hc]; omega
      · rw [cw_uo e]; exact hV.2.1 k' hc hb
  · intro n hn
    have c := cw_cnN (A := A) (E := E) (a := a) hk n
    rw [cw_rn_n (A := A) (by omega), cw_rn_y (A := cw_un A k a) (by rw [cw_us]; omega) (by rw [cw_us]; omega)] at c
    have u := hU n hn
    unfold cw_ad at u
    omega
  · intro b hb
    have c := cw_cnB (A := A) (E := E) (a := a) hk b
    rw [cw_rb_n (A := A) (by omega), cw_rb_n (A := cw_un A k a) (by rw [cw_us]; omega)] at c
    rw [hH b hb]
    omega
  · intro n hn
    refine ⟨(hZ n hn).1, fun z => ?_⟩
    have := (hZ n hn).2 z
    have := cw_ad_ge (P := P) (x := E k) n
    omega
/-- an inactive edge becomes an active one to a block -/
theorem cw_acB (h : cw_Iv A L E U H F fn P (cw_ad Q (E k)) Z) (hk : k < 640) (h0 : A k = 0) (hl : L (k / 4) = 4) (ht : ∀ b, E k = some b → b < 80) : cw_Iv (cw_un A k 4) L E U H F fn P Q Z := by
  obtain ⟨hT, hD, hV, hU, hH, hF, hZ⟩ := h
  refine cw_Iv_mk ?_ ?_ ?_ ?_ ?_ hF hZ
  · intro k' n hk' h1' h3' hE'
    by_cases e : k' = k
    · rw [e, cw_us] at h3'; omega
    · rw [cw_uo e] at h1' h3'
      rw [cw_uo e]
      obtain ⟨a1, b1, c1⟩ := hT k' n hk' h1' h3' hE'
      refine ⟨a1, b1, fun j hj => ?_⟩
      have hj2 := c1 j hj
      have hne : 4 * n + j ≠ k := by
        intro e2; rw [e2, h0] at hj2; omega
      rw [cw_uo hne]; exact hj2
  · intro k' b hk' h4 hE'
    by_cases e : k' = k
    · rw [e] at hE'; exact ht b hE'
    · rw [cw_uo e] at h4; exact hD k' b hk' h4 hE'
  · refine ⟨fun k' hk' => ?_, fun k' hc hb => ?_, hV.2.2⟩
    · by_cases e : k' = k
      · subst e; rw [cw_us]; exact Or.inr hl.symm
      · rw [cw_uo e]; exact hV.1 k' hk'
    · rw [cw_uo (by omega)]; exact hV.2.1 k' hc hb
  · intro n hn
    have c := cw_cnN (A := A) (E := E) (a := 4) (k := k) (by omega) n
    rw [cw_rn_n (A := A) (by omega), cw_rn_n (A := cw_un A k 4) (by rw [cw_us]; omega)] at c
    rw [hU n hn]
    omega
  · intro b hb
    have c := cw_cnB (A := A) (E := E) (a := 4) (k := k) (by omega) b
    rw [cw_rb_n (A := A) (by omega), cw_rb_y (A := cw_un A k 4) cw_us] at c
    have u := hH b hb
    unfold cw_ad at u
    omega
/-- an inactive edge is written -/
theorem cw_wr {x : Option Nat} (h : cw_Iv A L E U H F fn P Q Z) (h0 : A k = 0) : cw_Iv A L (cw_un E k x) U H F fn P Q Z := by
  obtain ⟨hT, hD, hV, hU, hH, hF, hZ⟩ := h
  refine cw_Iv_mk ?_ ?_ hV ?_ ?_ hF hZ
  · intro k' n hk' h1' h3' hE'
    have e : k' ≠ k := by intro e; rw [e, h0] at h1'; omega
    rw [cw_uo e] at hE'
    exact hT k' n hk' h1' h3' hE'
  · intro k' b hk' h4 hE'
    have e : k' ≠ k := by intro e; rw [e, h0] at h4; omega
    rw [cw_uo e] at hE'
    exact hD k' b hk' h4 hE'
  · intro n hn
    rw [hU n hn]
    refine congrArg (· + P n) (cw_cn_congr (fun i hi => ?_))
    unfold cw_rn
    by_cases e : i = k
    · rw [e, h0]; simp
    · rw [cw_uo e]
  · intro b hb
    rw [hH b hb]
    refine congrArg (· + Q b) (cw_cn_congr (fun i hi => ?_))
    unfold cw_rb
    by_cases e : i = k
    · rw [e, h0]; simp
    · rw [cw_uo e]
theorem cw_inN (h : cw_Iv A L E U H F fn P Q Z) (hL : L n ≠ 0) : cw_Iv A L E (cw_un U n (U n + 1)) H F fn (cw_ad P (some n)) Q Z := by
  obtain ⟨hT, hD, hV, hU, hH, hF, hZ⟩ := h
  refine cw_Iv_mk hT hD hV ?_ hH hF ?_
  · intro m hm
    by_cases e : m = n
    · subst e; rw [cw_us, cw_ad_s, hU m hm]; omega
    · rw [cw_uo e, cw_ad_o e]; exact hU m hm
  · intro m hm
    by_cases e : m = n
    · subst e; rw [cw_us]; exact ⟨fun _ => Or.inl (by omega), fun z => absurd z hL⟩
    · rw [cw_uo e, cw_ad_o e]; exact hZ m hm
theorem cw_dcN {Z' : Nat → Bool} (h : cw_Iv A L E U H F fn (cw_ad P (some n)) Q Z) (hn : n < 160) (hz : U n ≠ 1 ∨ Z' n = true) (hZ' : ∀ i, Z i = true → Z' i = true) : cw_Iv A L E (cw_un U n (U n - 1)) H F fn P Q Z' := by
  obtain ⟨hT, hD, hV, hU, hH, hF, hZ⟩ := h
  have u := hU n hn
  rw [cw_ad_s] at u
  refine cw_Iv_mk hT hD hV ?_ hH hF ?_
  · intro m hm
    by_cases e : m = n
    · subst e; rw [cw_us, u]; omega
    · rw [cw_uo e]; have := hU m hm; rw [cw_ad_o e] at this; exact this
  · intro m hm
    have z := hZ m hm
    by_cases e : m = n
    · subst e
      rw [cw_us]
      rw [cw_ad_s] at z
      refine ⟨fun _ => ?_, fun z0 => absurd (z.2 z0) (by omega)⟩
      cases hz with
      | inl q => exact Or.inl (by omega)
      | inr q => exact Or.inr q
    · rw [cw_uo e]
      rw [cw_ad_o e] at z
      exact ⟨fun q => (z.1 q).elim Or.inl (fun y => Or.inr (hZ' m y)), z.2⟩
theorem cw_inB {b : Nat} (h : cw_Iv A L E U H F fn P Q Z) : cw_Iv A L E U (cw_un H b (H b + 1)) F fn P (cw_ad Q (some b)) Z := by
  obtain ⟨hT, hD, hV, hU, hH, hF, hZ⟩ := h
  refine cw_Iv_mk hT hD hV hU ?_ hF hZ
  intro m hm
  by_cases e : m = b
  · subst e; rw [cw_us, cw_ad_s, hH m hm]; omega
  · rw [cw_uo e, cw_ad_o e]; exact hH m hm
theorem cw_dcB {b : Nat} (h : cw_Iv A L E U H F fn P (cw_ad Q (some b)) Z) : cw_Iv A L E U (cw_un H b (H b - 1)) F fn P Q Z := by
  obtain ⟨hT, hD, hV, hU, hH, hF, hZ⟩ := h
  refine cw_Iv_mk hT hD hV hU ?_ hF hZ
  intro m hm
  have u := hH m hm
  by_cases e : m = b
  · subst e; rw [cw_ad_s] at u; rw [cw_us, u]; omega
  · rw [cw_ad_o e] at u; rw [cw_uo e]; exact u
theorem cw_Iv_Z {Z' : Nat → Bool} (h : cw_Iv A L E U H F fn P Q Z) (hZ' : ∀ i, Z i = true → Z' i = true) : cw_Iv A L E U H F fn P Q Z' := by
  obtain ⟨hT, hD, hV, hU, hH, hF, hZ⟩ := h
  refine cw_Iv_mk hT hD hV hU hH hF ?_
  intro m hm
  exact ⟨fun q => ((hZ m hm).1 q).elim Or.inl (fun y => Or.inr (hZ' m y)), (hZ m hm).2⟩
theorem cw_nr_of (h : cw_Iv A L E U H F fn P Q Z) (hn : n < 160) (hu : U n ≤ P n) : cw_nr A E n := by
  obtain ⟨hT, hD, hV, hU, hH, hF, hZ⟩ := h
  intro i hi h1 h3 hE
  have := cw_cn_one hi (cw_rn_t.mpr ⟨h1, h3, hE⟩)
  have := hU n hn
  omega
theorem cw_nr_L (h : cw_Iv A L E U H F fn P Q Z) (h0 : L n = 0) : cw_nr A E n := by
  intro i hi h1 h3 hE
  have := (h.1 i n hi h1 h3 hE).2.1
  omega
theorem cw_rf_of (h : cw_Iv A L E U H F fn P Q Z) (hn : n < 160) (hu : P n < U n) : ∃ k, k < 646 ∧ 1 ≤ A k ∧ A k ≤ 3 ∧ E k = some n := by
  obtain ⟨hT, hD, hV, hU, hH, hF, hZ⟩ := h
  have := hU n hn
  obtain ⟨k, hk, e⟩ := cw_cn_pos (p := cw_rn A E n) (N := 646) (by omega)
  exact ⟨k, hk, cw_rn_t.mp e⟩
theorem cw_U_le (h : cw_Iv A L E U H F fn P Q Z) (hn : n < 160) : U n ≤ 646 + P n := by
  have := h.2.2.2.1 n hn
  have := cw_cn_le (p := cw_rn A E n) 646
  omega
theorem cw_H_le {b : Nat} (h : cw_Iv A L E U H F fn P Q Z) (hb : b < 80) : H b ≤ 646 + Q b := by
  have := h.2.2.2.2.1 b hb
  have := cw_cn_le (p := cw_rb A E b) 646
  omega
/-- a new node of level l -/
theorem cw_al {l : Nat} (h : cw_Iv A L E U H F fn P Q Z) (h1 : 1 ≤ fn) (hl : 2 ≤ l) (hl4 : l ≤ 4) : F (fn - 1) < 160 ∧ L (F (fn - 1)) = 0 ∧ (∀ j, j < 4 → A (4 * F (fn - 1) + j) = 0) ∧ cw_Iv A (cw_un L (F (fn - 1)) l) E (cw_un U (F (fn - 1)) 1) H F (fn - 1) (cw_ad P (some (F (fn - 1)))) Q Z := by
  have hnr := @cw_nr_L A L E U H F fn P Q Z (F (fn - 1)) h
  obtain ⟨hT, hD, hV, hU, hH, hF, hZ⟩ := h
  obtain ⟨hm, hL⟩ := hF.2.1 (fn - 1) (by omega)
  have hinj : ∀ i, i < fn - 1 → F i ≠ F (fn - 1) := fun i hi e => absurd (hF.2.2 i (fn - 1) (by omega) (by omega) e) (by omega)
  generalize F (fn - 1) = m at hm hL hinj hnr ⊢
  have hA : ∀ j, j < 4 → A (4 * m + j) = 0 := by
    intro j hj
    have := hV.1 (4 * m + j) (by omega)
    rw [show (4 * m + j) / 4 = m by omega, hL] at this
    exact this.elim id id
  refine ⟨hm, hL, hA, cw_Iv_mk ?_ hD ?_ ?_ hH ?_ ?_⟩
  · intro k' n hk' h1' h3' hE'
    obtain ⟨a1, b1, c1⟩ := hT k' n hk' h1' h3' hE'
    have hne : n ≠ m := by intro e; rw [e, hL] at b1; omega
    rw [cw_uo hne]
    exact ⟨a1, b1, c1⟩
  · refine ⟨fun k' hk' => ?_, hV.2.1, fun n hn => ?_⟩
    · by_cases e : k' / 4 = m
      · have := hV.1 k' hk'
        rw [e, hL] at this
        exact Or.inl (this.elim id id)
      · rw [cw_uo e]; exact hV.1 k' hk'
    · by_cases e : n = m
      · rw [e, cw_us]; exact Or.inr ⟨hl, hl4⟩
      · rw [cw_uo e]; exact hV.2.2 n hn
  · intro n hn
    by_cases e : n = m
    · subst e
      have := (hZ n hn).2 hL
      rw [cw_us, cw_ad_s, this, cw_cn_zero (fun i hi => ?_)]
      by_cases e2 : cw_rn A E n i = true
      · obtain ⟨a1, b1, c1⟩ := cw_rn_t.mp e2
        exact absurd c1 (hnr hL i hi a1 b1)
      · simpa using e2
    · rw [cw_uo e, cw_ad_o e]; exact hU n hn
  · refine ⟨?_, fun i hi => ?_, fun i j hi hj e => hF.2.2 i j (by omega) (by omega) e⟩
    · have c := cw_cn_upd (p := fun n => decide (L n = 0)) (q := fun n => decide (cw_un L m l n = 0)) hm (fun i hi hne => by rw [cw_uo hne])
      have e1 : decide (cw_un L m l m = 0) = false := by rw [cw_us]; exact decide_eq_false (by omega)
      have e2 : decide (L m = 0) = true := decide_eq_true hL
      simp only [e1, e2, Bool.toNat_true, Bool.toNat_false] at c
      have := hF.1
      omega
    · obtain ⟨x, y⟩ := hF.2.1 i (by omega)
      rw [cw_uo (fun e => hinj i hi e)]
      exact ⟨x, y⟩
  · intro n hn
    by_cases e : n = m
    · subst e; rw [cw_us, cw_us]; exact ⟨fun _ => Or.inl (by omega), fun z => absurd z (by omega)⟩
    · rw [cw_uo e, cw_uo e, cw_ad_o e]; exact hZ n hn
/-- a node without references, whose edges are inactive, is free -/
theorem cw_fr {Z' : Nat → Bool} (h : cw_Iv A L E U H F fn P Q Z') (hn : n < 160) (hu : U n = 0) (hL : L n ≠ 0) (hA : cw_fu A n 0) (hZ' : ∀ i, i ≠ n → Z' i = true → Z i = true) : fn < 160 ∧ cw_Iv A (cw_un L n 0) E U H (cw_un F fn n) (fn + 1) P Q Z := by
  have hnr := cw_nr_of h hn (by omega)
  obtain ⟨hT, hD, hV, hU, hH, hF, hZ⟩ := h
  have hfn : fn < 160 := by
    rw [hF.1]; exact cw_cn_lt hn (decide_eq_false hL)
  refine ⟨hfn, cw_Iv_mk ?_ hD ?_ hU hH ?_ ?_⟩
  · intro k' m hk' h1' h3' hE'
    obtain ⟨a1, b1, c1⟩ := hT k' m hk' h1' h3' hE'
    have hne : m ≠ n := by intro e; rw [e] at hE'; exact hnr k' hk' h1' h3' hE'
    rw [cw_uo hne]
    exact ⟨a1, b1, c1⟩
  · refine ⟨fun k' hk' => ?_, hV.2.1, fun m hm => ?_⟩
    · by_cases e : k' / 4 = n
      · have := hA (k' % 4) (by omega)
        rw [show 4 * n + k' % 4 = k' by omega] at this
        exact Or.inl this
      · rw [cw_uo e]; exact hV.1 k' hk'
    · by_cases e : m = n
      · rw [e, cw_us]; exact Or.inl rfl
      · rw [cw_uo e]; exact hV.2.2 m hm
  · refine ⟨?_, fun i hi => ?_, fun i j hi hj e => ?_⟩
    · have c := cw_cn_upd (p := fun m => decide (L m = 0)) (q := fun m => decide (cw_un L n 0 m = 0)) hn (fun i hi hne => by rw [cw_uo hne])
      have e1 : decide (cw_un L n 0 n = 0) = true := by rw [cw_us]; rfl
      have e2 : decide (L n = 0) = false := decide_eq_false hL
      simp only [e1, e2, Bool.toNat_true, Bool.toNat_false] at c
      have := hF.1
      omega
    · by_cases e : i = fn
      · rw [e, cw_us, cw_us]; exact ⟨hn, rfl⟩
      · rw [cw_uo e]
        obtain ⟨x, y⟩ := hF.2.1 i (by omega)
        refine ⟨x, ?_⟩
        rw [cw_uo (by intro e2; rw [e2] at y; exact hL y)]
        exact y
    · by_cases ei : i = fn
      · by_cases ej : j = fn
        · omega
        · rw [ei, cw_us, cw_uo ej] at e
          have := (hF.2.1 j (by omega)).2
          rw [← e] at this; exact absurd this hL
      · by_cases ej : j = fn
        · rw [ej, cw_us, cw_uo ei] at e
          have := (hF.2.1 i (by omega)).2
          rw [e] at this; exact absurd this hL
        · rw [cw_uo ei, cw_uo ej] at e
          exact hF.2.2 i j (by omega) (by omega) e
  · intro m hm
    by_cases e : m = n
    · subst e
      rw [cw_us]
      refine ⟨fun z => absurd rfl z, fun _ => ?_⟩
      have := hU m hm
      omega
    · rw [cw_uo e]
      exact ⟨fun q => ((hZ m hm).1 q).elim Or.inl (fun y => Or.inr (hZ' m e y)), (hZ m hm).2⟩
/-- at rest there are at least 34 free nodes -/
theorem cw_room (h : cw_Iv A L E U H F fn P Q Z) (hP : ∀ n, P n = 0) (hZ0 : ∀ n, Z n = false) : 34 ≤ fn := by
  have hrf : ∀ n, n < 160 → L n ≠ 0 → ∃ k, k < 646 ∧ 1 ≤ A k ∧ A k ≤ 3 ∧ E k = some n := by
    intro n hn hL
    refine cw_rf_of h hn ?_
    have := (h.2.2.2.2.2.2 n hn).1 hL
    rw [hZ0 n, hP n] at *
    rcases this with h | h
    · omega
    · exact absurd h (by decide)
  obtain ⟨hT, hD, hV, hU, hH, hF, hZ⟩ := h
  have s : ∀ a, cw_cn (fun n => decide (L n = a + 1)) 160 ≤ cw_cn (fun k => decide (A k = a)) 646 := by
    intro a
    refine cw_cn_inj (E := E) (fun n hn hp => ?_)
    have hp := of_decide_eq_true hp
    obtain ⟨k, hk, h1, h3, hE⟩ := hrf n hn (by omega)
    have := (hT k n hk h1 h3 hE).2.1
    exact ⟨k, hk, decide_eq_true (by omega), hE⟩
  have t : ∀ a, 2 ≤ a → cw_cn (fun k => decide (A k = a)) 646 ≤ 4 * cw_cn (fun n => decide (L n = a)) 160 := by
    intro a ha
    have e := cw_cn_add (p := fun k => decide (A k = a)) 640 6
    have e2 : cw_cn (fun j => decide (A (640 + j) = a)) 6 = 0 := by
      refine cw_cn_zero (fun i hi => decide_eq_false ?_)
      have := hV.2.1 (640 + i) (by omega) (by omega)
      omega
    have e3 : cw_cn (fun k => decide (A k = a)) 640 ≤ cw_cn (fun k => decide (L (k / 4) = a)) (4 * 160) := by
      refine cw_cn_mono (fun i hi hp => ?_)
      have hp := of_decide_eq_true hp
      have := hV.1 i (by omega)
      exact decide_eq_true (by omega)
    rw [e2] at e
    exact Nat.le_trans (Nat.le_of_eq e) (Nat.le_trans e3 (Nat.le_of_eq (cw_cn_four (q := fun n => decide (L n = a)) 160)))
  have r : cw_cn (fun k => decide (A k = 1)) 646 ≤ 6 := by
    have e := cw_cn_add (p := fun k => decide (A k = 1)) 640 6
    have e2 : cw_cn (fun k => decide (A k = 1)) 640 = 0 := by
      refine cw_cn_zero (fun i hi => decide_eq_false ?_)
      have := hV.1 i hi
      have := hV.2.2 (i / 4) (by omega)
      omega
    have e3 := cw_cn_le (p := fun j => decide (A (640 + j) = 1)) 6
    rw [e2] at e
    exact Nat.le_trans (Nat.le_of_eq e) (by omega)
  have all : ∀ N, N ≤ 160 → N ≤ cw_cn (fun n => decide (L n = 0)) N + cw_cn (fun n => decide (L n = 2)) N + cw_cn (fun n => decide (L n = 3)) N + cw_cn (fun n => decide (L n = 4)) N := by
    intro N
    induction N with
    | zero => intro _; exact Nat.zero_le _
    | succ m ih =>
      intro hm
      have i1 := ih (by omega)
      rw [cw_cn_s, cw_cn_s, cw_cn_s, cw_cn_s]
      have v := hV.2.2 m (by omega)
      have v' : L m = 0 ∨ L m = 2 ∨ L m = 3 ∨ L m = 4 := by omega
      rcases v' with v | v | v | v <;> simp [v] <;> omega
  have a0 := all 160 (Nat.le_refl _)
  have s1 := s 1
  have s2 := s 2
  have s3 := s 3
  have t2 := t 2 (by omega)
  have t3 := t 3 (by omega)
  have f := hF.1
  simp only [show (1 + 1 : Nat) = 2 from rfl, show (2 + 1 : Nat) = 3 from rfl, show (3 + 1 : Nat) = 4 from rfl] at s1 s2 s3
  omega
end
end
section
/-- the j-th branch -/
def cw_ch (B : Nat → Option Nat) : Option Nat → Nat → Option Nat
  | none, _ => none
  | some n, j => B (4 * n + j)
theorem cw_ch_n {B : Nat → Option Nat} {j : Nat} : cw_ch B none j = none := rfl
theorem cw_ch_s {B : Nat → Option Nat} {n j : Nat} : cw_ch B (some n) j = B (4 * n + j) := rfl
def cw_f1 (B : Nat → Option Nat) (x : Option Nat) (p : Nat) : Option Nat := cw_ch B x (p % 4)
def cw_f2 (B : Nat → Option Nat) (x : Option Nat) (p : Nat) : Option Nat := cw_f1 B (cw_ch B x (p / 4 % 4)) p
/-- the block at place p of the tree x -/
def cw_f3 (B : Nat → Option Nat) (x : Option Nat) (p : Nat) : Option Nat := cw_f2 B (cw_ch B x (p / 16)) p
theorem cw_f3_n {B : Nat → Option Nat} {p : Nat} : cw_f3 B none p = none := rfl
theorem cw_f2_n {B : Nat → Option Nat} {p : Nat} : cw_f2 B none p = none := rfl
theorem cw_f1_n {B : Nat → Option Nat} {p : Nat} : cw_f1 B none p = none := rfl
/-- at rest, but for pending blocks Q -/
def cw_Rq (A L : Nat → Nat) (B R : Nat → Option Nat) (U H F : Nat → Nat) (fn : Nat) (Q : Nat → Nat) : Prop :=
  cw_Iv A L (cw_E B R) U H F fn (fun _ => 0) Q (fun _ => false) ∧ ∀ v, v < 6 → A (640 + v) = 1
section
variable {A L : Nat → Nat} {B R : Nat → Option Nat} {U H F : Nat → Nat} {fn : Nat} {P Q : Nat → Nat} {Z : Nat → Bool}
theorem cw_root (h : cw_Iv A L (cw_E B R) U H F fn P Q Z) {v n : Nat} (hv : v < 6) (ha : A (640 + v) = 1) (e : R v = some n) : n < 160 ∧ L n = 2 ∧ cw_fu A n 2 := by
  have := h.1 (640 + v) n (by omega) (by omega) (by omega) (by rw [cw_E_r]; exact e)
  rw [ha] at this
  exact this
theorem cw_kid (h : cw_Iv A L (cw_E B R) U H F fn P Q Z) {n m j a : Nat} (hn : n < 160) (hf : cw_fu A n a) (h1 : 1 ≤ a) (h3 : a ≤ 3) (hj : j < 4) (e : B (4 * n + j) = some m) : m < 160 ∧ L m = a + 1 ∧ cw_fu A m (a + 1) := by
  have ha := hf j hj
  have := h.1 (4 * n + j) m (by omega) (by omega) (by omega) (by rw [cw_E_b (by omega)]; exact e)
  rw [ha] at this
  exact this
theorem cw_kib (h : cw_Iv A L (cw_E B R) U H F fn P Q Z) {n b j : Nat} (hn : n < 160) (hf : cw_fu A n 4) (hj : j < 4) (e : B (4 * n + j) = some b) : b < 80 :=
  h.2.1 (4 * n + j) b (by omega) (hf j hj) (by rw [cw_E_b (by omega)]; exact e)
theorem cw_path {x : Option Nat} {p b : Nat} (e : cw_f3 B x p = some b) : ∃ n1 n2 n3, x = some n1 ∧ B (4 * n1 + p / 16) = some n2 ∧ B (4 * n2 + p / 4 % 4) = some n3 ∧ B (4 * n3 + p % 4) = some b := by
  cases hx : x with
  | none => rw [hx] at e; exact absurd e (by rw [cw_f3_n]; exact fun z => by cases z)
  | some n1 =>
    rw [hx] at e
    have e1 : cw_f2 B (B (4 * n1 + p / 16)) p = some b := e
    cases h2 : B (4 * n1 + p / 16) with
    | none => rw [h2, cw_f2_n] at e1; cases e1
    | some n2 =>
      rw [h2] at e1
      have e2 : cw_f1 B (B (4 * n2 + p / 4 % 4)) p = some b := e1
      cases h3 : B (4 * n2 + p / 4 % 4) with
      | none => rw [h3, cw_f1_n] at e2; cases e2
      | some n3 =>
        rw [h3] at e2
        exact ⟨n1, n2, n3, rfl, h2, h3, e2⟩
/-- the nodes on the way to a place -/
theorem cw_way (h : cw_Rq A L B R U H F fn Q) {v p b : Nat} (hv : v < 6) (hp : p < 64) (e : cw_f3 B (R v) p = some b) : ∃ n1 n2 n3, R v = some n1 ∧ B (4 * n1 + p / 16) = some n2 ∧ B (4 * n2 + p / 4 % 4) = some n3 ∧ B (4 * n3 + p % 4) = some b ∧ n1 < 160 ∧ n2 < 160 ∧ n3 < 160 ∧ b < 80 ∧ cw_fu A n3 4 := by
  obtain ⟨n1, n2, n3, e1, e2, e3, e4⟩ := cw_path e
  obtain ⟨a1, b1, c1⟩ := cw_root h.1 hv (h.2 v hv) e1
  obtain ⟨a2, b2, c2⟩ := cw_kid h.1 a1 c1 (by omega) (by omega) (by omega) e2
  obtain ⟨a3, b3, c3⟩ := cw_kid h.1 a2 c2 (by omega) (by omega) (by omega) e3
  exact ⟨n1, n2, n3, e1, e2, e3, e4, a1, a2, a3, cw_kib h.1 a3 c3 (by omega) e4, c3⟩
theorem cw_had_of (h : cw_Rq A L B R U H F fn Q) {v p b : Nat} (hv : v < 6) (hp : p < 64) (e : cw_f3 B (R v) p = some b) : b < 80 ∧ Q b < H b := by
  obtain ⟨n1, n2, n3, e1, e2, e3, e4, a1, a2, a3, hb, c3⟩ := cw_way h hv hp e
  refine ⟨hb, ?_⟩
  have := h.1.2.2.2.2.1 b hb
  have := cw_cn_one (p := cw_rb A (cw_E B R) b) (i := 4 * n3 + p % 4) (N := 646) (by omega) (cw_rb_t.mpr ⟨c3 _ (by omega), by rw [cw_E_b (by omega)]; exact e4⟩)
  omega
theorem cw_had_to (h : cw_Rq A L B R U H F fn Q) {b : Nat} (hb : b < 80) (hh : Q b < H b) : ∃ v p, v < 6 ∧ p < 64 ∧ cw_f3 B (R v) p = some b := by
  have hu : ∀ n, n < 160 → L n ≠ 0 → ∃ k, k < 646 ∧ 1 ≤ A k ∧ A k ≤ 3 ∧ cw_E B R k = some n ∧ L n = A k + 1 := by
    intro n hn hL
    have hz := (h.1.2.2.2.2.2.2 n hn).1 hL
    obtain ⟨k, hk, h1, h3, hE⟩ := cw_rf_of h.1 hn (by
      show 0 < U n
      rcases hz with z | z
      · omega
      · exact absurd z Bool.false_ne_true)
    exact ⟨k, hk, h1, h3, hE, (h.1.1 k n hk h1 h3 hE).2.1⟩
  obtain ⟨hT, hD, hV, hU, hH, hF, hZ⟩ := h.1
  have := hH b hb
  obtain ⟨k, hk, e⟩ := cw_cn_pos (p := cw_rb A (cw_E B R) b) (N := 646) (by omega)
  obtain ⟨h4, hE⟩ := cw_rb_t.mp e
  have lo : ∀ k, k < 646 → 2 ≤ A k → k < 640 ∧ L (k / 4) = A k := by
    intro k hk h2
    by_cases hk2 : k < 640
    · have := hV.1 k hk2; exact ⟨hk2, by omega⟩
    · have := hV.2.1 k (by omega) hk; omega
  obtain ⟨hk0, hL0⟩ := lo k hk (by omega)
  obtain ⟨k2, hk2, a2, b2, e2, l2⟩ := hu (k / 4) (by omega) (by omega)
  obtain ⟨hk2', hL2⟩ := lo k2 hk2 (by omega)
  obtain ⟨k3, hk3, a3, b3, e3, l3⟩ := hu (k2 / 4) (by omega) (by omega)
  obtain ⟨hk3', hL3⟩ := lo k3 hk3 (by omega)
  obtain ⟨k4, hk4, a4, b4, e4, l4⟩ := hu (k3 / 4) (by omega) (by omega)
  have hk4' : 640 ≤ k4 := by
    by_cases z : k4 < 640
    · have := hV.1 k4 z
      have := hV.2.2 (k4 / 4) (by omega)
      omega
    · omega
  have er : R (k4 - 640) = some (k3 / 4) := by
    have q := cw_E_r (B := B) (R := R) (v := k4 - 640)
    rw [show 640 + (k4 - 640) = k4 by omega, e4] at q; exact q.symm
  rw [cw_E_b hk3'] at e3
  rw [cw_E_b hk2'] at e2
  rw [cw_E_b hk0] at hE
  refine ⟨k4 - 640, 16 * (k3 % 4) + 4 * (k2 % 4) + k % 4, by omega, by omega, ?_⟩
  have q1 : (16 * (k3 % 4) + 4 * (k2 % 4) + k % 4) / 16 = k3 % 4 := by omega
  have q2 : (16 * (k3 % 4) + 4 * (k2 % 4) + k % 4) / 4 % 4 = k2 % 4 := by omega
  have q3 : (16 * (k3 % 4) + 4 * (k2 % 4) + k % 4) % 4 = k % 4 := by omega
  unfold cw_f3 cw_f2 cw_f1
  rw [q1, q2, q3, er, cw_ch_s, show 4 * (k3 / 4) + k3 % 4 = k3 by omega, e3, cw_ch_s, show 4 * (k2 / 4) + k2 % 4 = k2 by omega, e2, cw_ch_s, show 4 * (k / 4) + k % 4 = k by omega]
  exact hE
/-- what a put makes of the volumes' contents -/
theorem cw_put_f (h : cw_Rq A L B R U H F fn Q) {v p t m l : Nat} {B' : Nat → Option Nat} {b : Option Nat} (hv : v < 6) (ht : t < 160) (hm : m < 160)
    (r1 : ∀ i, i < 646 → 1 ≤ A i → A i ≤ 3 → cw_E B R i = some t → i = 640 + v)
    (r2 : ∀ i, i < 646 → 1 ≤ A i → A i ≤ 3 → cw_E B R i = some m → i = 4 * t + p / 16)
    (r3 : ∀ i, i < 646 → 1 ≤ A i → A i ≤ 3 → cw_E B R i = some l → i = 4 * m + p / 4 % 4)
    (hp : p < 64)
    (b0 : ∀ k, k / 4 ≠ t → k / 4 ≠ m → k / 4 ≠ l → B' k = B k)
    (b1 : ∀ j, j < 4 → B' (4 * t + j) = if j = p / 16 then some m else cw_ch B (R v) j)
    (b2 : ∀ j, j < 4 → B' (4 * m + j) = if j = p / 4 % 4 then some l else cw_ch B (cw_ch B (R v) (p / 16)) j)
    (b3 : ∀ j, j < 4 → B' (4 * l + j) = if j = p % 4 then b else cw_ch B (cw_ch B (cw_ch B (R v) (p / 16)) (p / 4 % 4)) j) :
    ∀ v' p', v' < 6 → p' < 64 → cw_f3 B' (cw_un R v (some t) v') p' = if v' = v ∧ p' = p then b else cw_f3 B (R v') p' := by
  have g0 : ∀ n j, n ≠ t → n ≠ m → n ≠ l → j < 4 → B' (4 * n + j) = B (4 * n + j) := by
    intro n j x1 x2 x3 hj
    have e : (4 * n + j) / 4 = n := by omega
    exact b0 _ (by rw [e]; exact x1) (by rw [e]; exact x2) (by rw [e]; exact x3)
  have g1 : ∀ n p', n ≠ t → n ≠ m → n ≠ l → cw_f1 B' (some n) p' = cw_f1 B (some n) p' := by
    intro n p' x1 x2 x3
    exact g0 n (p' % 4) x1 x2 x3 (by omega)
  have g2 : ∀ n p', n < 160 → cw_fu A n 3 → n ≠ t → n ≠ m → n ≠ l → cw_f2 B' (some n) p' = cw_f2 B (some n) p' := by
    intro n p' hn hf x1 x2 x3
    show cw_f1 B' (B' (4 * n + p' / 4 % 4)) p' = cw_f1 B (B (4 * n + p' / 4 % 4)) p'
    rw [g0 n (p' / 4 % 4) x1 x2 x3 (by omega)]
    have hi := hf (p' / 4 % 4) (by omega)
    cases e : B (4 * n + p' / 4 % 4) with
    | none => rfl
    | some n3 =>
      have eE : cw_E B R (4 * n + p' / 4 % 4) = some n3 := by rw [cw_E_b (by omega)]; exact e
      refine g1 n3 p' ?_ ?_ ?_
      · intro z; rw [z] at eE; have := r1 _ (by omega) (by omega) (by omega) eE; omega
      · intro z; rw [z] at eE; have := r2 _ (by omega) (by omega) (by omega) eE; exact x1 (by omega)
      · intro z; rw [z] at eE; have := r3 _ (by omega) (by omega) (by omega) eE; exact x2 (by omega)
  have g3 : ∀ n p', n < 160 → p' < 64 → cw_fu A n 2 → n ≠ t → n ≠ m → n ≠ l → cw_f3 B' (some n) p' = cw_f3 B (some n) p' := by
    intro n p' hn hp' hf x1 x2 x3
    show cw_f2 B' (B' (4 * n + p' / 16)) p' = cw_f2 B (B (4 * n + p' / 16)) p'
    rw [g0 n (p' / 16) x1 x2 x3 (by omega)]
    have hi := hf (p' / 16) (by omega)
    cases e : B (4 * n + p' / 16) with
    | none => rfl
    | some n2 =>
      have eE : cw_E B R (4 * n + p' / 16) = some n2 := by rw [cw_E_b (by omega)]; exact e
      obtain ⟨y1, y2, y3⟩ := cw_kid h.1 hn hf (by omega) (by omega) (by omega) e
      refine g2 n2 p' y1 y3 ?_ ?_ ?_
      · intro z; rw [z] at eE; have := r1 _ (by omega) (by omega) (by omega) eE; omega
      · intro z; rw [z] at eE; have := r2 _ (by omega) (by omega) (by omega) eE; exact x1 (by omega)
      · intro z; rw [z] at eE; have := r3 _ (by omega) (by omega) (by omega) eE; exact x2 (by omega)
  intro v' p' hv' hp'
  by_cases ev : v' = v
  · subst ev
    rw [cw_us]
    show cw_f2 B' (B' (4 * t + p' / 16)) p' = _
    rw [b1 (p' / 16) (by omega)]
    have hrt : ∀ n1, R v' = some n1 → cw_E B R (640 + v') = some n1 := by
      intro n1 e1; rw [cw_E_r]; exact e1
    have har := h.2 v' hv'
    by_cases q1 : p' / 16 = p / 16
    · rw [if_pos q1]
      show cw_f1 B' (B' (4 * m + p' / 4 % 4)) p' = _
      rw [b2 (p' / 4 % 4) (by omega)]
      by_cases q2 : p' / 4 % 4 = p / 4 % 4
      · rw [if_pos q2]
        show B' (4 * l + p' % 4) = _
        rw [b3 (p' % 4) (by omega)]
        by_cases q3 : p' % 4 = p % 4
        · rw [if_pos q3, if_pos ⟨rfl, by omega⟩]
        · rw [if_neg q3, if_neg (fun z => q3 (by rw [z.2]))]
          unfold cw_f3 cw_f2 cw_f1
          rw [q1, q2]
      · rw [if_neg q2, if_neg (fun z => q2 (by rw [z.2]))]
        unfold cw_f3 cw_f2
        rw [q1]
        cases e1 : R v' with
        | none => rfl
        | some n1 =>
          obtain ⟨y1, y2, y3⟩ := cw_root h.1 hv' har e1
          rw [cw_ch_s]
          cases e2 : B (4 * n1 + p / 16) with
          | none => rfl
          | some n2 =>
            obtain ⟨z1, z2, z3⟩ := cw_kid h.1 y1 y3 (by omega) (by omega) (by omega) e2
            have hi2 := y3 (p / 16) (by omega)
            have eE2 : cw_E B R (4 * n1 + p / 16) = some n2 := by rw [cw_E_b (by omega)]; exact e2
            rw [cw_ch_s]
            have hi := z3 (p' / 4 % 4) (by omega)
            cases e3 : B (4 * n2 + p' / 4 % 4) with
            | none => rfl
            | some n3 =>
              have eE : cw_E B R (4 * n2 + p' / 4 % 4) = some n3 := by rw [cw_E_b (by omega)]; exact e3
              refine g1 n3 p' ?_ ?_ ?_
              · intro z; rw [z] at eE; have := r1 _ (by omega) (by omega) (by omega) eE; omega
              · intro z
                rw [z] at eE
                have := r2 _ (by omega) (by omega) (by omega) eE
                have en : n2 = t := by omega
                rw [en] at eE2
                have := r1 _ (by omega) (by omega) (by omega) eE2
                omega
              · intro z
                rw [z] at eE
                have := r3 _ (by omega) (by omega) (by omega) eE
                omega
    · rw [if_neg q1, if_neg (fun z => q1 (by rw [z.2]))]
      unfold cw_f3
      cases e1 : R v' with
      | none => rfl
      | some n1 =>
        obtain ⟨y1, y2, y3⟩ := cw_root h.1 hv' har e1
        rw [cw_ch_s]
        have hi := y3 (p' / 16) (by omega)
        cases e2 : B (4 * n1 + p' / 16) with
        | none => rfl
        | some n2 =>
          obtain ⟨z1, z2, z3⟩ := cw_kid h.1 y1 y3 (by omega) (by omega) (by omega) e2
          have eE : cw_E B R (4 * n1 + p' / 16) = some n2 := by rw [cw_E_b (by omega)]; exact e2
          refine g2 n2 p' z1 z3 ?_ ?_ ?_
          · intro z; rw [z] at eE; have := r1 _ (by omega) (by omega) (by omega) eE; omega
          · intro z; rw [z] at eE; have := r2 _ (by omega) (by omega) (by omega) eE; omega
          · intro z
            rw [z] at eE
            have := r3 _ (by omega) (by omega) (by omega) eE
            have en : n1 = m := by omega
            have er := hrt n1 e1
            rw [en] at er
            have := r2 _ (by omega) (by omega) (by omega) er
            omega
  · rw [cw_uo ev, if_neg (fun z => ev z.1)]
    cases e1 : R v' with
    | none => rfl
    | some n1 =>
      have har := h.2 v' hv'
      obtain ⟨y1, y2, y3⟩ := cw_root h.1 hv' har e1
      have eE : cw_E B R (640 + v') = some n1 := by rw [cw_E_r]; exact e1
      refine g3 n1 p' y1 hp' y3 ?_ ?_ ?_
      · intro z; rw [z] at eE; have := r1 _ (by omega) (by omega) (by omega) eE; omega
      · intro z; rw [z] at eE; have := r2 _ (by omega) (by omega) (by omega) eE; omega
      · intro z; rw [z] at eE; have := r3 _ (by omega) (by omega) (by omega) eE; omega
/-- a middle node's branch to a bare lowest node goes -/
theorem cw_pr3 (h : cw_Rq A L B R U H F fn Q) {n j l : Nat} (hn : L n = 3) (hj : j < 4) (e : B (4 * n + j) = some l) (hb : ∀ i, i < 4 → B (4 * l + i) = none) {v p : Nat} (hv : v < 6) (hp : p < 64) : cw_f3 (cw_un B (4 * n + j) none) (R v) p = cw_f3 B (R v) p := by
  have ne : ∀ x i, i < 4 → L x ≠ 3 → cw_un B (4 * n + j) none (4 * x + i) = B (4 * x + i) := by
    intro x i hi hx
    refine cw_uo (fun z => hx ?_)
    rw [show x = n by omega]; exact hn
  cases e1 : R v with
  | none => rfl
  | some n1 =>
    obtain ⟨y1, y2, y3⟩ := cw_root h.1 hv (h.2 v hv) e1
    show cw_f2 _ (cw_un B (4 * n + j) none (4 * n1 + p / 16)) p = cw_f2 B (B (4 * n1 + p / 16)) p
    rw [ne n1 (p / 16) (by omega) (by omega)]
    cases e2 : B (4 * n1 + p / 16) with
    | none => rfl
    | some n2 =>
      obtain ⟨z1, z2, z3⟩ := cw_kid h.1 y1 y3 (by omega) (by omega) (by omega) e2
      show cw_f1 _ (cw_un B (4 * n + j) none (4 * n2 + p / 4 % 4)) p = cw_f1 B (B (4 * n2 + p / 4 % 4)) p
      by_cases q : 4 * n2 + p / 4 % 4 = 4 * n + j
      · rw [q, cw_us, e]
        exact (hb (p % 4) (by omega)).symm
      · rw [cw_uo q]
        cases e3 : B (4 * n2 + p / 4 % 4) with
        | none => rfl
        | some n3 =>
          obtain ⟨w1, w2, w3⟩ := cw_kid h.1 z1 z3 (by omega) (by omega) (by omega) e3
          exact ne n3 (p % 4) (by omega) (by omega)
/-- a top node's branch to a bare middle node goes -/
theorem cw_pr2 (h : cw_Rq A L B R U H F fn Q) {n j l : Nat} (hn : L n = 2) (hj : j < 4) (e : B (4 * n + j) = some l) (hb : ∀ i, i < 4 → B (4 * l + i) = none) {v p : Nat} (hv : v < 6) (hp : p < 64) : cw_f3 (cw_un B (4 * n + j) none) (R v) p = cw_f3 B (R v) p := by
  have ne : ∀ x i, i < 4 → L x ≠ 2 → cw_un B (4 * n + j) none (4 * x + i) = B (4 * x + i) := by
    intro x i hi hx
    refine cw_uo (fun z => hx ?_)
    rw [show x = n by omega]; exact hn
  cases e1 : R v with
  | none => rfl
  | some n1 =>
    obtain ⟨y1, y2, y3⟩ := cw_root h.1 hv (h.2 v hv) e1
    show cw_f2 _ (cw_un B (4 * n + j) none (4 * n1 + p / 16)) p = cw_f2 B (B (4 * n1 + p / 16)) p
    by_cases q : 4 * n1 + p / 16 = 4 * n + j
    · rw [q, cw_us, e]
      show none = cw_f1 B (B (4 * l + p / 4 % 4)) p
      rw [hb (p / 4 % 4) (by omega)]; rfl
    · rw [cw_uo q]
      cases e2 : B (4 * n1 + p / 16) with
      | none => rfl
      | some n2 =>
        obtain ⟨z1, z2, z3⟩ := cw_kid h.1 y1 y3 (by omega) (by omega) (by omega) e2
        show cw_f1 _ (cw_un B (4 * n + j) none (4 * n2 + p / 4 % 4)) p = cw_f1 B (B (4 * n2 + p / 4 % 4)) p
        rw [ne n2 (p / 4 % 4) (by omega) (by omega)]
        cases e3 : B (4 * n2 + p / 4 % 4) with
        | none => rfl
        | some n3 =>
          obtain ⟨w1, w2, w3⟩ := cw_kid h.1 z1 z3 (by omega) (by omega) (by omega) e3
          exact ne n3 (p % 4) (by omega) (by omega)
/-- a bare top node has nothing -/
theorem cw_pr1 {n p : Nat} (hp : p < 64) (hb : ∀ i, i < 4 → B (4 * n + i) = none) : cw_f3 B (some n) p = none := by
  show cw_f2 B (B (4 * n + p / 16)) p = none
  rw [hb (p / 16) (by omega)]; rfl
end
end
section
def cw_eO : Option Nat → Int32
  | none => -1
  | some n => nI n
def cw_eB (B : Nat → Option Nat) : Nat → Int32 := fun j => cw_eO (B j)
def cw_eN (U : Nat → Nat) : Nat → Int32 := fun j => nI (U j)
def cw_eb (b : Bool) : Int32 := if b then 1 else 0
def cw_eT (T : Nat → Bool) : Nat → Int32 := fun j => cw_eb (T j)
theorem cw_eb_t : cw_eb true = 1 := rfl
theorem cw_eb_f : cw_eb false = 0 := rfl
theorem cw_rdB {B : Nat → Option Nat} {i : Int32} {k : Nat} (hi : i = nI k) (hk : k < 2 ^ 31) : cw_eB B i.toNatClampNeg = cw_eO (B k) := by
  rw [hi, nI_clamp hk]; rfl
theorem cw_rdN {U : Nat → Nat} {i : Int32} {k : Nat} (hi : i = nI k) (hk : k < 2 ^ 31) : cw_eN U i.toNatClampNeg = nI (U k) := by
  rw [hi, nI_clamp hk]; rfl
theorem cw_rdT {T : Nat → Bool} {i : Int32} {k : Nat} (hi : i = nI k) (hk : k < 2 ^ 31) : cw_eT T i.toNatClampNeg = cw_eb (T k) := by
  rw [hi, nI_clamp hk]; rfl
theorem cw_wrB {B : Nat → Option Nat} {i y : Int32} {k : Nat} {x : Option Nat} (hi : i = nI k) (hk : k < 2 ^ 31) (hy : y = cw_eO x) : upd (cw_eB B) i.toNatClampNeg y = cw_eB (cw_un B k x) := by
  rw [hi, nI_clamp hk, hy]
  funext j
  show (if j = k then cw_eO x else cw_eO (B j)) = cw_eO (if j = k then x else B j)
  by_cases e : j = k
  · rw [if_pos e, if_pos e]
  · rw [if_neg e, if_neg e]
theorem cw_wrN {U : Nat → Nat} {i y : Int32} {k x : Nat} (hi : i = nI k) (hk : k < 2 ^ 31) (hy : y = nI x) : upd (cw_eN U) i.toNatClampNeg y = cw_eN (cw_un U k x) := by
  rw [hi, nI_clamp hk, hy]
  funext j
  show (if j = k then nI x else nI (U j)) = nI (if j = k then x else U j)
  by_cases e : j = k
  · rw [if_pos e, if_pos e]
  · rw [if_neg e, if_neg e]
theorem cw_wrT {T : Nat → Bool} {i y : Int32} {k : Nat} {x : Bool} (hi : i = nI k) (hk : k < 2 ^ 31) (hy : y = cw_eb x) : upd (cw_eT T) i.toNatClampNeg y = cw_eT (cw_un T k x) := by
  rw [hi, nI_clamp hk, hy]
  funext j
  show (if j = k then cw_eb x else cw_eb (T j)) = cw_eb (if j = k then x else T j)
  by_cases e : j = k
  · rw [if_pos e, if_pos e]
  · rw [if_neg e, if_neg e]
theorem cw_sh {n : Nat} (h : n < 32768) : (nI n).toInt16.toInt32 = nI n :=
  lg_i2s_small (by rw [nI_toInt (by omega)]; omega) (by rw [nI_toInt (by omega)]; omega)
theorem cw_sn {n : Nat} (h : n < 32768) : vp_nar .short (nI n) = nI n := cw_sh h
theorem cw_sns {n : Nat} (h : n < 32768) : vp_nar .short (nI n).toInt16.toInt32 = nI n := by rw [cw_sh h]; exact cw_sh h
theorem cw_by {n : Nat} (h : n < 128) : (nI n).toInt8.toInt32 = nI n :=
  lg_i2b_small (by rw [nI_toInt (by omega)]; omega) (by rw [nI_toInt (by omega)]; omega)
theorem cw_bn8 {n : Nat} (h : n < 128) : vp_nar .byte (nI n) = nI n := cw_by h
theorem cw_bns {n : Nat} (h : n < 128) : vp_nar .byte (nI n).toInt8.toInt32 = nI n := by rw [cw_by h]; exact cw_by h
theorem cw_nm1 : vp_nar .short (-1) = cw_eO none := by rw [vp_nar_short]; decide
theorem cw_eO_sh {x : Option Nat} (h : ∀ n, x = some n → n < 32768) : (cw_eO x).toInt16.toInt32 = cw_eO x := by
  cases x with
  | none => decide
  | some n => exact cw_sh (h n rfl)
theorem cw_eO_sn {x : Option Nat} (h : ∀ n, x = some n → n < 32768) : vp_nar .short (cw_eO x) = cw_eO x := cw_eO_sh h
theorem cw_eO_sns {x : Option Nat} (h : ∀ n, x = some n → n < 32768) : vp_nar .short (cw_eO x).toInt16.toInt32 = cw_eO x := by
  rw [cw_eO_sh h]; exact cw_eO_sh h
theorem cw_dec {u : Nat} (h1 : 1 ≤ u) (h2 : u < 32768) : (nI u - 1).toInt16.toInt32 = nI (u - 1) := by
  rw [show nI u - 1 = nI (u - 1) from pk_sub (a := u) (b := 1) h1]; exact cw_sh (by omega)
theorem cw_decn {u : Nat} (h1 : 1 ≤ u) (h2 : u < 32768) : vp_nar .short (nI u - 1).toInt16.toInt32 = nI (u - 1) := by
  rw [cw_dec h1 h2]; exact cw_sh (by omega)
theorem cw_inc {u : Nat} (h2 : u < 32767) : (nI u + 1).toInt16.toInt32 = nI (u + 1) := by
  rw [nI_1]; exact cw_sh (by omega)
theorem cw_incn {u : Nat} (h2 : u < 32767) : vp_nar .short (nI u + 1).toInt16.toInt32 = nI (u + 1) := by
  rw [cw_inc h2]; exact cw_sh (by omega)
theorem cw_4 (m : Nat) : (4 : Int32) * nI m = nI (4 * m) := pk_mul 4 m
theorem cw_44 (m : Nat) : (4 : Int32) * nI m + 4 = nI (4 * m + 4) := by
  rw [cw_4]; exact nI_add (4 * m) 4
theorem cw_4j (m j : Nat) : (4 : Int32) * nI m + nI j = nI (4 * m + j) := by
  rw [cw_4]; exact nI_add (4 * m) j
theorem cw_64 (m j : Nat) : (64 : Int32) * nI m + nI j = nI (64 * m + j) := by
  rw [show (64 : Int32) * nI m = nI (64 * m) from pk_mul 64 m]; exact nI_add (64 * m) j
theorem cw_80 (m j : Nat) : (80 : Int32) * nI m + nI j = nI (80 * m + j) := by
  rw [show (80 : Int32) * nI m = nI (80 * m) from pk_mul 80 m]; exact nI_add (80 * m) j
theorem cw_on {x : Option Nat} {y : Int32} {A B : Prop} (hy : y = cw_eO x) (hx : ∀ n, x = some n → n < 2 ^ 31) (f : x = none → A) (g : ∀ n, x = some n → B) : (y < 0 → A) ∧ (¬ y < 0 → B) := by
  subst hy
  cases x with
  | none => exact br_t (by decide) (f rfl)
  | some n => exact br_f (nI_pos (hx n rfl)) (g n rfl)
theorem cw_og {x : Option Nat} {y : Int32} {A B : Prop} (hy : y = cw_eO x) (hx : ∀ n, x = some n → n < 2 ^ 31) (g : ∀ n, x = some n → A) (f : x = none → B) : (0 ≤ y → A) ∧ (¬ 0 ≤ y → B) := by
  subst hy
  cases x with
  | none => exact br_f (by decide) (f rfl)
  | some n => exact br_t (nI_pos' (hx n rfl)) (g n rfl)
theorem cw_eO_inj {x y : Option Nat} (hx : ∀ n, x = some n → n < 2 ^ 31) (hy : ∀ n, y = some n → n < 2 ^ 31) : cw_eO x = cw_eO y ↔ x = y := by
  constructor
  · intro h
    cases x with
    | none =>
      cases y with
      | none => rfl
      | some m => exact absurd (show nI m < 0 by rw [← show cw_eO none = nI m from h]; decide) (nI_pos (hy m rfl))
    | some n =>
      cases y with
      | none => exact absurd (show nI n < 0 by rw [show nI n = cw_eO none from h]; decide) (nI_pos (hx n rfl))
      | some m => exact congrArg some ((nI_eq (hx n rfl) (hy m rfl)).mp h)
  · intro h; rw [h]
theorem cw_bt {b : Bool} {A B : Prop} (f : b = false → A) (g : b = true → B) : (cw_eb b = 0 → A) ∧ (¬ cw_eb b = 0 → B) := by
  cases b with
  | false => exact br_t rfl (f rfl)
  | true => exact br_f (by decide) (g rfl)
/-- bits of the FREE set -/
def cw_FB (fl fh : Int64) (b : Nat) : Bool := if b < 64 then fl.toBitVec.getLsbD b else fh.toBitVec.getLsbD (b - 64)
def cw_Fs (H : Nat → Nat) (fl fh : Int64) : Prop := (∀ b, b < 80 → cw_FB fl fh b = decide (H b = 0)) ∧ (∀ b, 80 ≤ b → b < 128 → cw_FB fl fh b = false)
theorem cw_one64 {b : Nat} (hb : b < 64) : ((1 : Int64) <<< ((nI b).toInt64 &&& 63)).toBitVec = BitVec.twoPow 64 b := by
  rw [show (1 : Int64) = lN 1 from rfl, wb_shl 1 hb, wb_tb]
  apply BitVec.eq_of_toNat_eq
  rw [BitVec.toNat_ofNat, BitVec.toNat_twoPow, Nat.one_mul]
theorem cw_bor {w : Int64} {b i : Nat} (hb : b < 64) : (w ||| ((1 : Int64) <<< ((nI b).toInt64 &&& 63))).toBitVec.getLsbD i = (w.toBitVec.getLsbD i || decide (b = i)) := by
  rw [Int64.toBitVec_or, BitVec.getLsbD_or, cw_one64 hb, BitVec.getLsbD_twoPow]
  simp [hb]
theorem cw_bcl {w : Int64} {b i : Nat} (hb : b < 64) (hi : i < 64) : (w &&& (((1 : Int64) <<< ((nI b).toInt64 &&& 63)) ^^^ (-1))).toBitVec.getLsbD i = (w.toBitVec.getLsbD i && !decide (b = i)) := by
  rw [Int64.toBitVec_and, BitVec.getLsbD_and, Int64.toBitVec_xor, BitVec.getLsbD_xor, cw_one64 hb, BitVec.getLsbD_twoPow, show (-1 : Int64).toBitVec = BitVec.allOnes 64 from rfl, BitVec.getLsbD_allOnes]
  simp [hb, hi]
theorem cw_FB_lo {fl fh : Int64} {b i : Nat} (hb : b < 64) : cw_FB (fl ||| ((1 : Int64) <<< ((nI b).toInt64 &&& 63))) fh i = (cw_FB fl fh i || decide (b = i)) := by
  unfold cw_FB
  by_cases h : i < 64
  · rw [if_pos h, if_pos h, cw_bor hb]
  · rw [if_neg h, if_neg h, decide_eq_false (by omega), Bool.or_false]
theorem cw_sub64 {b : Nat} (h : 64 ≤ b) : nI b - 64 = nI (b - 64) := pk_sub (a := b) (b := 64) h
theorem cw_FB_hi {fl fh : Int64} {b i : Nat} (h64 : 64 ≤ b) (hb : b < 128) : cw_FB fl (fh ||| ((1 : Int64) <<< ((nI b - 64).toInt64 &&& 63))) i = (cw_FB fl fh i || decide (b = i)) := by
  rw [cw_sub64 h64]
  unfold cw_FB
  by_cases h : i < 64
  · rw [if_pos h, if_pos h, decide_eq_false (by omega), Bool.or_false]
  · rw [if_neg h, if_neg h, cw_bor (by omega)]
    congr 1
    by_cases e : b = i
    · rw [decide_eq_true e, decide_eq_true (by omega)]
    · rw [decide_eq_false e, decide_eq_false (by omega)]
theorem cw_FB_clo {fl fh : Int64} {b i : Nat} (hb : b < 64) : cw_FB (fl &&& (((1 : Int64) <<< ((nI b).toInt64 &&& 63)) ^^^ (-1))) fh i = (cw_FB fl fh i && !decide (b = i)) := by
  unfold cw_FB
  by_cases h : i < 64
  · rw [if_pos h, if_pos h, cw_bcl hb h]
  · rw [if_neg h, if_neg h, decide_eq_false (by omega), Bool.not_false, Bool.and_true]
theorem cw_FB_chi {fl fh : Int64} {b i : Nat} (h64 : 64 ≤ b) (hb : b < 128) (hi : i < 128) : cw_FB fl (fh &&& (((1 : Int64) <<< ((nI b - 64).toInt64 &&& 63)) ^^^ (-1))) i = (cw_FB fl fh i && !decide (b = i)) := by
  rw [cw_sub64 h64]
  unfold cw_FB
  by_cases h : i < 64
  · rw [if_pos h, if_pos h, decide_eq_false (by omega), Bool.not_false, Bool.and_true]
  · rw [if_neg h, if_neg h, cw_bcl (by omega) (by omega)]
    congr 2
    by_cases e : b = i
    · rw [decide_eq_true e, decide_eq_true (by omega)]
    · rw [decide_eq_false e, decide_eq_false (by omega)]
/-- a set bit b, b's count 0 -/
theorem cw_Fs_set {H : Nat → Nat} {fl fh fl' fh' : Int64} {b : Nat} (h : cw_Fs H fl fh) (hb : b < 80) (e : ∀ i, i < 128 → cw_FB fl' fh' i = (cw_FB fl fh i || decide (b = i))) : cw_Fs (cw_un H b 0) fl' fh' := by
  refine ⟨fun i hi => ?_, fun i h1 h2 => ?_⟩
  · rw [e i (by omega), h.1 i hi]
    by_cases q : i = b
    · subst q; rw [cw_us, decide_eq_true (show i = i from rfl), Bool.or_true]; rfl
    · rw [cw_uo q, decide_eq_false (p := b = i) (fun z => q z.symm), Bool.or_false]
  · rw [e i h2, h.2 i h1 h2, decide_eq_false (by omega)]; rfl
theorem cw_Fs_eq {H H' : Nat → Nat} {fl fh : Int64} (h : cw_Fs H fl fh) (e : ∀ b, b < 80 → (H' b = 0 ↔ H b = 0)) : cw_Fs H' fl fh := by
  refine ⟨fun i hi => ?_, h.2⟩
  rw [h.1 i hi]
  by_cases q : H i = 0
  · rw [decide_eq_true q, decide_eq_true ((e i hi).mpr q)]
  · rw [decide_eq_false q, decide_eq_false (fun z => q ((e i hi).mp z))]
/-- how many blocks are had -/
def cw_nb (H : Nat → Nat) : Nat := cw_cn (fun b => decide (H b ≠ 0)) 80
theorem cw_nb_dec {H : Nat → Nat} {b : Nat} (hb : b < 80) (h : 1 ≤ H b) : (if H b = 1 then 1 else 0) + cw_nb (cw_un H b (H b - 1)) = cw_nb H := by
  have c := cw_cn_upd (p := fun i => decide (H i ≠ 0)) (q := fun i => decide (cw_un H b (H b - 1) i ≠ 0)) hb (fun i hi hne => by rw [cw_uo hne])
  have e1 : decide (H b ≠ 0) = true := decide_eq_true (by omega)
  unfold cw_nb
  by_cases q : H b = 1
  · have e2 : decide (cw_un H b (H b - 1) b ≠ 0) = false := by rw [cw_us]; exact decide_eq_false (by omega)
    simp only [e1, e2, Bool.toNat_true, Bool.toNat_false] at c
    rw [if_pos q]; omega
  · have e2 : decide (cw_un H b (H b - 1) b ≠ 0) = true := by rw [cw_us]; exact decide_eq_true (by omega)
    simp only [e1, e2, Bool.toNat_true] at c
    rw [if_neg q]; omega
end
section
section
variable {fl fh : Int64} {pr ft he en : Int32} {fn : Nat} {B R : Nat → Option Nat} {U F H : Nat → Nat} {th fz va go pl em se tm mv : Nat → Int32}
variable {A L : Nat → Nat} {P Q : Nat → Nat} {Z : Nat → Bool}
theorem cw_w_drop {post : Int32 → SX → Prop} {x : Option Nat} (hI : cw_Iv A L (cw_E B R) U H F fn P (cw_ad Q x) Z) (hFs : cw_Fs H fl fh) (hx : ∀ b, x = some b → b < 80) (hQ : ∀ b, Q b ≤ 90)
    (hpost : ∀ (r : Nat) (H' : Nat → Nat) (fl' fh' : Int64), cw_Iv A L (cw_E B R) U H' F fn P Q Z → cw_Fs H' fl' fh' → r ≤ 1 → r + cw_nb H' = cw_nb H → (x = none → r = 0 ∧ H' = H) → (∀ b, x = some b → (r = 1 ↔ H' b = 0) ∧ H' = cw_un H b (H b - 1)) → post (nI r) ((nI fn), fl', fh', pr, ft, he, en, (cw_eB B), (cw_eN U), (cw_eN F), (cw_eB R), th, fz, va, (cw_eN H'), go, pl, em, se, tm, mv)) :
    wpX_drop post ((nI fn), fl, fh, pr, ft, he, en, (cw_eB B), (cw_eN U), (cw_eN F), (cw_eB R), th, fz, va, (cw_eN H), go, pl, em, se, tm, mv) (cw_eO x) := by
  cases x with
  | none =>
    refine br_t (by decide) ?_
    exact hpost 0 H fl fh (by rw [cw_ad_0] at hI; exact hI) hFs (by omega) (by omega) (fun _ => ⟨rfl, rfl⟩) (fun b e => by cases e)
  | some b =>
    have hb := hx b rfl
    have h1 : 1 ≤ H b ∧ H b < 32768 := by
      have u := hI.2.2.2.2.1 b hb
      have u2 := cw_H_le hI hb
      rw [cw_ad_s] at u u2
      have := hQ b
      omega
    have hI' := cw_dcB hI
    have hn := cw_nb_dec hb h1.1
    show wpX_drop post _ (nI b)
    refine br_f (nI_pos (by omega)) ⟨vp_in_nI hb (by decide), vp_in_nI hb (by decide), nm_r (cw_wrN rfl (by omega) (by rw [cw_rdN rfl (by omega)]; exact cw_decn h1.1 h1.2)) ?_⟩
    refine pk_le (H b - 1) 0 (fun z => ?_) (fun z => ?_) (by rw [cw_rdN rfl (by omega)]; exact cw_dec h1.1 h1.2)
    · have e1 : H b = 1 := by omega
      have e0 : H b - 1 = 0 := by omega
      rw [if_pos e1] at hn
      refine pk_le 64 b (fun h64 => nm_e ?_) (fun h64 => nm_e ?_)
      · refine hpost 1 (cw_un H b (H b - 1)) fl _ hI' ?_ (by omega) hn (fun e => by cases e) (fun b' e => ?_)
        · rw [e0]; exact cw_Fs_set hFs hb (fun i hi => cw_FB_hi h64 (by omega))
        · cases e; rw [cw_us]; exact ⟨⟨fun _ => e0, fun _ => rfl⟩, rfl⟩
      · refine hpost 1 (cw_un H b (H b - 1)) _ fh hI' ?_ (by omega) hn (fun e => by cases e) (fun b' e => ?_)
        · rw [e0]; exact cw_Fs_set hFs hb (fun i hi => cw_FB_lo (by omega))
        · cases e; rw [cw_us]; exact ⟨⟨fun _ => e0, fun _ => rfl⟩, rfl⟩
    · rw [if_neg (by omega)] at hn
      refine hpost 0 (cw_un H b (H b - 1)) fl fh hI' ?_ (by omega) hn (fun e => by cases e) (fun b' e => ?_)
      · refine cw_Fs_eq hFs (fun i hi => ?_)
        by_cases e : i = b
        · subst e; rw [cw_us]; omega
        · rw [cw_uo e]
      · cases e; rw [cw_us]; exact ⟨⟨fun q => absurd q (by decide), fun q => by omega⟩, rfl⟩
/-- what leaving a node keeps: nodes without use, and the roots -/
def cw_Lv (A L U A' L' U' : Nat → Nat) : Prop := (∀ x, x < 160 → U x = 0 → L' x = L x ∧ U' x = 0 ∧ ∀ j, j < 4 → A' (4 * x + j) = A (4 * x + j)) ∧ (∀ v, v < 6 → A' (640 + v) = A (640 + v))
def cw_Lw (n : Nat) (A L U A' L' U' : Nat → Nat) : Prop := (∀ x, x < 160 → x ≠ n → U x = 0 → L' x = L x ∧ U' x = 0 ∧ ∀ j, j < 4 → A' (4 * x + j) = A (4 * x + j)) ∧ (∀ v, v < 6 → A' (640 + v) = A (640 + v))
theorem cw_w_ll {post : Int32 → SX → Prop} {n : Nat} (hn : n < 160) (hQ : ∀ b, Q b ≤ 90) (Z' : Nat → Bool) (hZ' : ∀ i, i ≠ n → Z' i = true → Z i = true) (hu : U n = 0) (hL : L n = 4) :
    ∀ (d j r : Nat) (A H : Nat → Nat) (fl fh : Int64), j + d = 4 → cw_Iv A L (cw_E B R) U H F fn P Q Z' → (∀ i, i < 4 → A (4 * n + i) = if i < j then 0 else 4) → cw_Fs H fl fh → r ≤ j →
    (∀ (r' : Nat) (A' H' : Nat → Nat) (fl' fh' : Int64), cw_Iv A' (cw_un L n 0) (cw_E B R) U H' (cw_un F fn n) (fn + 1) P Q Z → (∀ k, k / 4 ≠ n → A' k = A k) → cw_Fs H' fl' fh' → r' + cw_nb H' = r + cw_nb H → r' ≤ 4 → ((∀ i, i < 4 → B (4 * n + i) = none) → H' = H) → post (nI r') ((nI (fn + 1)), fl', fh', pr, ft, he, en, (cw_eB B), (cw_eN U), (cw_eN (cw_un F fn n)), (cw_eB R), th, fz, va, (cw_eN H'), go, pl, em, se, tm, mv)) →
    wX_leaveLowest_23 post (nI n) (d + 1) (nI r) (nI (4 * n + j)) (nI fn) fl fh pr ft he en (cw_eB B) (cw_eN U) (cw_eN F) (cw_eB R) th fz va (cw_eN H) go pl em se tm mv := by
  intro d
  induction d with
  | zero =>
    intro j r A H fl fh hj hI hA hFs hr hpost
    obtain ⟨hf, hI2⟩ := cw_fr (Z := Z) hI hn hu (by omega) (fun i hi => by rw [hA i hi, if_pos (by omega)]) hZ'
    refine br_t (by rw [cw_44]; exact nI_le (by omega) (by omega)) ?_
    refine nm_r (nI_1 fn) ⟨vp_in_nI hf (by decide), nm_r (cw_wrN rfl (by omega) (cw_sns (by omega))) ?_⟩
    exact hpost r A H fl fh hI2 (fun _ _ => rfl) hFs rfl (by omega) (fun _ => rfl)
  | succ d ih =>
    intro j r A H fl fh hj hI hA hFs hr hpost
    have hk : (4 * n + j) / 4 = n := by omega
    have hAk : A (4 * n + j) = 4 := by rw [hA j (by omega), if_neg (by omega)]
    have hd := cw_deB (k := 4 * n + j) hI (by omega) hAk (by rw [hk]; exact cw_nr_of hI hn (by omega))
    rw [cw_E_b (by omega)] at hd
    have hA1 : ∀ i, i < 4 → cw_un A (4 * n + j) 0 (4 * n + i) = if i < j + 1 then 0 else 4 := by
      intro i hi
      by_cases e : i = j
      · rw [e, cw_us, if_pos (by omega)]
      · rw [cw_uo (by omega), hA i hi]
        by_cases e2 : i < j
        · rw [if_pos e2, if_pos (by omega)]
        · rw [if_neg e2, if_neg (by omega)]
    refine br_f (by rw [cw_44]; exact nI_ge (by omega) (by omega)) ⟨vp_in_nI (by omega) (by decide), ?_⟩
    rw [cw_rdB rfl (by omega)]
    refine cw_w_drop hd hFs (fun b e => hI.2.1 (4 * n + j) b (by omega) hAk (by rw [cw_E_b (by omega)]; exact e)) hQ ?_
    intro r1 H1 fl1 fh1 hI1 hFs1 hr1 hnb h0 hs
    have fin : ∀ r2, r2 + cw_nb H1 = r + cw_nb H → ∀ (r' : Nat) (A' H' : Nat → Nat) (fl' fh' : Int64), cw_Iv A' (cw_un L n 0) (cw_E B R) U H' (cw_un F fn n) (fn + 1) P Q Z → (∀ k, k / 4 ≠ n → A' k = cw_un A (4 * n + j) 0 k) → cw_Fs H' fl' fh' → r' + cw_nb H' = r2 + cw_nb H1 → r' ≤ 4 → ((∀ i, i < 4 → B (4 * n + i) = none) → H' = H1) → post (nI r') ((nI (fn + 1)), fl', fh', pr, ft, he, en, (cw_eB B), (cw_eN U), (cw_eN (cw_un F fn n)), (cw_eB R), th, fz, va, (cw_eN H'), go, pl, em, se, tm, mv) := by
      intro r2 hr2 r' A' H' fl' fh' i1 i2 i3 i4 i5 i6
      refine hpost r' A' H' fl' fh' i1 (fun k hk' => ?_) i3 (by omega) i5 (fun hb => (i6 hb).trans (h0 (hb j (by omega))).2)
      rw [i2 k hk', cw_uo (by intro e; rw [e] at hk'; omega)]
    refine pk_eq r1 0 (fun z => ?_) (fun z => ?_)
    · refine nm_r (e' := nI (4 * n + (j + 1))) (nI_1 _) ?_
      exact ih (j + 1) r (cw_un A (4 * n + j) 0) H1 fl1 fh1 (by omega) hI1 hA1 hFs1 (by omega) (fin r (by omega))
    · refine nm_r (e' := nI (r + 1)) (nI_1 _) (nm_r (e' := nI (4 * n + (j + 1))) (nI_1 _) ?_)
      exact ih (j + 1) (r + 1) (cw_un A (4 * n + j) 0) H1 fl1 fh1 (by omega) hI1 hA1 hFs1 (by omega) (fin (r + 1) (by omega))
theorem cw_w_leaveLowest {post : Int32 → SX → Prop} {n : Nat} (hI : cw_Iv A L (cw_E B R) U H F fn (cw_ad P (some n)) Q Z) (hFs : cw_Fs H fl fh) (hn : n < 160) (hL : L n = 4) (hfu : cw_fu A n 4) (hP : ∀ i, P i ≤ 8) (hQ : ∀ b, Q b ≤ 90)
    (hpost : ∀ (r : Nat) (A' L' U' H' F' : Nat → Nat) (fn' : Nat) (fl' fh' : Int64), cw_Iv A' L' (cw_E B R) U' H' F' fn' P Q Z → cw_Fs H' fl' fh' → cw_Lv A L U A' L' U' → r + cw_nb H' = cw_nb H → r ≤ 4 → ((∀ i, i < 4 → B (4 * n + i) = none) → H' = H) → post (nI r) ((nI fn'), fl', fh', pr, ft, he, en, (cw_eB B), (cw_eN U'), (cw_eN F'), (cw_eB R), th, fz, va, (cw_eN H'), go, pl, em, se, tm, mv)) :
    wpX_leaveLowest post ((nI fn), fl, fh, pr, ft, he, en, (cw_eB B), (cw_eN U), (cw_eN F), (cw_eB R), th, fz, va, (cw_eN H), go, pl, em, se, tm, mv) (nI n) := by
  have hu : 1 ≤ U n ∧ U n < 32768 := by
    have u := hI.2.2.2.1 n hn
    have u2 := cw_U_le hI hn
    rw [cw_ad_s] at u u2
    have := hP n
    omega
  refine ⟨vp_in_nI hn (by decide), vp_in_nI hn (by decide), nm_r (cw_wrN rfl (by omega) (by rw [cw_rdN rfl (by omega)]; exact cw_decn hu.1 hu.2)) ?_⟩
  refine pk_le (U n - 1) 0 (fun z => ?_) (fun z => ?_) (by rw [cw_rdN rfl (by omega)]; exact cw_dec hu.1 hu.2)
  · refine nm_r (cw_4 n) ⟨5, ?_⟩
    have hI1 := cw_dcN (Z' := cw_un Z n true) hI hn (Or.inr cw_us) (fun i h => by
      by_cases e : i = n
      · rw [e, cw_us]
      · rw [cw_uo e]; exact h)
    refine cw_w_ll (Z := Z) (P := P) (Q := Q) (L := L) hn hQ (cw_un Z n true) (fun i hi h => by rw [cw_uo hi] at h; exact h) (U := cw_un U n (U n - 1)) (by rw [cw_us]; omega) hL 4 0 0 A H fl fh rfl hI1 (fun i hi => by rw [hfu i hi, if_neg (by omega)]) hFs (Nat.zero_le _) ?_
    intro r' A' H' fl' fh' i1 i2 i3 i4 i5 i6
    refine hpost r' A' (cw_un L n 0) _ H' _ (fn + 1) fl' fh' i1 i3 ⟨fun x hx h0 => ?_, fun v hv => i2 _ (by omega)⟩ (by omega) i5 i6
    have hne : x ≠ n := by intro e; rw [e] at h0; omega
    exact ⟨cw_uo hne, by rw [cw_uo hne]; exact h0, fun i hi => i2 _ (by omega)⟩
  · have hI1 := cw_dcN (Z' := Z) hI hn (Or.inl (by omega)) (fun i h => h)
    refine hpost 0 A L (cw_un U n (U n - 1)) H F fn fl fh hI1 hFs ⟨fun x hx h0 => ?_, fun _ _ => rfl⟩ (by omega) (by omega) (fun _ => rfl)
    have hne : x ≠ n := by intro e; rw [e] at h0; omega
    exact ⟨rfl, by rw [cw_uo hne]; exact h0, fun _ _ => rfl⟩
end
end
section
section
variable {fl fh : Int64} {pr ft he en : Int32} {fn : Nat} {B R : Nat → Option Nat} {U F H : Nat → Nat} {th fz va go pl em se tm mv : Nat → Int32}
variable {A L : Nat → Nat} {P Q : Nat → Nat} {Z : Nat → Bool}
theorem cw_w_lm {post : Int32 → SX → Prop} {n : Nat} (hn : n < 160) (hP : ∀ i, P i ≤ 7) (hQ : ∀ b, Q b ≤ 90) (Z' : Nat → Bool) (hZ' : ∀ i, i ≠ n → Z' i = true → Z i = true) :
    ∀ (d j r : Nat) (A L U H F : Nat → Nat) (fn : Nat) (fl fh : Int64), j + d = 4 → cw_Iv A L (cw_E B R) U H F fn P Q Z' → U n = 0 → L n = 3 → (∀ i, i < 4 → A (4 * n + i) = if i < j then 0 else 3) → cw_Fs H fl fh → r ≤ 4 * j →
    (∀ (r' : Nat) (A' L' U' H' F' : Nat → Nat) (fn' : Nat) (fl' fh' : Int64), cw_Iv A' L' (cw_E B R) U' H' F' fn' P Q Z → cw_Lw n A L U A' L' U' → cw_Fs H' fl' fh' → r' + cw_nb H' = r + cw_nb H → r' ≤ 4 * 4 → ((∀ i, i < 4 → B (4 * n + i) = none) → H' = H) → post (nI r') ((nI fn'), fl', fh', pr, ft, he, en, (cw_eB B), (cw_eN U'), (cw_eN F'), (cw_eB R), th, fz, va, (cw_eN H'), go, pl, em, se, tm, mv)) →
    wX_leaveMiddle_23 post (nI n) (d + 1) (nI r) (nI (4 * n + j)) (nI fn) fl fh pr ft he en (cw_eB B) (cw_eN U) (cw_eN F) (cw_eB R) th fz va (cw_eN H) go pl em se tm mv := by
  intro d
  induction d with
  | zero =>
    intro j r A L U H F fn fl fh hj hI hu hL hA hFs hr hpost
    obtain ⟨hf, hI2⟩ := cw_fr (Z := Z) hI hn hu (by omega) (fun i hi => by rw [hA i hi, if_pos (by omega)]) hZ'
    refine br_t (by rw [cw_44]; exact nI_le (by omega) (by omega)) ?_
    refine nm_r (nI_1 fn) ⟨vp_in_nI hf (by decide), nm_r (cw_wrN rfl (by omega) (cw_sns (by omega))) ?_⟩
    exact hpost r A (cw_un L n 0) U H (cw_un F fn n) (fn + 1) fl fh hI2 ⟨fun x hx hne h0 => ⟨cw_uo hne, h0, fun _ _ => rfl⟩, fun _ _ => rfl⟩ hFs rfl (by omega) (fun _ => rfl)
  | succ d ih =>
    intro j r A L U H F fn fl fh hj hI hu hL hA hFs hr hpost
    have hk : (4 * n + j) / 4 = n := by omega
    have hAk : A (4 * n + j) = 3 := by rw [hA j (by omega), if_neg (by omega)]
    have hd := cw_deN (k := 4 * n + j) hI (by omega) (by omega) (by omega) (fun _ => by rw [hk]; exact cw_nr_of hI hn (by omega))
    rw [cw_E_b (by omega)] at hd
    have hA1 : ∀ i, i < 4 → cw_un A (4 * n + j) 0 (4 * n + i) = if i < j + 1 then 0 else 3 := by
      intro i hi
      by_cases e : i = j
      · rw [e, cw_us, if_pos (by omega)]
      · rw [cw_uo (by omega), hA i hi]
        by_cases e2 : i < j
        · rw [if_pos e2, if_pos (by omega)]
        · rw [if_neg e2, if_neg (by omega)]
    have hA2 : ∀ x i, x ≠ n → i < 4 → cw_un A (4 * n + j) 0 (4 * x + i) = A (4 * x + i) := fun x i hx hi => cw_uo (by omega)
    refine br_f (by rw [cw_44]; exact nI_ge (by omega) (by omega)) ⟨vp_in_nI (by omega) (by decide), ?_⟩
    refine cw_on (x := B (4 * n + j)) (cw_rdB rfl (by omega)) ?_ (fun e => ?_) (fun c e => ?_)
    · intro c e
      have := (hI.1 (4 * n + j) c (by omega) (by omega) (by omega) (by rw [cw_E_b (by omega)]; exact e)).1
      omega
    · rw [e, cw_ad_0] at hd
      refine nm_r (e' := nI (4 * n + (j + 1))) (nI_1 _) ?_
      refine ih (j + 1) r (cw_un A (4 * n + j) 0) L U H F fn fl fh (by omega) hd hu hL hA1 hFs (by omega) ?_
      intro r' A' L' U' H' F' fn' fl' fh' i1 i2 i3 i4 i5 i6
      refine hpost r' A' L' U' H' F' fn' fl' fh' i1 ⟨fun x hx hne h0 => ?_, fun v hv => ?_⟩ i3 i4 i5 i6
      · obtain ⟨z1, z2, z3⟩ := i2.1 x hx hne h0
        exact ⟨z1, z2, fun i hi => (z3 i hi).trans (hA2 x i hne hi)⟩
      · rw [i2.2 v hv, cw_uo (by omega)]
    · obtain ⟨y1, y2, y3⟩ := hI.1 (4 * n + j) c (by omega) (by omega) (by omega) (by rw [cw_E_b (by omega)]; exact e)
      rw [hAk] at y2 y3
      have hcn : c ≠ n := by intro z; rw [z] at y2; omega
      rw [e] at hd
      refine ⟨vp_in_nI (by omega) (by decide), ?_⟩
      rw [cw_rdB rfl (by omega), e]
      refine cw_w_leaveLowest (P := P) (Q := Q) (Z := Z') hd hFs y1 (by omega) (fun i hi => by rw [hA2 c i hcn hi]; exact y3 i hi) (fun i => by have := hP i; omega) hQ ?_
      intro r1 A1 L1 U1 H1 F1 fn1 fl1 fh1 i1 i2 i3 i4 i5 i6
      obtain ⟨w1, w2, w3⟩ := i3.1 n hn hu
      refine nm_r (e' := nI (r + r1)) (nI_add _ _) (nm_r (e' := nI (4 * n + (j + 1))) (nI_1 _) ?_)
      refine ih (j + 1) (r + r1) A1 L1 U1 H1 F1 fn1 fl1 fh1 (by omega) i1 w2 (by omega) (fun i hi => by rw [w3 i hi]; exact hA1 i hi) i2 (by omega) ?_
      intro r' A' L' U' H' F' fn' fl' fh' j1 j2 j3 j4 j5 j6
      refine hpost r' A' L' U' H' F' fn' fl' fh' j1 ⟨fun x hx hne h0 => ?_, fun v hv => ?_⟩ j3 (by omega) j5 (fun hb => absurd (hb j (by omega)) (by rw [e]; exact fun z => by cases z))
      · obtain ⟨z1, z2, z3⟩ := i3.1 x hx h0
        obtain ⟨q1, q2, q3⟩ := j2.1 x hx hne z2
        exact ⟨q1.trans z1, q2, fun i hi => ((q3 i hi).trans (z3 i hi)).trans (hA2 x i hne hi)⟩
      · rw [j2.2 v hv, i3.2 v hv, cw_uo (by omega)]
theorem cw_w_leaveMiddle {post : Int32 → SX → Prop} {n : Nat} (hI : cw_Iv A L (cw_E B R) U H F fn (cw_ad P (some n)) Q Z) (hFs : cw_Fs H fl fh) (hn : n < 160) (hL : L n = 3) (hfu : cw_fu A n 3) (hP : ∀ i, P i ≤ 7) (hQ : ∀ b, Q b ≤ 90)
    (hpost : ∀ (r : Nat) (A' L' U' H' F' : Nat → Nat) (fn' : Nat) (fl' fh' : Int64), cw_Iv A' L' (cw_E B R) U' H' F' fn' P Q Z → cw_Fs H' fl' fh' → cw_Lv A L U A' L' U' → r + cw_nb H' = cw_nb H → r ≤ 4 * 4 → ((∀ i, i < 4 → B (4 * n + i) = none) → H' = H) → post (nI r) ((nI fn'), fl', fh', pr, ft, he, en, (cw_eB B), (cw_eN U'), (cw_eN F'), (cw_eB R), th, fz, va, (cw_eN H'), go, pl, em, se, tm, mv)) :
    wpX_leaveMiddle post ((nI fn), fl, fh, pr, ft, he, en, (cw_eB B), (cw_eN U), (cw_eN F), (cw_eB R), th, fz, va, (cw_eN H), go, pl, em, se, tm, mv) (nI n) := by
  have hu : 1 ≤ U n ∧ U n < 32768 := by
    have u := hI.2.2.2.1 n hn
    have u2 := cw_U_le hI hn
    rw [cw_ad_s] at u u2
    have := hP n
    omega
  refine ⟨vp_in_nI hn (by decide), vp_in_nI hn (by decide), nm_r (cw_wrN rfl (by omega) (by rw [cw_rdN rfl (by omega)]; exact cw_decn hu.1 hu.2)) ?_⟩
  refine pk_le (U n - 1) 0 (fun z => ?_) (fun z => ?_) (by rw [cw_rdN rfl (by omega)]; exact cw_dec hu.1 hu.2)
  · refine nm_r (cw_4 n) ⟨5, ?_⟩
    have hI1 := cw_dcN (Z' := cw_un Z n true) hI hn (Or.inr cw_us) (fun i h => by
      by_cases e : i = n
      · rw [e, cw_us]
      · rw [cw_uo e]; exact h)
    refine cw_w_lm (Z := Z) (P := P) (Q := Q) hn hP hQ (cw_un Z n true) (fun i hi h => by rw [cw_uo hi] at h; exact h) 4 0 0 A L (cw_un U n (U n - 1)) H F fn fl fh rfl hI1 (by rw [cw_us]; omega) hL (fun i hi => by rw [hfu i hi, if_neg (by omega)]) hFs (Nat.zero_le _) ?_
    intro r' A' L' U' H' F' fn' fl' fh' i1 i2 i3 i4 i5 i6
    refine hpost r' A' L' U' H' F' fn' fl' fh' i1 i3 ⟨fun x hx h0 => ?_, i2.2⟩ (by omega) i5 i6
    have hne : x ≠ n := by intro e; rw [e] at h0; omega
    exact i2.1 x hx hne (by rw [cw_uo hne]; exact h0)
  · have hI1 := cw_dcN (Z' := Z) hI hn (Or.inl (by omega)) (fun i h => h)
    refine hpost 0 A L (cw_un U n (U n - 1)) H F fn fl fh hI1 hFs ⟨fun x hx h0 => ?_, fun _ _ => rfl⟩ (by omega) (by omega) (fun _ => rfl)
    have hne : x ≠ n := by intro e; rw [e] at h0; omega
    exact ⟨rfl, by rw [cw_uo hne]; exact h0, fun _ _ => rfl⟩
theorem cw_w_lt {post : Int32 → SX → Prop} {n : Nat} (hn : n < 160) (hP : ∀ i, P i ≤ 6) (hQ : ∀ b, Q b ≤ 90) (Z' : Nat → Bool) (hZ' : ∀ i, i ≠ n → Z' i = true → Z i = true) :
    ∀ (d j r : Nat) (A L U H F : Nat → Nat) (fn : Nat) (fl fh : Int64), j + d = 4 → cw_Iv A L (cw_E B R) U H F fn P Q Z' → U n = 0 → L n = 2 → (∀ i, i < 4 → A (4 * n + i) = if i < j then 0 else 2) → cw_Fs H fl fh → r ≤ 16 * j →
    (∀ (r' : Nat) (A' L' U' H' F' : Nat → Nat) (fn' : Nat) (fl' fh' : Int64), cw_Iv A' L' (cw_E B R) U' H' F' fn' P Q Z → cw_Lw n A L U A' L' U' → cw_Fs H' fl' fh' → r' + cw_nb H' = r + cw_nb H → r' ≤ 4 * 16 → ((∀ i, i < 4 → B (4 * n + i) = none) → H' = H) → post (nI r') ((nI fn'), fl', fh', pr, ft, he, en, (cw_eB B), (cw_eN U'), (cw_eN F'), (cw_eB R), th, fz, va, (cw_eN H'), go, pl, em, se, tm, mv)) →
    wX_leaveTop_27 post (nI n) (d + 1) (nI r) (nI (4 * n + j)) (nI fn) fl fh pr ft he en (cw_eB B) (cw_eN U) (cw_eN F) (cw_eB R) th fz va (cw_eN H) go pl em se tm mv := by
  intro d
  induction d with
  | zero =>
    intro j r A L U H F fn fl fh hj hI hu hL hA hFs hr hpost
    obtain ⟨hf, hI2⟩ := cw_fr (Z := Z) hI hn hu (by omega) (fun i hi => by rw [hA i hi, if_pos (by omega)]) hZ'
    refine br_t (by rw [cw_44]; exact nI_le (by omega) (by omega)) ?_
    refine nm_r (nI_1 fn) ⟨vp_in_nI hf (by decide), nm_r (cw_wrN rfl (by omega) (cw_sns (by omega))) ?_⟩
    exact hpost r A (cw_un L n 0) U H (cw_un F fn n) (fn + 1) fl fh hI2 ⟨fun x hx hne h0 => ⟨cw_uo hne, h0, fun _ _ => rfl⟩, fun _ _ => rfl⟩ hFs rfl (by omega) (fun _ => rfl)
  | succ d ih =>
    intro j r A L U H F fn fl fh hj hI hu hL hA hFs hr hpost
    have hk : (4 * n + j) / 4 = n := by omega
    have hAk : A (4 * n + j) = 2 := by rw [hA j (by omega), if_neg (by omega)]
    have hd := cw_deN (k := 4 * n + j) hI (by omega) (by omega) (by omega) (fun _ => by rw [hk]; exact cw_nr_of hI hn (by omega))
    rw [cw_E_b (by omega)] at hd
    have hA1 : ∀ i, i < 4 → cw_un A (4 * n + j) 0 (4 * n + i) = if i < j + 1 then 0 else 2 := by
      intro i hi
      by_cases e : i = j
      · rw [e, cw_us, if_pos (by omega)]
      · rw [cw_uo (by omega), hA i hi]
        by_cases e2 : i < j
        · rw [if_pos e2, if_pos (by omega)]
        · rw [if_neg e2, if_neg (by omega)]
    have hA2 : ∀ x i, x ≠ n → i < 4 → cw_un A (4 * n + j) 0 (4 * x + i) = A (4 * x + i) := fun x i hx hi => cw_uo (by omega)
    refine br_f (by rw [cw_44]; exact nI_ge (by omega) (by omega)) ⟨vp_in_nI (by omega) (by decide), ?_⟩
    refine cw_on (x := B (4 * n + j)) (cw_rdB rfl (by omega)) ?_ (fun e => ?_) (fun c e => ?_)
    · intro c e
      have := (hI.1 (4 * n + j) c (by omega) (by omega) (by omega) (by rw [cw_E_b (by omega)]; exact e)).1
      omega
    · rw [e, cw_ad_0] at hd
      refine nm_r (e' := nI (4 * n + (j + 1))) (nI_1 _) ?_
      refine ih (j + 1) r (cw_un A (4 * n + j) 0) L U H F fn fl fh (by omega) hd hu hL hA1 hFs (by omega) ?_
      intro r' A' L' U' H' F' fn' fl' fh' i1 i2 i3 i4 i5 i6
      refine hpost r' A' L' U' H' F' fn' fl' fh' i1 ⟨fun x hx hne h0 => ?_, fun v hv => ?_⟩ i3 i4 i5 i6
      · obtain ⟨z1, z2, z3⟩ := i2.1 x hx hne h0
        exact ⟨z1, z2, fun i hi => (z3 i hi).trans (hA2 x i hne hi)⟩
      · rw [i2.2 v hv, cw_uo (by omega)]
    · obtain ⟨y1, y2, y3⟩ := hI.1 (4 * n + j) c (by omega) (by omega) (by omega) (by rw [cw_E_b (by omega)]; exact e)
      rw [hAk] at y2 y3
      have hcn : c ≠ n := by intro z; rw [z] at y2; omega
      rw [e] at hd
      refine ⟨vp_in_nI (by omega) (by decide), ?_⟩
      rw [cw_rdB rfl (by omega), e]
      refine cw_w_leaveMiddle (P := P) (Q := Q) (Z := Z') hd hFs y1 (by omega) (fun i hi => by rw [hA2 c i hcn hi]; exact y3 i hi) (fun i => by have := hP i; omega) hQ ?_
      intro r1 A1 L1 U1 H1 F1 fn1 fl1 fh1 i1 i2 i3 i4 i5 i6
      obtain ⟨w1, w2, w3⟩ := i3.1 n hn hu
      refine nm_r (e' := nI (r + r1)) (nI_add _ _) (nm_r (e' := nI (4 * n + (j + 1))) (nI_1 _) ?_)
      refine ih (j + 1) (r + r1) A1 L1 U1 H1 F1 fn1 fl1 fh1 (by omega) i1 w2 (by omega) (fun i hi => by rw [w3 i hi]; exact hA1 i hi) i2 (by omega) ?_
      intro r' A' L' U' H' F' fn' fl' fh' j1 j2 j3 j4 j5 j6
      refine hpost r' A' L' U' H' F' fn' fl' fh' j1 ⟨fun x hx hne h0 => ?_, fun v hv => ?_⟩ j3 (by omega) j5 (fun hb => absurd (hb j (by omega)) (by rw [e]; exact fun z => by cases z))
      · obtain ⟨z1, z2, z3⟩ := i3.1 x hx h0
        obtain ⟨q1, q2, q3⟩ := j2.1 x hx hne z2
        exact ⟨q1.trans z1, q2, fun i hi => ((q3 i hi).trans (z3 i hi)).trans (hA2 x i hne hi)⟩
      · rw [j2.2 v hv, i3.2 v hv, cw_uo (by omega)]
theorem cw_w_leaveTop {post : Int32 → SX → Prop} {n : Nat} (hI : cw_Iv A L (cw_E B R) U H F fn (cw_ad P (some n)) Q Z) (hFs : cw_Fs H fl fh) (hn : n < 160) (hL : L n = 2) (hfu : cw_fu A n 2) (hP : ∀ i, P i ≤ 6) (hQ : ∀ b, Q b ≤ 90)
    (hpost : ∀ (r : Nat) (A' L' U' H' F' : Nat → Nat) (fn' : Nat) (fl' fh' : Int64), cw_Iv A' L' (cw_E B R) U' H' F' fn' P Q Z → cw_Fs H' fl' fh' → cw_Lv A L U A' L' U' → r + cw_nb H' = cw_nb H → r ≤ 4 * 16 → ((∀ i, i < 4 → B (4 * n + i) = none) → H' = H) → post (nI r) ((nI fn'), fl', fh', pr, ft, he, en, (cw_eB B), (cw_eN U'), (cw_eN F'), (cw_eB R), th, fz, va, (cw_eN H'), go, pl, em, se, tm, mv)) :
    wpX_leaveTop post ((nI fn), fl, fh, pr, ft, he, en, (cw_eB B), (cw_eN U), (cw_eN F), (cw_eB R), th, fz, va, (cw_eN H), go, pl, em, se, tm, mv) (nI n) := by
  have hu : 1 ≤ U n ∧ U n < 32768 := by
    have u := hI.2.2.2.1 n hn
    have u2 := cw_U_le hI hn
    rw [cw_ad_s] at u u2
    have := hP n
    omega
  refine br_f (nI_pos (by omega)) ⟨vp_in_nI hn (by decide), vp_in_nI hn (by decide), nm_r (cw_wrN rfl (by omega) (by rw [cw_rdN rfl (by omega)]; exact cw_decn hu.1 hu.2)) ?_⟩
  refine pk_le (U n - 1) 0 (fun z => ?_) (fun z => ?_) (by rw [cw_rdN rfl (by omega)]; exact cw_dec hu.1 hu.2)
  · refine nm_r (cw_4 n) ⟨5, ?_⟩
    have hI1 := cw_dcN (Z' := cw_un Z n true) hI hn (Or.inr cw_us) (fun i h => by
      by_cases e : i = n
      · rw [e, cw_us]
      · rw [cw_uo e]; exact h)
    refine cw_w_lt (Z := Z) (P := P) (Q := Q) hn hP hQ (cw_un Z n true) (fun i hi h => by rw [cw_uo hi] at h; exact h) 4 0 0 A L (cw_un U n (U n - 1)) H F fn fl fh rfl hI1 (by rw [cw_us]; omega) hL (fun i hi => by rw [hfu i hi, if_neg (by omega)]) hFs (Nat.zero_le _) ?_
    intro r' A' L' U' H' F' fn' fl' fh' i1 i2 i3 i4 i5 i6
    refine hpost r' A' L' U' H' F' fn' fl' fh' i1 i3 ⟨fun x hx h0 => ?_, i2.2⟩ (by omega) i5 i6
    have hne : x ≠ n := by intro e; rw [e] at h0; omega
    exact i2.1 x hx hne (by rw [cw_uo hne]; exact h0)
  · have hI1 := cw_dcN (Z' := Z) hI hn (Or.inl (by omega)) (fun i h => h)
    refine hpost 0 A L (cw_un U n (U n - 1)) H F fn fl fh hI1 hFs ⟨fun x hx h0 => ?_, fun _ _ => rfl⟩ (by omega) (by omega) (fun _ => rfl)
    have hne : x ≠ n := by intro e; rw [e] at h0; omega
    exact ⟨rfl, by rw [cw_uo hne]; exact h0, fun _ _ => rfl⟩
theorem cw_w_leaveTopN {post : Int32 → SX → Prop} (hpost : post 0 ((nI fn), fl, fh, pr, ft, he, en, (cw_eB B), (cw_eN U), (cw_eN F), (cw_eB R), th, fz, va, (cw_eN H), go, pl, em, se, tm, mv)) : wpX_leaveTop post ((nI fn), fl, fh, pr, ft, he, en, (cw_eB B), (cw_eN U), (cw_eN F), (cw_eB R), th, fz, va, (cw_eN H), go, pl, em, se, tm, mv) (cw_eO none) := br_t (by decide) hpost
end
end
section
section
variable {A L : Nat → Nat} {E : Nat → Option Nat} {U H F : Nat → Nat} {fn : Nat} {P Q : Nat → Nat} {Z : Nat → Bool}
theorem cw_acN2 {k a : Nat} {x : Option Nat} (h : cw_Iv A L E U H F fn (cw_ad P x) Q Z) (hx : E k = x) (hk : k < 646) (h0 : A k = 0) (ha : 1 ≤ a) (ha3 : a ≤ 3) (hl : k < 640 → L (k / 4) = a) (hr : 640 ≤ k → a = 1) (ht : ∀ n, x = some n → n < 160 ∧ L n = a + 1 ∧ cw_fu A n (a + 1)) : cw_Iv (cw_un A k a) L E U H F fn P Q Z := by
  subst hx
  exact cw_acN h hk h0 ha ha3 hl hr ht
theorem cw_acB2 {k : Nat} {x : Option Nat} (h : cw_Iv A L E U H F fn P (cw_ad Q x) Z) (hx : E k = x) (hk : k < 640) (h0 : A k = 0) (hl : L (k / 4) = 4) (ht : ∀ b, x = some b → b < 80) : cw_Iv (cw_un A k 4) L E U H F fn P Q Z := by
  subst hx
  exact cw_acB h hk h0 hl ht
/-- inactive edges are written -/
theorem cw_wrs {E' : Nat → Option Nat} (h : cw_Iv A L E U H F fn P Q Z) (h0 : ∀ i, i < 646 → A i ≠ 0 → E' i = E i) : cw_Iv A L E' U H F fn P Q Z := by
  obtain ⟨hT, hD, hV, hU, hH, hF, hZ⟩ := h
  refine cw_Iv_mk ?_ ?_ hV ?_ ?_ hF hZ
  · intro k' n hk' h1' h3' hE'
    rw [h0 k' hk' (by omega)] at hE'
    exact hT k' n hk' h1' h3' hE'
  · intro k' b hk' h4 hE'
    rw [h0 k' hk' (by omega)] at hE'
    exact hD k' b hk' h4 hE'
  · intro n hn
    rw [hU n hn]
    refine congrArg (· + P n) (cw_cn_congr (fun i hi => ?_))
    unfold cw_rn
    by_cases e : A i = 0
    · rw [e]; simp
    · rw [h0 i hi e]
  · intro b hb
    rw [hH b hb]
    refine congrArg (· + Q b) (cw_cn_congr (fun i hi => ?_))
    unfold cw_rb
    by_cases e : A i = 0
    · rw [e]; simp
    · rw [h0 i hi e]
/-- empty edges become active -/
theorem cw_acs {A' : Nat → Nat} (h : cw_Iv A L E U H F fn P Q Z) (h0 : ∀ i, i < 646 → A' i = A i ∨ (A i = 0 ∧ E i = none ∧ i < 640 ∧ A' i = L (i / 4))) : cw_Iv A' L E U H F fn P Q Z := by
  obtain ⟨hT, hD, hV, hU, hH, hF, hZ⟩ := h
  have hs : ∀ i n, i < 646 → E i = some n → A' i = A i := by
    intro i n hi e
    rcases h0 i hi with q | q
    · exact q
    · rw [q.2.1] at e; cases e
  refine cw_Iv_mk ?_ ?_ ?_ ?_ ?_ hF hZ
  · intro k' n hk' h1' h3' hE'
    rw [hs k' n hk' hE'] at h1' h3'
    rw [hs k' n hk' hE']
    obtain ⟨a1, b1, c1⟩ := hT k' n hk' h1' h3' hE'
    refine ⟨a1, b1, fun j hj => ?_⟩
    have := c1 j hj
    rcases h0 (4 * n + j) (by omega) with q | q
    · rw [q]; exact this
    · omega
  · intro k' b hk' h4 hE'
    rw [hs k' b hk' hE'] at h4
    exact hD k' b hk' h4 hE'
  · refine ⟨fun k' hk' => ?_, fun k' hc hb => ?_, hV.2.2⟩
    · rcases h0 k' (by omega) with q | q
      · rw [q]; exact hV.1 k' hk'
      · exact Or.inr q.2.2.2
    · rcases h0 k' hb with q | q
      · rw [q]; exact hV.2.1 k' hc hb
      · omega
  · intro n hn
    rw [hU n hn]
    refine congrArg (· + P n) (cw_cn_congr (fun i hi => ?_))
    unfold cw_rn
    by_cases e : E i = some n
    · rw [hs i n hi e]
    · simp [e]
  · intro b hb
    rw [hH b hb]
    refine congrArg (· + Q b) (cw_cn_congr (fun i hi => ?_))
    unfold cw_rb
    by_cases e : E i = some b
    · rw [hs i b hi e]
    · simp [e]
end
def cw_bl (B : Nat → Option Nat) (m : Nat) : Nat → Option Nat := fun k => if k / 4 = m then none else B k
section
variable {fl fh : Int64} {pr ft he en : Int32} {fn : Nat} {B R : Nat → Option Nat} {U F H : Nat → Nat} {th fz va go pl em se tm mv : Nat → Int32}
variable {A L : Nat → Nat} {P Q : Nat → Nat} {Z : Nat → Bool}
theorem cw_w_nl {post : Int32 → SX → Prop} {m : Nat} (hm : m < 160) : ∀ (d j : Nat) (B : Nat → Option Nat), j + d = 4 → post (nI m) ((nI fn), fl, fh, pr, ft, he, en, (cw_eB (fun k => if k / 4 = m ∧ j ≤ k % 4 then none else B k)), (cw_eN (cw_un U m 1)), (cw_eN F), (cw_eB R), th, fz, va, (cw_eN H), go, pl, em, se, tm, mv) → wX_node_21 post (nI m) (nI fn) fl fh pr ft he en (d + 1) (nI (4 * m + j)) (cw_eB B) (cw_eN U) (cw_eN F) (cw_eB R) th fz va (cw_eN H) go pl em se tm mv := by
  intro d
  induction d with
  | zero =>
    intro j B hj hpost
    refine br_t (by rw [cw_44]; exact nI_le (by omega) (by omega)) ⟨vp_in_nI hm (by decide), nm_r (cw_wrN (x := 1) rfl (by omega) (cw_sn (n := 1) (by omega))) ?_⟩
    have e : (fun k => if k / 4 = m ∧ j ≤ k % 4 then none else B k) = B := by
      funext k
      exact if_neg (by omega)
    rw [e] at hpost
    exact hpost
  | succ d ih =>
    intro j B hj hpost
    refine br_f (by rw [cw_44]; exact nI_ge (by omega) (by omega)) ⟨vp_in_nI (by omega) (by decide), nm_r (cw_wrB rfl (by omega) cw_nm1) (nm_r (e' := nI (4 * m + (j + 1))) (nI_1 _) ?_)⟩
    refine ih (j + 1) (cw_un B (4 * m + j) none) (by omega) ?_
    have e : (fun k => if k / 4 = m ∧ j + 1 ≤ k % 4 then none else cw_un B (4 * m + j) none k) = (fun k => if k / 4 = m ∧ j ≤ k % 4 then none else B k) := by
      funext k
      by_cases q : k = 4 * m + j
      · rw [q, cw_us, ite_self, if_pos (by omega)]
      · rw [cw_uo q]
        by_cases q2 : k / 4 = m ∧ j ≤ k % 4
        · rw [if_pos q2, if_pos (by omega)]
        · rw [if_neg q2, if_neg (by omega)]
    rw [e]
    exact hpost
theorem cw_w_node {post : Int32 → SX → Prop} (h1 : 1 ≤ fn) (hfn : fn ≤ 160) (hm : F (fn - 1) < 160) (hpost : post (nI (F (fn - 1))) ((nI (fn - 1)), fl, fh, pr, ft, he, en, (cw_eB (cw_bl B (F (fn - 1)))), (cw_eN (cw_un U (F (fn - 1)) 1)), (cw_eN F), (cw_eB R), th, fz, va, (cw_eN H), go, pl, em, se, tm, mv)) : wpX_node post ((nI fn), fl, fh, pr, ft, he, en, (cw_eB B), (cw_eN U), (cw_eN F), (cw_eB R), th, fz, va, (cw_eN H), go, pl, em, se, tm, mv) := by
  have e : nI fn - 1 = nI (fn - 1) := pk_sub (a := fn) (b := 1) h1
  refine nm_r e ⟨by rw [e]; exact vp_in_nI (by omega) (by decide), nm_r (cw_rdN e (by omega)) (nm_r (cw_4 _) ⟨5, ?_⟩)⟩
  refine cw_w_nl hm 4 0 B rfl ?_
  have e : (fun k => if k / 4 = F (fn - 1) ∧ 0 ≤ k % 4 then none else B k) = cw_bl B (F (fn - 1)) := by
    funext k
    show _ = if k / 4 = F (fn - 1) then none else B k
    by_cases q : k / 4 = F (fn - 1)
    · rw [if_pos ⟨q, Nat.zero_le _⟩, if_pos q]
    · rw [if_neg (fun z => q z.1), if_neg q]
  rw [e]
  exact hpost
/-- what 'alone' gives: node m of level l, like x, with no reference to it but the pending one -/
def cw_Al (A L : Nat → Nat) (B R : Nat → Option Nat) (x : Option Nat) (l m : Nat) (A' L' : Nat → Nat) (B' : Nat → Option Nat) : Prop :=
  m < 160 ∧ L' m = l ∧ cw_fu A' m l ∧ cw_nr A (cw_E B R) m ∧ cw_nr A' (cw_E B' R) m ∧
  (∀ i, i < 646 → A i ≠ 0 → A' i = A i ∧ cw_E B' R i = cw_E B R i) ∧
  (∀ y, cw_nr A (cw_E B R) y → cw_nr A' (cw_E B' R) y) ∧
  (∀ j, j < 4 → B' (4 * m + j) = cw_ch B x j) ∧
  (∀ k, k / 4 ≠ m → B' k = B k ∧ A' k = A k) ∧
  (∀ y, y ≠ m → L' y = L y) ∧ (L m = 0 ∨ x = some m)
theorem cw_al_self {n l : Nat} {U : Nat → Nat} (hI : cw_Iv A L (cw_E B R) U H F fn (cw_ad P (some n)) Q Z) (hn : n < 160) (hL : L n = l) (hf : cw_fu A n l) (hu : U n = 1) : cw_Al A L B R (some n) l n A L B := by
  have hnr := cw_nr_of hI hn (by rw [cw_ad_s, hu]; omega)
  exact ⟨hn, hL, hf, hnr, hnr, fun _ _ _ => ⟨rfl, rfl⟩, fun _ h => h, fun _ _ => rfl, fun _ _ => ⟨rfl, rfl⟩, fun _ _ => rfl, Or.inr rfl⟩
/-- a new empty node, all its edges active -/
theorem cw_al_new {l : Nat} (hI : cw_Iv A L (cw_E B R) U H F fn P Q Z) (h1 : 1 ≤ fn) (hl : 2 ≤ l) (hl4 : l ≤ 4) :
    cw_Al A L B R none l (F (fn - 1)) (fun k => if k / 4 = F (fn - 1) then l else A k) (cw_un L (F (fn - 1)) l) (cw_bl B (F (fn - 1))) ∧
    cw_Iv (fun k => if k / 4 = F (fn - 1) then l else A k) (cw_un L (F (fn - 1)) l) (cw_E (cw_bl B (F (fn - 1))) R) (cw_un U (F (fn - 1)) 1) H F (fn - 1) (cw_ad P (some (F (fn - 1)))) Q Z := by
  obtain ⟨hm, hL, hA, hI1⟩ := cw_al hI h1 hl hl4
  have hnr := cw_nr_L hI hL
  generalize F (fn - 1) = m at *
  have hA4 : ∀ i, i / 4 = m → A i = 0 := by
    intro i e
    rw [show i = 4 * m + i % 4 by omega]; exact hA _ (by omega)
  have hE : ∀ i, i < 646 → A i ≠ 0 → cw_E (cw_bl B m) R i = cw_E B R i := by
    intro i hi h0
    unfold cw_E
    by_cases e : i < 640
    · rw [if_pos e, if_pos e]
      exact if_neg (fun z => h0 (hA4 i z))
    · rw [if_neg e, if_neg e]
  have hI2 := cw_wrs hI1 hE
  have hI3 := cw_acs (A' := fun k => if k / 4 = m then l else A k) hI2 (fun i hi => by
    by_cases e : i / 4 = m
    · refine Or.inr ⟨hA4 i e, ?_, by omega, ?_⟩
      · rw [cw_E_b (by omega)]; exact if_pos e
      · show (if i / 4 = m then l else A i) = _
        rw [if_pos e, e, cw_us]
    · exact Or.inl (if_neg e))
  refine ⟨⟨hm, cw_us, fun j hj => if_pos (by omega), hnr, ?_, ?_, ?_, ?_, ?_, fun y hy => cw_uo hy, Or.inl hL⟩, hI3⟩
  · intro i hi h1' h3' e
    by_cases q : i / 4 = m
    · rw [cw_E_b (by omega), show cw_bl B m i = none from if_pos q] at e; cases e
    · dsimp only at h1' h3'
      rw [if_neg q] at h1' h3'
      rw [hE i hi (by omega)] at e
      exact hnr i hi h1' h3' e
  · intro i hi h0
    exact ⟨if_neg (fun z => h0 (hA4 i z)), hE i hi h0⟩
  · intro y hy i hi h1' h3' e
    by_cases q : i / 4 = m
    · rw [cw_E_b (by omega), show cw_bl B m i = none from if_pos q] at e; cases e
    · dsimp only at h1' h3'
      rw [if_neg q] at h1' h3'
      rw [hE i hi (by omega)] at e
      exact hy i hi h1' h3' e
  · intro j hj
    exact if_pos (by omega)
  · intro k hk
    exact ⟨if_neg hk, if_neg hk⟩
/-- the loop that copies a node's branches, nodes below -/
theorem cw_w_acn {post : Int32 → SX → Prop} {n m l : Nat} (hn : n < 160) (hm : m < 160) (hne : n ≠ m) (hl : 2 ≤ l) (hl3 : l ≤ 3) (hLm : L m = l) (hP : ∀ i, P i ≤ 20) :
    ∀ (d j : Nat) (A : Nat → Nat) (B : Nat → Option Nat) (U : Nat → Nat), j + d = 4 → cw_Iv A L (cw_E B R) U H F fn P Q Z → cw_fu A n l → (∀ i, i < 4 → A (4 * m + i) = if i < j then l else 0) → (∀ i, i < j → B (4 * m + i) = B (4 * n + i)) →
    (∀ (A' : Nat → Nat) (B' : Nat → Option Nat) (U' : Nat → Nat), cw_Iv A' L (cw_E B' R) U' H F fn P Q Z → cw_fu A' m l → (∀ i, i < 4 → B' (4 * m + i) = B (4 * n + i)) → (∀ k, k / 4 ≠ m → B' k = B k ∧ A' k = A k) → (∀ y, cw_nr A (cw_E B R) y → cw_nr A' (cw_E B' R) y) → post (nI m) ((nI fn), fl, fh, pr, ft, he, en, (cw_eB B'), (cw_eN U'), (cw_eN F), (cw_eB R), th, fz, va, (cw_eN H), go, pl, em, se, tm, mv)) →
    wX_alone_40 post (nI n) 0 (nI m) (nI fn) fl fh pr ft he en (d + 1) (nI j) (cw_eB B) (cw_eN U) (cw_eN F) (cw_eB R) th fz va (cw_eN H) go pl em se tm mv := by
  intro d
  induction d with
  | zero =>
    intro j A B U hj hI hfn hfm hc hpost
    refine br_t (nI_le (a := 4) (by omega) (by omega)) ?_
    exact hpost A B U hI (fun i hi => by rw [hfm i hi, if_pos (by omega)]) (fun i hi => hc i (by omega)) (fun _ _ => ⟨rfl, rfl⟩) (fun _ h => h)
  | succ d ih =>
    intro j A B U hj hI hfn hfm hc hpost
    have hA0 : A (4 * m + j) = 0 := by rw [hfm j (by omega), if_neg (by omega)]
    have hAn : A (4 * n + j) = l := hfn j (by omega)
    have hm4 : (4 * m + j) / 4 = m := by omega
    have hT : ∀ c, B (4 * n + j) = some c → c < 160 ∧ L c = l + 1 ∧ cw_fu A c (l + 1) := by
      intro c e
      have := hI.1 (4 * n + j) c (by omega) (by omega) (by omega) (by rw [cw_E_b (by omega)]; exact e)
      rw [hAn] at this; exact this
    have hw := cw_wr (k := 4 * m + j) (x := B (4 * n + j)) hI hA0
    rw [← cw_E_ub (by omega)] at hw
    have step : ∀ U', cw_Iv (cw_un A (4 * m + j) l) L (cw_E (cw_un B (4 * m + j) (B (4 * n + j))) R) U' H F fn P Q Z → wX_alone_40 post (nI n) 0 (nI m) (nI fn) fl fh pr ft he en (d + 1) (nI (j + 1)) (cw_eB (cw_un B (4 * m + j) (B (4 * n + j)))) (cw_eN U') (cw_eN F) (cw_eB R) th fz va (cw_eN H) go pl em se tm mv := by
      intro U' hI'
      refine ih (j + 1) _ _ U' (by omega) hI' (fun i hi => by rw [cw_uo (by omega)]; exact hfn i hi) ?_ ?_ ?_
      · intro i hi
        by_cases e : i = j
        · rw [e, cw_us, if_pos (by omega)]
        · rw [cw_uo (by omega), hfm i hi]
          by_cases e2 : i < j
          · rw [if_pos e2, if_pos (by omega)]
          · rw [if_neg e2, if_neg (by omega)]
      · intro i hi
        rw [cw_uo (show 4 * n + i ≠ 4 * m + j by omega)]
        by_cases e : i = j
        · rw [e, cw_us]
        · rw [cw_uo (by omega)]; exact hc i (by omega)
      · intro A' B' U2 i1 i2 i3 i4 i5
        refine hpost A' B' U2 i1 i2 ?_ ?_ ?_
        · intro i hi
          rw [i3 i hi, cw_uo (by omega)]
        · intro k hk
          obtain ⟨q1, q2⟩ := i4 k hk
          have hkk : k ≠ 4 * m + j := by intro e; rw [e] at hk; exact hk hm4
          rw [cw_uo hkk] at q1 q2
          exact ⟨q1, q2⟩
        · intro y hy
          refine i5 y ?_
          intro i hi h1' h3' e
          rw [cw_E_ub (by omega)] at e
          by_cases q : i = 4 * m + j
          · rw [q, cw_us] at e
            exact hy (4 * n + j) (by omega) (by omega) (by omega) (by rw [cw_E_b (by omega)]; exact e)
          · rw [cw_uo q] at e h1' h3'
            exact hy i hi h1' h3' e
    refine br_f (nI_ge (b := 4) (by omega) (by decide)) ⟨by rw [cw_4j]; exact vp_in_nI (by omega) (by decide), ?_⟩
    refine nm_r (cw_rdB (cw_4j n j) (by omega)) ⟨by rw [cw_4j]; exact vp_in_nI (by omega) (by decide), ?_⟩
    refine nm_r (cw_wrB (x := B (4 * n + j)) (cw_4j m j) (by omega) (cw_eO_sns (fun c e => by have := (hT c e).1; omega))) ?_
    refine cw_og rfl (fun c e => by have := (hT c e).1; omega) (fun c e => ?_) (fun e => ?_)
    · refine br_t rfl ?_
      obtain ⟨y1, y2, y3⟩ := hT c e
      have hUc : U c < 32767 := by
        have := cw_U_le hI y1
        have := hP c
        omega
      rw [e] at hw step ⊢
      have hi := cw_inN (n := c) hw (by omega)
      have ha := cw_acN2 (k := 4 * m + j) (a := l) (P := P) hi (by rw [cw_E_b (by omega), cw_us]) (by omega) hA0 (by omega) (by omega) (fun _ => by rw [hm4]; exact hLm) (fun z => by omega) (fun c' e' => by
        cases e'
        exact ⟨y1, y2, y3⟩)
      show vp_in (nI c) 160 ∧ _
      refine ⟨vp_in_nI y1 (by decide), vp_in_nI y1 (by decide), nm_r (cw_wrN rfl (by omega) (by rw [cw_rdN (show cw_eO (some c) = nI c from rfl) (by omega)]; exact cw_incn hUc)) ?_⟩
      refine nm_r (nI_1 j) ?_
      exact step _ ha
    · rw [e] at hw step ⊢
      have ha := cw_acN2 (k := 4 * m + j) (a := l) (P := P) (x := none) (by rw [cw_ad_0]; exact hw) (by rw [cw_E_b (by omega), cw_us]) (by omega) hA0 (by omega) (by omega) (fun _ => by rw [hm4]; exact hLm) (fun z => by omega) (fun c' e' => by
        cases e')
      refine nm_r (nI_1 j) ?_
      exact step _ ha
/-- the loop that copies a lowest node's branches -/
theorem cw_w_acb {post : Int32 → SX → Prop} {n m : Nat} (hn : n < 160) (hm : m < 160) (hne : n ≠ m) (hLm : L m = 4) (hQ : ∀ i, Q i ≤ 90) :
    ∀ (d j : Nat) (A : Nat → Nat) (B : Nat → Option Nat) (H : Nat → Nat), j + d = 4 → cw_Iv A L (cw_E B R) U H F fn P Q Z → cw_fu A n 4 → (∀ i, i < 4 → A (4 * m + i) = if i < j then 4 else 0) → (∀ i, i < j → B (4 * m + i) = B (4 * n + i)) →
    (∀ (A' : Nat → Nat) (B' : Nat → Option Nat) (H' : Nat → Nat), cw_Iv A' L (cw_E B' R) U H' F fn P Q Z → cw_fu A' m 4 → (∀ i, i < 4 → B' (4 * m + i) = B (4 * n + i)) → (∀ k, k / 4 ≠ m → B' k = B k ∧ A' k = A k) → (∀ y, cw_nr A (cw_E B R) y → cw_nr A' (cw_E B' R) y) → (∀ b, b < 80 → (H' b = 0 ↔ H b = 0)) → post (nI m) ((nI fn), fl, fh, pr, ft, he, en, (cw_eB B'), (cw_eN U), (cw_eN F), (cw_eB R), th, fz, va, (cw_eN H'), go, pl, em, se, tm, mv)) →
    wX_alone_40 post (nI n) 1 (nI m) (nI fn) fl fh pr ft he en (d + 1) (nI j) (cw_eB B) (cw_eN U) (cw_eN F) (cw_eB R) th fz va (cw_eN H) go pl em se tm mv := by
  intro d
  induction d with
  | zero =>
    intro j A B H hj hI hfn hfm hc hpost
    refine br_t (nI_le (a := 4) (by omega) (by omega)) ?_
    exact hpost A B H hI (fun i hi => by rw [hfm i hi, if_pos (by omega)]) (fun i hi => hc i (by omega)) (fun _ _ => ⟨rfl, rfl⟩) (fun _ h => h) (fun _ _ => Iff.rfl)
  | succ d ih =>
    intro j A B H hj hI hfn hfm hc hpost
    have hA0 : A (4 * m + j) = 0 := by rw [hfm j (by omega), if_neg (by omega)]
    have hAn : A (4 * n + j) = 4 := hfn j (by omega)
    have hm4 : (4 * m + j) / 4 = m := by omega
    have hT : ∀ c, B (4 * n + j) = some c → c < 80 := by
      intro c e
      exact hI.2.1 (4 * n + j) c (by omega) hAn (by rw [cw_E_b (by omega)]; exact e)
    have hw := cw_wr (k := 4 * m + j) (x := B (4 * n + j)) hI hA0
    rw [← cw_E_ub (by omega)] at hw
    have step : ∀ H1, (∀ b, b < 80 → (H1 b = 0 ↔ H b = 0)) → cw_Iv (cw_un A (4 * m + j) 4) L (cw_E (cw_un B (4 * m + j) (B (4 * n + j))) R) U H1 F fn P Q Z → wX_alone_40 post (nI n) 1 (nI m) (nI fn) fl fh pr ft he en (d + 1) (nI (j + 1)) (cw_eB (cw_un B (4 * m + j) (B (4 * n + j)))) (cw_eN U) (cw_eN F) (cw_eB R) th fz va (cw_eN H1) go pl em se tm mv := by
      intro H1 hH1 hI'
      refine ih (j + 1) _ _ H1 (by omega) hI' (fun i hi => by rw [cw_uo (by omega)]; exact hfn i hi) ?_ ?_ ?_
      · intro i hi
        by_cases e : i = j
        · rw [e, cw_us, if_pos (by omega)]
        · rw [cw_uo (by omega), hfm i hi]
          by_cases e2 : i < j
          · rw [if_pos e2, if_pos (by omega)]
          · rw [if_neg e2, if_neg (by omega)]
      · intro i hi
        rw [cw_uo (show 4 * n + i ≠ 4 * m + j by omega)]
        by_cases e : i = j
        · rw [e, cw_us]
        · rw [cw_uo (by omega)]; exact hc i (by omega)
      · intro A' B' H2 i1 i2 i3 i4 i5 i6
        refine hpost A' B' H2 i1 i2 ?_ ?_ ?_ (fun b hb => (i6 b hb).trans (hH1 b hb))
        · intro i hi
          rw [i3 i hi, cw_uo (by omega)]
        · intro k hk
          obtain ⟨q1, q2⟩ := i4 k hk
          have hkk : k ≠ 4 * m + j := by intro e; rw [e] at hk; exact hk hm4
          rw [cw_uo hkk] at q1 q2
          exact ⟨q1, q2⟩
        · intro y hy
          refine i5 y ?_
          intro i hi h1' h3' e
          rw [cw_E_ub (by omega)] at e
          by_cases q : i = 4 * m + j
          · rw [q, cw_us] at h3'; omega
          · rw [cw_uo q] at e h1' h3'
            exact hy i hi h1' h3' e
    refine br_f (nI_ge (b := 4) (by omega) (by decide)) ⟨by rw [cw_4j]; exact vp_in_nI (by omega) (by decide), ?_⟩
    refine nm_r (cw_rdB (cw_4j n j) (by omega)) ⟨by rw [cw_4j]; exact vp_in_nI (by omega) (by decide), ?_⟩
    refine nm_r (cw_wrB (x := B (4 * n + j)) (cw_4j m j) (by omega) (cw_eO_sns (fun c e => by have := hT c e; omega))) ?_
    refine cw_og rfl (fun c e => by have := hT c e; omega) (fun c e => ?_) (fun e => ?_)
    · refine br_f (by decide) ?_
      have y1 := hT c e
      have hHc : H c < 32767 := by
        have := cw_H_le hI y1
        have := hQ c
        omega
      have hHp : 1 ≤ H c := by
        have := hI.2.2.2.2.1 c y1
        have := cw_cn_one (p := cw_rb A (cw_E B R) c) (i := 4 * n + j) (N := 646) (by omega) (cw_rb_t.mpr ⟨hAn, by rw [cw_E_b (by omega)]; exact e⟩)
        omega
      rw [e] at hw step ⊢
      have hi := cw_inB (b := c) hw
      have ha := cw_acB2 (k := 4 * m + j) (Q := Q) hi (by rw [cw_E_b (by omega), cw_us]) (by omega) hA0 (by rw [hm4]; exact hLm) (fun c' e' => by
        cases e'
        exact y1)
      show vp_in (nI c) 80 ∧ _
      refine ⟨vp_in_nI y1 (by decide), vp_in_nI y1 (by decide), nm_r (cw_wrN rfl (by omega) (by rw [cw_rdN (show cw_eO (some c) = nI c from rfl) (by omega)]; exact cw_incn hHc)) ?_⟩
      refine nm_r (nI_1 j) ?_
      refine step _ (fun b hb => ?_) ha
      by_cases q : b = c
      · rw [q, cw_us]; omega
      · rw [cw_uo q]
    · rw [e] at hw step ⊢
      have ha := cw_acB2 (k := 4 * m + j) (Q := Q) (x := none) (by rw [cw_ad_0]; exact hw) (by rw [cw_E_b (by omega), cw_us]) (by omega) hA0 (by rw [hm4]; exact hLm) (fun c' e' => by
        cases e')
      refine nm_r (nI_1 j) ?_
      exact step _ (fun b hb => Iff.rfl) ha
end
end
section
section
variable {fl fh : Int64} {pr ft he en : Int32} {fn : Nat} {B R : Nat → Option Nat} {U F H : Nat → Nat} {th fz va go pl em se tm mv : Nat → Int32}
variable {A L : Nat → Nat} {P Q : Nat → Nat} {Z : Nat → Bool}
/-- a new node, its branches empty, its edges not yet active -/
theorem cw_al_bl {l : Nat} (hI : cw_Iv A L (cw_E B R) U H F fn P Q Z) (h1 : 1 ≤ fn) (hl : 2 ≤ l) (hl4 : l ≤ 4) :
    F (fn - 1) < 160 ∧ L (F (fn - 1)) = 0 ∧ (∀ i, i / 4 = F (fn - 1) → A i = 0) ∧ (∀ i, i < 646 → A i ≠ 0 → cw_E (cw_bl B (F (fn - 1))) R i = cw_E B R i) ∧
    cw_Iv A (cw_un L (F (fn - 1)) l) (cw_E (cw_bl B (F (fn - 1))) R) (cw_un U (F (fn - 1)) 1) H F (fn - 1) (cw_ad P (some (F (fn - 1)))) Q Z := by
  obtain ⟨hm, hL, hA, hI1⟩ := cw_al hI h1 hl hl4
  generalize F (fn - 1) = m at *
  have hA4 : ∀ i, i / 4 = m → A i = 0 := by
    intro i e
    rw [show i = 4 * m + i % 4 by omega]; exact hA _ (by omega)
  have hE : ∀ i, i < 646 → A i ≠ 0 → cw_E (cw_bl B m) R i = cw_E B R i := by
    intro i hi h0
    unfold cw_E
    by_cases e : i < 640
    · rw [if_pos e, if_pos e]
      exact if_neg (fun z => h0 (hA4 i z))
    · rw [if_neg e, if_neg e]
  exact ⟨hm, hL, hA4, hE, cw_wrs hI1 hE⟩
/-- a copied node -/
theorem cw_al_copy {n m l : Nat} {A' : Nat → Nat} {B' : Nat → Option Nat} (hI : cw_Iv A L (cw_E B R) U H F fn P Q Z) (hL : L n ≠ 0) (hm : m < 160) (hm0 : L m = 0)
    (hA : ∀ i, i / 4 = m → A i = 0) (hE : ∀ i, i < 646 → A i ≠ 0 → cw_E (cw_bl B m) R i = cw_E B R i)
    (hf : cw_fu A' m l) (hc : ∀ i, i < 4 → B' (4 * m + i) = cw_bl B m (4 * n + i)) (ho : ∀ k, k / 4 ≠ m → B' k = cw_bl B m k ∧ A' k = A k) (hr : ∀ y, cw_nr A (cw_E (cw_bl B m) R) y → cw_nr A' (cw_E B' R) y) : cw_Al A L B R (some n) l m A' (cw_un L m l) B' := by
  have hne : n ≠ m := by intro e; rw [e] at hL; exact hL hm0
  have hnr := cw_nr_L hI hm0
  have hr2 : ∀ y, cw_nr A (cw_E B R) y → cw_nr A' (cw_E B' R) y := by
    intro y hy
    refine hr y ?_
    intro i hi h1 h3 e
    rw [hE i hi (by omega)] at e
    exact hy i hi h1 h3 e
  have hb : ∀ k, k / 4 ≠ m → cw_bl B m k = B k := fun k hk => if_neg hk
  refine ⟨hm, cw_us, hf, hnr, hr2 m hnr, ?_, hr2, ?_, ?_, fun y hy => cw_uo hy, Or.inl hm0⟩
  · intro i hi h0
    have hi4 : i / 4 ≠ m := fun z => h0 (hA i z)
    obtain ⟨q3, q4⟩ := ho i hi4
    refine ⟨q4, ?_⟩
    unfold cw_E
    by_cases e : i < 640
    · rw [if_pos e, if_pos e, q3, hb i hi4]
    · rw [if_neg e, if_neg e]
  · intro j hj
    rw [hc j hj, hb _ (by omega)]; rfl
  · intro k hk
    rw [(ho k hk).1, hb k hk]
    exact ⟨rfl, (ho k hk).2⟩
theorem cw_w_aloneN {post : Int32 → SX → Prop} {x : Option Nat} {l : Nat} (hI : cw_Iv A L (cw_E B R) U H F fn (cw_ad P x) Q Z) (h1 : 1 ≤ fn) (hl : 2 ≤ l) (hl3 : l ≤ 3) (hx : ∀ n, x = some n → n < 160 ∧ L n = l ∧ cw_fu A n l) (hP : ∀ i, P i ≤ 8)
    (hpost : ∀ (m : Nat) (A' L' : Nat → Nat) (B' : Nat → Option Nat) (U' : Nat → Nat) (fn' : Nat), cw_Iv A' L' (cw_E B' R) U' H F fn' (cw_ad P (some m)) Q Z → cw_Al A L B R x l m A' L' B' → fn ≤ fn' + 1 → post (nI m) ((nI fn'), fl, fh, pr, ft, he, en, (cw_eB B'), (cw_eN U'), (cw_eN F), (cw_eB R), th, fz, va, (cw_eN H), go, pl, em, se, tm, mv)) :
    wpX_alone post ((nI fn), fl, fh, pr, ft, he, en, (cw_eB B), (cw_eN U), (cw_eN F), (cw_eB R), th, fz, va, (cw_eN H), go, pl, em, se, tm, mv) (cw_eO x) 0 := by
  have hfn : fn ≤ 160 := by
    have := hI.2.2.2.2.2.1.1
    have := cw_cn_le (p := fun n => decide (L n = 0)) 160
    omega
  refine cw_og rfl (fun n e => by have := (hx n e).1; omega) (fun n e => ?_) (fun e => ?_)
  · obtain ⟨y1, y2, y3⟩ := hx n e
    subst e
    show vp_in (nI n) 160 ∧ _
    have hU : U n < 32768 ∧ 1 ≤ U n := by
      have u := cw_U_le hI y1
      have u2 := hI.2.2.2.1 n y1
      rw [cw_ad_s] at u u2
      have := hP n
      omega
    refine ⟨vp_in_nI y1 (by decide), pk_eq (U n) 1 (fun e => ?_) (fun e => ?_) (cw_rdN rfl (by omega))⟩
    · exact hpost n A L B U fn hI (cw_al_self hI y1 y2 y3 e) (by omega)
    · obtain ⟨hm, hm0, hA4, hE, hI2⟩ := cw_al_bl hI h1 hl (by omega)
      refine cw_w_node h1 hfn hm ?_
      generalize F (fn - 1) = m at *
      have hne : n ≠ m := by intro e; rw [e] at y2; omega
      have hU' : cw_un U m 1 n = U n := cw_uo hne
      rw [cw_ad_c] at hI2
      have hI3 := cw_dcN (Z' := Z) hI2 y1 (Or.inl (by rw [hU']; exact e)) (fun _ h => h)
      rw [hU'] at hI3
      refine ⟨vp_in_nI y1 (by decide), vp_in_nI y1 (by decide), nm_r (cw_wrN (x := U n - 1) rfl (by omega) (by rw [cw_rdN (show cw_eO (some n) = nI n from rfl) (by omega), hU']; exact cw_decn hU.2 hU.1)) ⟨5, ?_⟩⟩
      refine cw_w_acn (P := cw_ad P (some m)) (Q := Q) (Z := Z) y1 hm hne hl hl3 cw_us (fun i => by have := cw_ad_le (x := some m) hP i; omega) 4 0 A (cw_bl B m) _ rfl hI3 y3 (fun i hi => by rw [if_neg (by omega)]; exact hA4 _ (by omega)) (fun i hi => by omega) ?_
      intro A' B' U' i1 i2 i3 i4 i5
      exact hpost m A' (cw_un L m l) B' U' (fn - 1) i1 (cw_al_copy hI (by omega) hm hm0 hA4 hE i2 i3 i4 i5) (by omega)
  · subst e
    obtain ⟨ha, hI2⟩ := cw_al_new hI h1 hl (by omega)
    refine cw_w_node h1 hfn ha.1 ?_
    rw [cw_ad_0] at hI2
    exact hpost _ _ _ _ _ _ hI2 ha (by omega)
theorem cw_w_aloneB {post : Int32 → SX → Prop} {x : Option Nat} (hI : cw_Iv A L (cw_E B R) U H F fn (cw_ad P x) Q Z) (h1 : 1 ≤ fn) (hx : ∀ n, x = some n → n < 160 ∧ L n = 4 ∧ cw_fu A n 4) (hP : ∀ i, P i ≤ 8) (hQ : ∀ i, Q i ≤ 90)
    (hpost : ∀ (m : Nat) (A' L' : Nat → Nat) (B' : Nat → Option Nat) (U' H' : Nat → Nat) (fn' : Nat), cw_Iv A' L' (cw_E B' R) U' H' F fn' (cw_ad P (some m)) Q Z → cw_Al A L B R x 4 m A' L' B' → fn ≤ fn' + 1 → (∀ b, b < 80 → (H' b = 0 ↔ H b = 0)) → post (nI m) ((nI fn'), fl, fh, pr, ft, he, en, (cw_eB B'), (cw_eN U'), (cw_eN F), (cw_eB R), th, fz, va, (cw_eN H'), go, pl, em, se, tm, mv)) :
    wpX_alone post ((nI fn), fl, fh, pr, ft, he, en, (cw_eB B), (cw_eN U), (cw_eN F), (cw_eB R), th, fz, va, (cw_eN H), go, pl, em, se, tm, mv) (cw_eO x) 1 := by
  have hfn : fn ≤ 160 := by
    have := hI.2.2.2.2.2.1.1
    have := cw_cn_le (p := fun n => decide (L n = 0)) 160
    omega
  refine cw_og rfl (fun n e => by have := (hx n e).1; omega) (fun n e => ?_) (fun e => ?_)
  · obtain ⟨y1, y2, y3⟩ := hx n e
    subst e
    show vp_in (nI n) 160 ∧ _
    have hU : U n < 32768 ∧ 1 ≤ U n := by
      have u := cw_U_le hI y1
      have u2 := hI.2.2.2.1 n y1
      rw [cw_ad_s] at u u2
      have := hP n
      omega
    refine ⟨vp_in_nI y1 (by decide), pk_eq (U n) 1 (fun e => ?_) (fun e => ?_) (cw_rdN rfl (by omega))⟩
    · exact hpost n A L B U H fn hI (cw_al_self hI y1 y2 y3 e) (by omega) (fun _ _ => Iff.rfl)
    · obtain ⟨hm, hm0, hA4, hE, hI2⟩ := cw_al_bl (l := 4) hI h1 (by omega) (by omega)
      refine cw_w_node h1 hfn hm ?_
      generalize F (fn - 1) = m at *
      have hne : n ≠ m := by intro e; rw [e] at y2; omega
      have hU' : cw_un U m 1 n = U n := cw_uo hne
      rw [cw_ad_c] at hI2
      have hI3 := cw_dcN (Z' := Z) hI2 y1 (Or.inl (by rw [hU']; exact e)) (fun _ h => h)
      rw [hU'] at hI3
      refine ⟨vp_in_nI y1 (by decide), vp_in_nI y1 (by decide), nm_r (cw_wrN (x := U n - 1) rfl (by omega) (by rw [cw_rdN (show cw_eO (some n) = nI n from rfl) (by omega), hU']; exact cw_decn hU.2 hU.1)) ⟨5, ?_⟩⟩
      refine cw_w_acb (P := cw_ad P (some m)) (Q := Q) (Z := Z) y1 hm hne cw_us hQ 4 0 A (cw_bl B m) H rfl hI3 y3 (fun i hi => by rw [if_neg (by omega)]; exact hA4 _ (by omega)) (fun i hi => by omega) ?_
      intro A' B' H' i1 i2 i3 i4 i5 i6
      exact hpost m A' (cw_un L m 4) B' _ H' (fn - 1) i1 (cw_al_copy hI (by omega) hm hm0 hA4 hE i2 i3 i4 i5) (by omega) i6
  · subst e
    obtain ⟨ha, hI2⟩ := cw_al_new (l := 4) hI h1 (by omega) (by omega)
    refine cw_w_node h1 hfn ha.1 ?_
    rw [cw_ad_0] at hI2
    exact hpost _ _ _ _ _ _ _ hI2 ha (by omega) (fun _ _ => Iff.rfl)
end
end
section
section
variable {A L : Nat → Nat} {E : Nat → Option Nat} {U H F : Nat → Nat} {fn : Nat} {P Q : Nat → Nat} {Z : Nat → Bool}
theorem cw_nr_wr {k n : Nat} {x : Option Nat} (h0 : A k = 0) (h : cw_nr A E n) : cw_nr A (cw_un E k x) n := by
  intro i hi h1 h3 e
  have q : i ≠ k := by intro z; rw [z, h0] at h1; omega
  rw [cw_uo q] at e
  exact h i hi h1 h3 e
/-- an active edge to a node is cut -/
theorem cw_cut {k : Nat} (h : cw_Iv A L E U H F fn P Q Z) (hk : k < 646) (h1 : 1 ≤ A k) (h3 : A k ≤ 3) : cw_Iv A L (cw_un E k none) U H F fn (cw_ad P (E k)) Q Z := by
  obtain ⟨hT, hD, hV, hU, hH, hF, hZ⟩ := h
  have hs : ∀ i n, cw_un E k none i = some n → i ≠ k ∧ E i = some n := by
    intro i n e
    by_cases q : i = k
    · rw [q, cw_us] at e; cases e
    · rw [cw_uo q] at e; exact ⟨q, e⟩
  refine cw_Iv_mk ?_ ?_ hV ?_ ?_ hF ?_
  · intro k' n hk' h1' h3' hE'
    exact hT k' n hk' h1' h3' (hs k' n hE').2
  · intro k' b hk' h4 hE'
    exact hD k' b hk' h4 (hs k' b hE').2
  · intro n hn
    have c := cw_cn_upd (p := cw_rn A E n) (q := cw_rn A (cw_un E k none) n) hk (fun i _ hne => by unfold cw_rn; rw [cw_uo hne])
    have e0 : (cw_rn A (cw_un E k none) n k).toNat = 0 := by
      rw [cw_rn_y h1 h3, cw_us]; rfl
    rw [e0, cw_rn_y h1 h3] at c
    rw [hU n hn]
    unfold cw_ad
    omega
  · intro b hb
    have c := cw_cn_upd (p := cw_rb A E b) (q := cw_rb A (cw_un E k none) b) hk (fun i _ hne => by unfold cw_rb; rw [cw_uo hne])
    rw [cw_rb_n (by omega), cw_rb_n (by omega)] at c
    rw [hH b hb]
    omega
  · intro n hn
    refine ⟨(hZ n hn).1, fun h0 => ?_⟩
    have e := (hZ n hn).2 h0
    unfold cw_ad
    by_cases e2 : E k = some n
    · have := (hT k n hk h1 h3 e2).2.1
      omega
    · rw [if_neg e2]; omega
end
section
variable {A L : Nat → Nat} {B R : Nat → Option Nat} {U H F : Nat → Nat} {fn : Nat} {P Q : Nat → Nat} {Z : Nat → Bool}
/-- one step down: an edge of an unreferenced node becomes inactive -/
theorem cw_step {t a j : Nat} (hI : cw_Iv A L (cw_E B R) U H F fn P Q Z) (ht : t < 160) (ha : 2 ≤ a) (ha3 : a ≤ 3) (hj : j < 4) (hf : cw_fu A t a) (hL : L t = a) (hnr : cw_nr A (cw_E B R) t) :
    cw_Iv (cw_un A (4 * t + j) 0) L (cw_E B R) U H F fn (cw_ad P (B (4 * t + j))) Q Z ∧ ∀ n, B (4 * t + j) = some n → n < 160 ∧ L n = a + 1 ∧ cw_fu (cw_un A (4 * t + j) 0) n (a + 1) := by
  have hA := hf j hj
  have hd := cw_deN (k := 4 * t + j) hI (by omega) (by omega) (by omega) (fun _ => by rw [show (4 * t + j) / 4 = t by omega]; exact hnr)
  rw [cw_E_b (by omega)] at hd
  refine ⟨hd, fun n e => ?_⟩
  obtain ⟨y1, y2, y3⟩ := cw_kid hI ht hf (by omega) (by omega) hj e
  refine ⟨y1, y2, fun i hi => ?_⟩
  have hne : n ≠ t := by intro z; rw [z] at y2; omega
  rw [cw_uo (by omega)]
  exact y3 i hi
/-- the last steps of a put: the block is stored, and all edges become active again -/
theorem cw_put_fin {v t m l j1 j2 j3 : Nat} {b : Option Nat} {R1 : Nat → Option Nat} (hI : cw_Iv A L (cw_E B R1) U H F fn (cw_ad (cw_ad (cw_ad P (some t)) (some m)) (some l)) (cw_ad Q b) Z)
    (hv : v < 6) (ht : t < 160) (hm : m < 160) (hl : l < 160) (htm : t ≠ m) (hml : m ≠ l) (htl : t ≠ l) (h1 : j1 < 4) (h2 : j2 < 4) (h3 : j3 < 4)
    (Lt : L t = 2) (Lm : L m = 3) (Ll : L l = 4) (ar : A (640 + v) = 0) (at1 : ∀ j, j < 4 → A (4 * t + j) = if j = j1 then 0 else 2) (am : ∀ j, j < 4 → A (4 * m + j) = if j = j2 then 0 else 3) (al : cw_fu A l 4)
    (hnr : cw_nr A (cw_E B R1) l) (hBt : B (4 * t + j1) = some m) (hR : R1 v = some t) (hb : ∀ c, b = some c → c < 80) :
    ∃ A5, cw_Iv A5 L (cw_E (cw_un (cw_un B (4 * m + j2) (some l)) (4 * l + j3) b) R1) U H F fn P (cw_ad Q (B (4 * l + j3))) Z ∧ ∀ w, w < 6 → A5 (640 + w) = if w = v then 1 else A (640 + w) := by
  have hA2 : A (4 * m + j2) = 0 := by rw [am j2 h2, if_pos rfl]
  have hA1 : A (4 * t + j1) = 0 := by rw [at1 j1 h1, if_pos rfl]
  -- write k2
  have s1 := cw_wr (k := 4 * m + j2) (x := some l) hI hA2
  have n1 := cw_nr_wr (k := 4 * m + j2) (x := some l) hA2 hnr
  rw [← cw_E_ub (by omega)] at s1 n1
  -- block edge off
  have s2 := cw_deB (k := 4 * l + j3) s1 (by omega) (al j3 h3) (by rw [show (4 * l + j3) / 4 = l by omega]; exact n1)
  rw [cw_E_b (by omega), cw_uo (by omega)] at s2
  -- write k3
  have s3 := cw_wr (k := 4 * l + j3) (x := b) s2 cw_us
  rw [← cw_E_ub (by omega), cw_ad_c (P := Q)] at s3
  have s4 := cw_acB2 (k := 4 * l + j3) s3 (by rw [cw_E_b (by omega), cw_us]) (by omega) cw_us (by rw [show (4 * l + j3) / 4 = l by omega]; exact Ll) hb
  rw [cw_uu] at s4
  have eA : cw_un A (4 * l + j3) 4 = A := cw_uself (al j3 h3)
  rw [eA] at s4
  -- the three node edges
  have s5 := cw_acN2 (k := 4 * m + j2) (a := 3) s4 (by rw [cw_E_b (by omega), cw_uo (by omega), cw_us]) (by omega) hA2 (by omega) (by omega) (fun _ => by rw [show (4 * m + j2) / 4 = m by omega]; exact Lm) (fun z => by omega) (fun n e => by cases e; exact ⟨hl, Ll, al⟩)
  have s6 := cw_acN2 (k := 4 * t + j1) (a := 2) s5 (by rw [cw_E_b (by omega), cw_uo (by omega), cw_uo (by omega)]; exact hBt) (by omega) (by rw [cw_uo (by omega)]; exact hA1) (by omega) (by omega) (fun _ => by rw [show (4 * t + j1) / 4 = t by omega]; exact Lt) (fun z => by omega) (fun n e => by
    cases e
    refine ⟨hm, Lm, fun j hj => ?_⟩
    by_cases q : j = j2
    · rw [q, cw_us]
    · rw [cw_uo (by omega), am j hj, if_neg q])
  have s7 := cw_acN2 (k := 640 + v) (a := 1) s6 (by rw [cw_E_r]; exact hR) (by omega) (by rw [cw_uo (by omega), cw_uo (by omega)]; exact ar) (by omega) (by omega) (fun z => by omega) (fun z => rfl) (fun n e => by
    cases e
    refine ⟨ht, Lt, fun j hj => ?_⟩
    by_cases q : j = j1
    · rw [q, cw_us]
    · rw [cw_uo (by omega), cw_uo (by omega), at1 j hj, if_neg q])
  refine ⟨_, s7, fun w hw => ?_⟩
  by_cases q : w = v
  · rw [q, cw_us, if_pos rfl]
  · rw [cw_uo (by omega), cw_uo (by omega), cw_uo (by omega), if_neg q]
/-- the whole of a put, from what the three calls of 'alone' gave -/
theorem cw_put_all {v p t m l : Nat} {b : Option Nat} {A1 L1 A2 L2 A3 L3 U1 U2 U3 H1 H2 H3 : Nat → Nat} {B1 B2 B4 : Nat → Option Nat} {fn1 fn2 fn3 : Nat} {P1 P2 : Nat → Nat}
    (h : cw_Rq A L B R U H F fn (cw_ad Q b)) (hv : v < 6) (hp : p < 64) (hb : ∀ c, b = some c → c < 80)
    (a1 : cw_Al (cw_un A (640 + v) 0) L B R (R v) 2 t A1 L1 B1) (i1 : cw_Iv A1 L1 (cw_E B1 (cw_un R v (some t))) U1 H1 F fn1 P1 (cw_ad Q b) Z)
    (a2 : cw_Al (cw_un A1 (4 * t + p / 16) 0) L1 B1 (cw_un R v (some t)) (B1 (4 * t + p / 16)) 3 m A2 L2 B2) (i2 : cw_Iv A2 L2 (cw_E (cw_un B2 (4 * t + p / 16) (some m)) (cw_un R v (some t))) U2 H2 F fn2 P2 (cw_ad Q b) Z)
    (a3 : cw_Al (cw_un A2 (4 * m + p / 4 % 4) 0) L2 (cw_un B2 (4 * t + p / 16) (some m)) (cw_un R v (some t)) (cw_un B2 (4 * t + p / 16) (some m) (4 * m + p / 4 % 4)) 4 l A3 L3 B4)
    (hI : cw_Iv A3 L3 (cw_E B4 (cw_un R v (some t))) U3 H3 F fn3 (cw_ad (cw_ad (cw_ad (fun _ => 0) (some t)) (some m)) (some l)) (cw_ad Q b) (fun _ => false)) :
    (∃ A5, cw_Rq A5 L3 (cw_un (cw_un B4 (4 * m + p / 4 % 4) (some l)) (4 * l + p % 4) b) (cw_un R v (some t)) U3 H3 F fn3 (cw_ad Q (cw_f3 B (R v) p))) ∧
    (∀ v' p', v' < 6 → p' < 64 → cw_f3 (cw_un (cw_un B4 (4 * m + p / 4 % 4) (some l)) (4 * l + p % 4) b) (cw_un R v (some t) v') p' = if v' = v ∧ p' = p then b else cw_f3 B (R v') p') ∧
    cw_un (cw_un B4 (4 * m + p / 4 % 4) (some l)) (4 * l + p % 4) b (4 * t + p / 16) = some m ∧ cw_un (cw_un B4 (4 * m + p / 4 % 4) (some l)) (4 * l + p % 4) b (4 * m + p / 4 % 4) = some l := by
  obtain ⟨t1, t2, t3, t4, t5, t6, t7, t8, t9, t10, t11⟩ := a1
  obtain ⟨m1, m2, m3, m4, m5, m6, m7, m8, m9, m10, m11⟩ := a2
  obtain ⟨l1, l2, l3, l4, l5, l6, l7, l8, l9, l10, l11⟩ := a3
  have k1 : (4 * t + p / 16) / 4 = t := by omega
  have k2 : (4 * m + p / 4 % 4) / 4 = m := by omega
  have hj1 : p / 16 < 4 := by omega
  have hj2 : p / 4 % 4 < 4 := by omega
  have hj3 : p % 4 < 4 := by omega
  -- the child m1
  have c1 : ∀ n, B1 (4 * t + p / 16) = some n → n < 160 ∧ L1 n = 3 ∧ cw_fu A1 n 3 := fun n e => cw_kid i1 t1 t3 (by omega) (by omega) hj1 e
  have htm : t ≠ m := by
    intro z
    rcases m11 with q | q
    · rw [← z] at q; omega
    · have := (c1 m q).2.1; rw [← z] at this; omega
  have L2t : L2 t = 2 := by rw [m10 t htm]; exact t2
  have c2 : ∀ n, cw_un B2 (4 * t + p / 16) (some m) (4 * m + p / 4 % 4) = some n → n < 160 ∧ L2 n = 4 ∧ cw_fu A2 n 4 := fun n e => cw_kid i2 m1 m3 (by omega) (by omega) hj2 e
  have htl : t ≠ l := by
    intro z
    rcases l11 with q | q
    · rw [← z] at q; omega
    · have := (c2 l q).2.1; rw [← z] at this; omega
  have hml : m ≠ l := by
    intro z
    rcases l11 with q | q
    · rw [← z] at q; omega
    · have := (c2 l q).2.1; rw [← z] at this; omega
  -- B3 at the place below m
  have e2 : cw_un B2 (4 * t + p / 16) (some m) (4 * m + p / 4 % 4) = cw_ch B1 (B1 (4 * t + p / 16)) (p / 4 % 4) := by
    rw [cw_uo (by omega)]; exact m8 _ hj2
  have e1 : B1 (4 * t + p / 16) = cw_ch B (R v) (p / 16) := t8 _ hj1
  -- B1 and B agree at the old middle node
  have g1 : ∀ j, j < 4 → cw_ch B1 (B1 (4 * t + p / 16)) j = cw_ch B (cw_ch B (R v) (p / 16)) j := by
    intro j hj
    rw [← e1]
    cases q : B1 (4 * t + p / 16) with
    | none => rfl
    | some n =>
      have := (c1 n q).2.1
      have hne : n ≠ t := by intro z; rw [z] at this; omega
      exact (t9 (4 * n + j) (by omega)).1
  have e3 : cw_un B2 (4 * t + p / 16) (some m) (4 * m + p / 4 % 4) = cw_ch B (cw_ch B (R v) (p / 16)) (p / 4 % 4) := by
    rw [e2]; exact g1 _ hj2
  have g2 : ∀ j, j < 4 → cw_ch (cw_un B2 (4 * t + p / 16) (some m)) (cw_un B2 (4 * t + p / 16) (some m) (4 * m + p / 4 % 4)) j = cw_ch B (cw_ch B (cw_ch B (R v) (p / 16)) (p / 4 % 4)) j := by
    intro j hj
    rw [← e3]
    cases q : cw_un B2 (4 * t + p / 16) (some m) (4 * m + p / 4 % 4) with
    | none => rfl
    | some n =>
      have := (c2 n q).2.1
      have hnt : n ≠ t := by intro z; rw [z] at this; omega
      have hnm : n ≠ m := by intro z; rw [z] at this; omega
      show cw_un B2 (4 * t + p / 16) (some m) (4 * n + j) = B (4 * n + j)
      rw [cw_uo (by omega), (m9 (4 * n + j) (by omega)).1]
      exact (t9 (4 * n + j) (by omega)).1
  have b1 : ∀ j, j < 4 → B4 (4 * t + j) = if j = p / 16 then some m else cw_ch B (R v) j := by
    intro j hj
    rw [(l9 (4 * t + j) (by omega)).1]
    by_cases q : j = p / 16
    · rw [q, cw_us, if_pos rfl]
    · rw [cw_uo (by omega), if_neg q, (m9 (4 * t + j) (by omega)).1]
      exact t8 j hj
  have b2 : ∀ j, j < 4 → B4 (4 * m + j) = cw_ch B (cw_ch B (R v) (p / 16)) j := by
    intro j hj
    rw [(l9 (4 * m + j) (by omega)).1, cw_uo (by omega), m8 j hj]
    exact g1 j hj
  have b3 : ∀ j, j < 4 → B4 (4 * l + j) = cw_ch B (cw_ch B (cw_ch B (R v) (p / 16)) (p / 4 % 4)) j := by
    intro j hj
    rw [l8 j hj]
    exact g2 j hj
  have hr : A1 (640 + v) = 0 := by rw [(t9 (640 + v) (by omega)).2, cw_us]
  refine ⟨?_, ?_, ?_, ?_⟩
  · obtain ⟨A5, s1, s2⟩ := cw_put_fin (P := fun _ => 0) (j1 := p / 16) (j2 := p / 4 % 4) (j3 := p % 4) (v := v) hI hv t1 m1 l1 htm hml htl hj1 hj2 hj3 (by rw [l10 t htl]; exact L2t) (by rw [l10 m hml]; exact m2) l2
      (by rw [(l9 (640 + v) (by omega)).2, cw_uo (by omega), (m9 (640 + v) (by omega)).2, cw_uo (by omega)]; exact hr)
      (fun j hj => by
        rw [(l9 (4 * t + j) (by omega)).2, cw_uo (by omega), (m9 (4 * t + j) (by omega)).2]
        by_cases q : j = p / 16
        · rw [q, cw_us, if_pos rfl]
        · rw [cw_uo (by omega), if_neg q]; exact t3 j hj)
      (fun j hj => by
        rw [(l9 (4 * m + j) (by omega)).2]
        by_cases q : j = p / 4 % 4
        · rw [q, cw_us, if_pos rfl]
        · rw [cw_uo (by omega), if_neg q]; exact m3 j hj)
      l3 l5 (by rw [b1 _ hj1, if_pos rfl]) cw_us hb
    refine ⟨A5, ?_, fun w hw => ?_⟩
    · rw [b3 _ hj3] at s1
      exact s1
    · rw [s2 w hw]
      by_cases q : w = v
      · rw [if_pos q]
      · rw [if_neg q, (l9 (640 + w) (by omega)).2, cw_uo (by omega), (m9 (640 + w) (by omega)).2, cw_uo (by omega), (t9 (640 + w) (by omega)).2, cw_uo (by omega)]
        exact h.2 w hw
  · -- contents
    have act1 : ∀ i, i < 646 → 1 ≤ A i → A i ≤ 3 → i ≠ 640 + v → A1 i = A i ∧ cw_E B1 (cw_un R v (some t)) i = cw_E B R i := by
      intro i hi z1 z3 hne
      obtain ⟨q1, q2⟩ := t6 i hi (by rw [cw_uo hne]; omega)
      rw [cw_uo hne] at q1
      rw [cw_E_ur, cw_uo hne]
      exact ⟨q1, q2⟩
    have nroot : ∀ n, n ≠ t → L1 n ≠ 2 → R v ≠ some n := by
      intro n hne hL e
      have := (cw_root h.1 hv (h.2 v hv) e).2.1
      rw [t10 n hne] at hL
      exact hL this
    have L1m : L1 m ≠ 2 := by
      rcases m11 with q | q
      · omega
      · have := (c1 m q).2.1; omega
    have L1l : L1 l ≠ 2 ∧ L1 l ≠ 3 := by
      rw [← m10 l (fun z => hml z.symm)]
      rcases l11 with q | q
      · omega
      · have := (c2 l q).2.1; omega
    refine cw_put_f (l := l) h hv t1 m1 ?_ ?_ ?_ hp ?_ ?_ ?_ ?_
    · intro i hi z1 z3 e
      by_cases q : i = 640 + v
      · exact q
      · exact absurd e (t4 i hi (by rw [cw_uo q]; exact z1) (by rw [cw_uo q]; exact z3))
    · intro i hi z1 z3 e
      have hne : i ≠ 640 + v := by
        intro z; rw [z, cw_E_r] at e
        exact nroot m (fun z => htm z.symm) L1m e
      obtain ⟨q1, q2⟩ := act1 i hi z1 z3 hne
      by_cases q : i = 4 * t + p / 16
      · exact q
      · exact absurd (q2.trans e) (m4 i hi (by rw [cw_uo q, q1]; exact z1) (by rw [cw_uo q, q1]; exact z3))
    · intro i hi z1 z3 e
      have hne : i ≠ 640 + v := by
        intro z; rw [z, cw_E_r] at e
        exact nroot l (fun z => htl z.symm) L1l.1 e
      obtain ⟨q1, q2⟩ := act1 i hi z1 z3 hne
      have hne1 : i ≠ 4 * t + p / 16 := by
        intro z
        have w := i1.1 i l hi (by omega) (by omega) (q2.trans e)
        rw [z, t3 _ hj1] at w
        exact L1l.2 w.2.1
      obtain ⟨q3, q4⟩ := m6 i hi (by rw [cw_uo hne1, q1]; omega)
      rw [cw_uo hne1] at q3
      by_cases q : i = 4 * m + p / 4 % 4
      · exact q
      · refine absurd ?_ (l4 i hi (by rw [cw_uo q, q3, q1]; exact z1) (by rw [cw_uo q, q3, q1]; exact z3))
        rw [cw_E_ub (by omega), cw_uo hne1, q4, q2]
        exact e
    · intro k x1 x2 x3
      rw [cw_uo (by intro z; rw [z] at x3; omega), cw_uo (by intro z; rw [z] at x2; omega), (l9 k x3).1, cw_uo (by intro z; rw [z] at x1; omega), (m9 k x2).1]
      exact (t9 k x1).1
    · intro j hj
      rw [cw_uo (by omega), cw_uo (by omega)]
      exact b1 j hj
    · intro j hj
      rw [cw_uo (by omega)]
      by_cases q : j = p / 4 % 4
      · rw [q, cw_us, if_pos rfl]
      · rw [cw_uo (by omega), if_neg q]
        exact b2 j hj
    · intro j hj
      by_cases q : j = p % 4
      · rw [q, cw_us, if_pos rfl]
      · rw [cw_uo (by omega), cw_uo (by omega), if_neg q]
        exact b3 j hj
  · rw [cw_uo (by omega), cw_uo (by omega), b1 _ hj1, if_pos rfl]
  · rw [cw_uo (by omega), cw_us]
end
end
section
theorem cw_sh4 {p : Nat} (hp : p < 64) : nI p >>> ((4 : Int32) &&& 31) = nI (p / 16) := pk_shrN (by omega) _ 4 (by decide)
theorem cw_sh2 {p : Nat} (hp : p < 64) : (nI p >>> ((2 : Int32) &&& 31)) &&& 3 = nI (p / 4 % 4) := by
  rw [pk_shrN (by omega) _ 2 (by decide)]; exact pk_andN (by omega) 2 (by decide)
theorem cw_sh0 {p : Nat} (hp : p < 64) : nI p &&& 3 = nI (p % 4) := pk_andN (by omega) 2 (by decide)
theorem cw_x1 {p n : Nat} (hp : p < 64) : (4 : Int32) * nI n + (nI p >>> ((4 : Int32) &&& 31)) = nI (4 * n + p / 16) := by
  rw [cw_sh4 hp, cw_4j]
theorem cw_x2 {p n : Nat} (hp : p < 64) : (4 : Int32) * nI n + ((nI p >>> ((2 : Int32) &&& 31)) &&& 3) = nI (4 * n + p / 4 % 4) := by
  rw [cw_sh2 hp, cw_4j]
theorem cw_x3 {p n : Nat} (hp : p < 64) : (4 : Int32) * nI n + (nI p &&& 3) = nI (4 * n + p % 4) := by
  rw [cw_sh0 hp, cw_4j]
theorem cw_in1 {i : Int32} {k N : Nat} (e : i = nI k) (h : k < N) (hN : N < 2 ^ 31) : vp_in i N := by
  rw [e]; exact vp_in_nI h hN
section
variable {fl fh : Int64} {pr ft he en : Int32} {fn : Nat} {B R : Nat → Option Nat} {U F H : Nat → Nat} {th fz va go pl em se tm mv : Nat → Int32}
variable {A L : Nat → Nat} {P Q : Nat → Nat} {Z : Nat → Bool}
theorem cw_w_find {post : Int32 → Prop} {v p : Nat} (h : cw_Rq A L B R U H F fn Q) (hv : v < 6) (hp : p < 64) (hpost : post (cw_eO (cw_f3 B (R v) p))) : wpX_find post ((nI fn), fl, fh, pr, ft, he, en, (cw_eB B), (cw_eN U), (cw_eN F), (cw_eB R), th, fz, va, (cw_eN H), go, pl, em, se, tm, mv) (nI v) (nI p) := by
  refine ⟨vp_in_nI hv (by decide), nm_r (cw_rdB rfl (by omega)) ?_⟩
  refine cw_on rfl (fun n e => by have := (cw_root h.1 hv (h.2 v hv) e).1; omega) (fun e => ?_) (fun n e => ?_)
  · rw [e] at hpost ⊢
    exact br_t (by decide) (br_f (by decide) hpost)
  · obtain ⟨y1, y2, y3⟩ := cw_root h.1 hv (h.2 v hv) e
    rw [e] at hpost ⊢
    refine ⟨cw_in1 (cw_x1 hp) (by omega) (by decide), nm_r (cw_rdB (cw_x1 hp) (by omega)) ?_⟩
    refine cw_on rfl (fun n2 e2 => by have := (cw_kid h.1 y1 y3 (by omega) (by omega) (by omega) e2).1; omega) (fun e2 => ?_) (fun n2 e2 => ?_)
    · have q : cw_f3 B (some n) p = none := by
        show cw_f2 B (B (4 * n + p / 16)) p = none
        rw [e2]; rfl
      rw [q] at hpost
      rw [e2]
      exact br_f (by decide) hpost
    · obtain ⟨z1, z2, z3⟩ := cw_kid h.1 y1 y3 (by omega) (by omega) (by omega) e2
      have q : cw_f3 B (some n) p = cw_f1 B (B (4 * n2 + p / 4 % 4)) p := by
        show cw_f2 B (B (4 * n + p / 16)) p = _
        rw [e2]; rfl
      rw [q] at hpost
      rw [e2]
      refine ⟨cw_in1 (cw_x2 hp) (by omega) (by decide), nm_r (cw_rdB (cw_x2 hp) (by omega)) ?_⟩
      refine cw_og rfl (fun n3 e3 => by have := (cw_kid h.1 z1 z3 (by omega) (by omega) (by omega) e3).1; omega) (fun n3 e3 => ?_) (fun e3 => ?_)
      · obtain ⟨w1, w2, w3⟩ := cw_kid h.1 z1 z3 (by omega) (by omega) (by omega) e3
        rw [e3] at hpost ⊢
        refine ⟨cw_in1 (cw_x3 hp) (by omega) (by decide), ?_⟩
        have r : cw_eB B ((4 : Int32) * cw_eO (some n3) + (nI p &&& 3)).toNatClampNeg = cw_eO (B (4 * n3 + p % 4)) := cw_rdB (cw_x3 hp) (by omega)
        rw [r]
        exact hpost
      · rw [e3] at hpost
        exact hpost
theorem cw_w_isBare {post : Int32 → Prop} {n : Nat} (hn : n < 160) (hB : ∀ j c, j < 4 → B (4 * n + j) = some c → c < 160) (h1 : (∀ j, j < 4 → B (4 * n + j) = none) → post 1) (h0 : post 0) : wpX_isBare post ((nI fn), fl, fh, pr, ft, he, en, (cw_eB B), (cw_eN U), (cw_eN F), (cw_eB R), th, fz, va, (cw_eN H), go, pl, em, se, tm, mv) (nI n) := by
  refine ⟨cw_in1 (cw_4 n) (by omega) (by decide), ?_⟩
  refine cw_og (x := B (4 * n)) (cw_rdB (cw_4 n) (by omega)) (fun c e => by have := hB 0 c (by omega) e; omega) (fun c e => h0) (fun e0 => ?_)
  refine ⟨cw_in1 (cw_4j n 1) (by omega) (by decide), ?_⟩
  refine cw_og (x := B (4 * n + 1)) (cw_rdB (cw_4j n 1) (by omega)) (fun c e => by have := hB 1 c (by omega) e; omega) (fun c e => h0) (fun e1 => ?_)
  refine ⟨cw_in1 (cw_4j n 2) (by omega) (by decide), ?_⟩
  refine cw_og (x := B (4 * n + 2)) (cw_rdB (cw_4j n 2) (by omega)) (fun c e => by have := hB 2 c (by omega) e; omega) (fun c e => h0) (fun e2 => ?_)
  refine ⟨cw_in1 (cw_4j n 3) (by omega) (by decide), ?_⟩
  refine cw_og (x := B (4 * n + 3)) (cw_rdB (cw_4j n 3) (by omega)) (fun c e => by have := hB 3 c (by omega) e; omega) (fun c e => h0) (fun e3 => ?_)
  refine h1 (fun j hj => ?_)
  rcases (by omega : j = 0 ∨ j = 1 ∨ j = 2 ∨ j = 3) with q | q | q | q
  · rw [q]; exact e0
  · rw [q]; exact e1
  · rw [q]; exact e2
  · rw [q]; exact e3
theorem cw_w_prune {post : SX → Prop} {v p t m l : Nat} (h : cw_Rq A L B R U H F fn Q) (hFs : cw_Fs H fl fh) (hQ : ∀ b, Q b ≤ 90) (hv : v < 6) (hp : p < 64) (e1 : R v = some t) (e2 : B (4 * t + p / 16) = some m) (e3 : B (4 * m + p / 4 % 4) = some l)
    (hpost : ∀ (A' L' : Nat → Nat) (B' R' : Nat → Option Nat) (U' F' : Nat → Nat) (fn' : Nat) (fl' fh' : Int64), cw_Rq A' L' B' R' U' H F' fn' Q → cw_Fs H fl' fh' → (∀ v' p', v' < 6 → p' < 64 → cw_f3 B' (R' v') p' = cw_f3 B (R v') p') → (∀ v', v' ≠ v → R' v' = R v') → post ((nI fn'), fl', fh', pr, ft, he, en, (cw_eB B'), (cw_eN U'), (cw_eN F'), (cw_eB R'), th, fz, va, (cw_eN H), go, pl, em, se, tm, mv)) :
    wpX_prune post ((nI fn), fl, fh, pr, ft, he, en, (cw_eB B), (cw_eN U), (cw_eN F), (cw_eB R), th, fz, va, (cw_eN H), go, pl, em, se, tm, mv) (nI v) (nI p) := by
  obtain ⟨t1, t2, t3⟩ := cw_root h.1 hv (h.2 v hv) e1
  obtain ⟨m1, m2, m3⟩ := cw_kid h.1 t1 t3 (by omega) (by omega) (by omega) e2
  obtain ⟨l1, l2, l3⟩ := cw_kid h.1 m1 m3 (by omega) (by omega) (by omega) e3
  have htm : t ≠ m := by intro z; rw [z] at t2; omega
  have hml : m ≠ l := by intro z; rw [z] at m2; omega
  have htl : t ≠ l := by intro z; rw [z] at t2; omega
  refine ⟨vp_in_nI hv (by decide), nm_r (e' := nI t) (by rw [cw_rdB rfl (by omega), e1]; rfl) ?_⟩
  refine ⟨cw_in1 (cw_x1 hp) (by omega) (by decide), nm_r (e' := nI m) (by rw [cw_rdB (cw_x1 hp) (by omega), e2]; rfl) ?_⟩
  refine ⟨cw_in1 (cw_x2 hp) (by omega) (by decide), nm_r (e' := nI l) (by rw [cw_rdB (cw_x2 hp) (by omega), e3]; rfl) ?_⟩
  refine cw_w_isBare l1 (fun j c hj e => by have := cw_kib h.1 l1 l3 hj e; omega) (fun hbl => ?_) (br_t rfl ?_)
  · refine br_f (by decide) ⟨cw_in1 (cw_x2 hp) (by omega) (by decide), nm_r (cw_wrB (cw_x2 hp) (by omega) cw_nm1) ?_⟩
    have c1 := cw_cut (k := 4 * m + p / 4 % 4) h.1 (by omega) (by rw [m3 _ (by omega)]; omega) (by rw [m3 _ (by omega)]; omega)
    rw [← cw_E_ub (by omega), cw_E_b (by omega), e3] at c1
    refine cw_w_leaveLowest (P := fun _ => 0) (Q := Q) (Z := fun _ => false) c1 hFs l1 l2 l3 (fun _ => by omega) hQ ?_
    intro r1 A1 L1 U1 H1 F1 fn1 fl1 fh1 i1 i2 i3 _ _ i6
    have hH1 : H1 = H := i6 (fun i hi => by rw [cw_uo (by omega)]; exact hbl i hi)
    subst hH1
    have q1 : cw_Rq A1 L1 (cw_un B (4 * m + p / 4 % 4) none) R U1 H1 F1 fn1 Q := ⟨i1, fun w hw => by rw [i3.2 w hw]; exact h.2 w hw⟩
    have f1 : ∀ v' p', v' < 6 → p' < 64 → cw_f3 (cw_un B (4 * m + p / 4 % 4) none) (R v') p' = cw_f3 B (R v') p' := fun v' p' hv' hp' => cw_pr3 h m2 (by omega) e3 hbl hv' hp'
    have e2' : cw_un B (4 * m + p / 4 % 4) none (4 * t + p / 16) = some m := by rw [cw_uo (by omega)]; exact e2
    obtain ⟨t1', t2', t3'⟩ := cw_root q1.1 hv (q1.2 v hv) e1
    obtain ⟨m1', m2', m3'⟩ := cw_kid q1.1 t1' t3' (by omega) (by omega) (by omega) e2'
    generalize cw_un B (4 * m + p / 4 % 4) none = B1 at *
    refine cw_w_isBare m1 (fun j c hj e => (cw_kid q1.1 m1' m3' (by omega) (by omega) hj e).1) (fun hbm => ?_) (br_t rfl ?_)
    · refine br_f (by decide) ⟨cw_in1 (cw_x1 hp) (by omega) (by decide), nm_r (cw_wrB (cw_x1 hp) (by omega) cw_nm1) ?_⟩
      have c2 := cw_cut (k := 4 * t + p / 16) q1.1 (by omega) (by rw [t3' _ (by omega)]; omega) (by rw [t3' _ (by omega)]; omega)
      rw [← cw_E_ub (by omega), cw_E_b (by omega), e2'] at c2
      refine cw_w_leaveMiddle (P := fun _ => 0) (Q := Q) (Z := fun _ => false) c2 i2 m1' m2' m3' (fun _ => by omega) hQ ?_
      intro r2 A2 L2 U2 H2 F2 fn2 fl2 fh2 j1 j2 j3 _ _ j6
      have hH2 : H2 = H1 := j6 (fun i hi => by rw [cw_uo (by omega)]; exact hbm i hi)
      subst hH2
      have q2 : cw_Rq A2 L2 (cw_un B1 (4 * t + p / 16) none) R U2 H2 F2 fn2 Q := ⟨j1, fun w hw => by rw [j3.2 w hw]; exact q1.2 w hw⟩
      have f2 : ∀ v' p', v' < 6 → p' < 64 → cw_f3 (cw_un B1 (4 * t + p / 16) none) (R v') p' = cw_f3 B (R v') p' := fun v' p' hv' hp' => (cw_pr2 q1 t2' (by omega) e2' hbm hv' hp').trans (f1 v' p' hv' hp')
      obtain ⟨t1'', t2'', t3''⟩ := cw_root q2.1 hv (q2.2 v hv) e1
      generalize cw_un B1 (4 * t + p / 16) none = B2 at *
      refine cw_w_isBare t1 (fun j c hj e => (cw_kid q2.1 t1'' t3'' (by omega) (by omega) hj e).1) (fun hbt => ?_) (br_t rfl ?_)
      · refine br_f (by decide) ⟨vp_in_nI hv (by decide), nm_r (cw_wrB rfl (by omega) cw_nm1) ?_⟩
        have c3 := cw_cut (k := 640 + v) q2.1 (by omega) (by rw [q2.2 v hv]; omega) (by rw [q2.2 v hv]; omega)
        rw [← cw_E_ur, cw_E_r, e1] at c3
        refine cw_w_leaveTop (P := fun _ => 0) (Q := Q) (Z := fun _ => false) c3 j2 t1'' t2'' t3'' (fun _ => by omega) hQ ?_
        intro r3 A3 L3 U3 H3 F3 fn3 fl3 fh3 k1 k2 k3 _ _ k6
        have hH3 : H3 = H2 := k6 hbt
        subst hH3
        refine hpost A3 L3 B2 (cw_un R v none) U3 F3 fn3 fl3 fh3 ⟨k1, fun w hw => by rw [k3.2 w hw]; exact q2.2 w hw⟩ k2 (fun v' p' hv' hp' => ?_) (fun v' hv' => cw_uo hv')
        by_cases z : v' = v
        · rw [← f2 v' p' hv' hp', z, cw_us, e1, cw_pr1 hp' hbt]; rfl
        · rw [cw_uo z]; exact f2 v' p' hv' hp'
      · exact hpost A2 L2 B2 R U2 F2 fn2 fl2 fh2 q2 j2 f2 (fun _ _ => rfl)
    · exact hpost A1 L1 B1 R U1 F1 fn1 fl1 fh1 q1 i2 f1 (fun _ _ => rfl)
  · exact hpost A L B R U F fn fl fh h hFs (fun _ _ _ _ => rfl) (fun _ _ => rfl)
end
end
section
theorem cw_nb01 {r : Nat} (h : r ≤ 1) : narrow .boolean (.int (nI r)) = .int (nI r) := by
  rcases (by omega : r = 0 ∨ r = 1) with q | q
  · rw [q]; rfl
  · rw [q]; rfl
section
variable {fl fh : Int64} {pr ft he en : Int32} {fn : Nat} {B R : Nat → Option Nat} {U F H : Nat → Nat} {th fz va go pl em se tm mv : Nat → Int32}
variable {A L : Nat → Nat} {P Q : Nat → Nat} {Z : Nat → Bool}
theorem cw_w_put31 {post : Int32 → SX → Prop} {v p : Nat} {b old : Option Nat} (h : cw_Rq A L B R U H F fn (cw_ad Q b)) (hFs : cw_Fs H fl fh) (hQ : ∀ i, Q i ≤ 70) (hv : v < 6) (hp : p < 64) (hb : ∀ c, b = some c → c < 80) (hold : cw_f3 B (R v) p = old)
    (hpost : ∀ (r : Nat) (A' L' : Nat → Nat) (B' R' : Nat → Option Nat) (U' H' F' : Nat → Nat) (fn' : Nat) (fl' fh' : Int64), cw_Rq A' L' B' R' U' H' F' fn' Q → cw_Fs H' fl' fh' → (∀ v' p', v' < 6 → p' < 64 → cw_f3 B' (R' v') p' = if v' = v ∧ p' = p then b else cw_f3 B (R v') p') → (∀ v', v' ≠ v → R' v' = R v') → r ≤ 1 → (old = none → r = 0) → (∀ o, old = some o → (r = 1 ↔ H' o = 0)) → post (nI r) ((nI fn'), fl', fh', pr, ft, he, en, (cw_eB B'), (cw_eN U'), (cw_eN F'), (cw_eB R'), th, fz, va, (cw_eN H'), go, pl, em, se, tm, mv)) :
    wX_put_31 post (nI v) (nI p) (cw_eO b) (cw_eO old) (nI fn) fl fh pr ft he en (cw_eB B) (cw_eN U) (cw_eN F) (cw_eB R) th fz va (cw_eN H) go pl em se tm mv := by
  have h34 := cw_room h.1 (fun _ => rfl) (fun _ => rfl)
  have hQ1 : ∀ i, cw_ad Q b i ≤ 71 := cw_ad_le hQ
  refine ⟨vp_in_nI hv (by decide), ?_⟩
  rw [cw_rdB rfl (by omega)]
  have d1 := cw_deN (k := 640 + v) h.1 (by omega) (by rw [h.2 v hv]; omega) (by rw [h.2 v hv]; omega) (fun z => by omega)
  rw [cw_E_r] at d1
  refine cw_w_aloneN (l := 2) d1 (by omega) (by omega) (by omega) (fun n e => by
    obtain ⟨y1, y2, y3⟩ := cw_root h.1 hv (h.2 v hv) e
    exact ⟨y1, y2, fun j hj => by rw [cw_uo (by omega)]; exact y3 j hj⟩) (fun _ => Nat.zero_le _) ?_
  intro t A1 L1 B1 U1 fn1 i1 a1 f1
  have t1 := a1.1
  refine ⟨vp_in_nI hv (by decide), nm_r (cw_wrB (x := some t) rfl (by omega) (cw_sns (by omega))) ?_⟩
  have hr1 : A1 (640 + v) = 0 := by rw [(a1.2.2.2.2.2.2.2.2.1 (640 + v) (by omega)).2, cw_us]
  have w1 := cw_wr (k := 640 + v) (x := some t) i1 hr1
  have n1 := cw_nr_wr (k := 640 + v) (x := some t) hr1 a1.2.2.2.2.1
  rw [← cw_E_ur] at w1 n1
  obtain ⟨d2, x2⟩ := cw_step (a := 2) (j := p / 16) w1 t1 (by omega) (by omega) (by omega) a1.2.2.1 a1.2.1 n1
  refine ⟨cw_in1 (cw_x1 hp) (by omega) (by decide), ?_⟩
  rw [show cw_eB B1 ((4 : Int32) * nI t + (nI p >>> ((4 : Int32) &&& 31))).toNatClampNeg = cw_eO (B1 (4 * t + p / 16)) from cw_rdB (cw_x1 hp) (by omega)]
  refine cw_w_aloneN (l := 3) d2 (by omega) (by omega) (by omega) x2 (fun i => by have := cw_ad_le (P := fun _ => 0) (x := some t) (c := 0) (fun _ => Nat.le_refl _) i; omega) ?_
  intro m A2 L2 B2 U2 fn2 i2 a2 f2
  have m1 := a2.1
  have htm : t ≠ m := by
    intro z
    rcases a2.2.2.2.2.2.2.2.2.2.2 with q | q
    · rw [← z, a1.2.1] at q; omega
    · have := (x2 m q).2.1; rw [← z, a1.2.1] at this; omega
  refine ⟨cw_in1 (cw_x1 hp) (by omega) (by decide), nm_r (cw_wrB (x := some m) (cw_x1 hp) (by omega) (cw_sns (by omega))) ?_⟩
  have hk1 : A2 (4 * t + p / 16) = 0 := by rw [(a2.2.2.2.2.2.2.2.2.1 (4 * t + p / 16) (by omega)).2, cw_us]
  have w2 := cw_wr (k := 4 * t + p / 16) (x := some m) i2 hk1
  have n2 := cw_nr_wr (k := 4 * t + p / 16) (x := some m) hk1 a2.2.2.2.2.1
  rw [← cw_E_ub (by omega)] at w2 n2
  obtain ⟨d3, x3⟩ := cw_step (a := 3) (j := p / 4 % 4) w2 m1 (by omega) (by omega) (by omega) a2.2.2.1 a2.2.1 n2
  refine ⟨cw_in1 (cw_x2 hp) (by omega) (by decide), ?_⟩
  rw [show cw_eB (cw_un B2 (4 * t + p / 16) (some m)) ((4 : Int32) * nI m + ((nI p >>> ((2 : Int32) &&& 31)) &&& 3)).toNatClampNeg = cw_eO (cw_un B2 (4 * t + p / 16) (some m) (4 * m + p / 4 % 4)) from cw_rdB (cw_x2 hp) (by omega)]
  refine cw_w_aloneB d3 (by omega) x3 (fun i => by
    have := cw_ad_le (x := some m) (cw_ad_le (P := fun _ => 0) (x := some t) (c := 0) (fun _ => Nat.le_refl _)) i
    omega) (fun i => by have := hQ1 i; omega) ?_
  intro l A3 L3 B4 U3 H3 fn3 i3 a3 f3 hH3
  have l1 := a3.1
  refine ⟨cw_in1 (cw_x2 hp) (by omega) (by decide), nm_r (cw_wrB (x := some l) (cw_x2 hp) (by omega) (cw_sns (by omega))) ?_⟩
  refine ⟨cw_in1 (cw_x3 hp) (by omega) (by decide), nm_r (cw_wrB (x := b) (cw_x3 hp) (by omega) (cw_eO_sns (fun c e => by have := hb c e; omega))) ?_⟩
  obtain ⟨⟨A5, q5⟩, hf, ht6, hm6⟩ := cw_put_all h hv hp hb a1 w1 a2 w2 a3 i3
  rw [hold] at q5
  generalize cw_un (cw_un B4 (4 * m + p / 4 % 4) (some l)) (4 * l + p % 4) b = B6 at *
  refine cw_w_drop q5.1 (cw_Fs_eq hFs hH3) (fun c e => by
    rw [e] at hold
    exact (cw_had_of h hv hp hold).1) (fun i => by have := hQ i; omega) ?_
  intro r H4 fl4 fh4 j1 j2 j3 j4 j5 j6
  have q6 : cw_Rq A5 L3 B6 (cw_un R v (some t)) U3 H4 F fn3 Q := ⟨j1, q5.2⟩
  refine cw_og rfl (fun c e => by have := hb c e; omega) (fun c e => ⟨cw_nb01 j3, ?_⟩) (fun e => ?_)
  · exact hpost r A5 L3 B6 (cw_un R v (some t)) U3 H4 F fn3 fl4 fh4 q6 j2 hf (fun v' hne => cw_uo hne) j3 (fun e => (j5 e).1) (fun o e => (j6 o e).1)
  · refine cw_w_prune q6 j2 (fun i => by have := hQ i; omega) hv hp cw_us ht6 hm6 ?_
    intro A7 L7 B7 R7 U7 F7 fn7 fl7 fh7 k1 k2 k3 k4
    exact ⟨cw_nb01 j3, hpost r A7 L7 B7 R7 U7 H4 F7 fn7 fl7 fh7 k1 k2 (fun v' p' hv' hp' => (k3 v' p' hv' hp').trans (hf v' p' hv' hp')) (fun v' hne => (k4 v' hne).trans (cw_uo hne)) j3 (fun e => (j5 e).1) (fun o e => (j6 o e).1)⟩
/-- put: b is had once more for its new place (its bit is clear already) -/
theorem cw_w_put {post : Int32 → SX → Prop} {v p : Nat} {b : Option Nat} (h : cw_Rq A L B R U H F fn Q) (hFs : cw_Fs (cw_ad H b) fl fh) (hQ : ∀ i, Q i ≤ 70) (hv : v < 6) (hp : p < 64) (hb : ∀ c, b = some c → c < 80)
    (hpost0 : cw_f3 B (R v) p = b → post 0 ((nI fn), fl, fh, pr, ft, he, en, (cw_eB B), (cw_eN U), (cw_eN F), (cw_eB R), th, fz, va, (cw_eN H), go, pl, em, se, tm, mv))
    (hpost : cw_f3 B (R v) p ≠ b → ∀ (r : Nat) (A' L' : Nat → Nat) (B' R' : Nat → Option Nat) (U' H' F' : Nat → Nat) (fn' : Nat) (fl' fh' : Int64), cw_Rq A' L' B' R' U' H' F' fn' Q → cw_Fs H' fl' fh' → (∀ v' p', v' < 6 → p' < 64 → cw_f3 B' (R' v') p' = if v' = v ∧ p' = p then b else cw_f3 B (R v') p') → (∀ v', v' ≠ v → R' v' = R v') → r ≤ 1 → (cw_f3 B (R v) p = none → r = 0) → (∀ o, cw_f3 B (R v) p = some o → (r = 1 ↔ H' o = 0)) → post (nI r) ((nI fn'), fl', fh', pr, ft, he, en, (cw_eB B'), (cw_eN U'), (cw_eN F'), (cw_eB R'), th, fz, va, (cw_eN H'), go, pl, em, se, tm, mv)) :
    wpX_put post ((nI fn), fl, fh, pr, ft, he, en, (cw_eB B), (cw_eN U), (cw_eN F), (cw_eB R), th, fz, va, (cw_eN H), go, pl, em, se, tm, mv) (nI v) (nI p) (cw_eO b) := by
  refine cw_w_find h hv hp ?_
  refine ⟨fun e => ?_, fun e => ?_⟩
  · refine hpost0 ((cw_eO_inj (fun n en => ?_) (fun n en => ?_)).mp e)
    · have := (cw_had_of h hv hp en).1; omega
    · have := hb n en; omega
  · have hne : cw_f3 B (R v) p ≠ b := fun z => e (by rw [z])
    refine cw_on rfl (fun c e => by have := hb c e; omega) (fun e => ?_) (fun c e => ?_)
    · subst e
      rw [cw_ad_0] at hFs
      refine cw_w_put31 (Q := Q) (b := none) (by rw [cw_ad_0]; exact h) hFs hQ hv hp hb rfl (hpost hne)
    · subst e
      have hc := hb c rfl
      have e1 : cw_un H c (H c + 1) = cw_ad H (some c) := by
        funext j
        by_cases q : j = c
        · rw [q, cw_us, cw_ad_s]
        · rw [cw_uo q, cw_ad_o q]
      have hHc : H c < 32767 := by
        have := cw_H_le h.1 hc
        have := hQ c
        omega
      show vp_in (nI c) 80 ∧ _
      refine ⟨vp_in_nI hc (by decide), vp_in_nI hc (by decide), nm_r (cw_wrN rfl (by omega) (by rw [cw_rdN (show cw_eO (some c) = nI c from rfl) (by omega)]; exact cw_incn hHc)) ?_⟩
      have hi := cw_inB (b := c) h.1
      rw [e1] at hi ⊢
      exact cw_w_put31 (Q := Q) (b := some c) ⟨hi, h.2⟩ hFs hQ hv hp hb rfl (hpost hne)
end
end
section
def cw_am (x y : Int32) : Prop := ¬ x < 0 ∧ ¬ y ≤ x
theorem cw_amT {post : Int32 → Prop} {x y : Int32} (h : cw_am x y) (hp : post 1) : wpX_among post x y := br_f h.1 (br_f h.2 hp)
theorem cw_amF {post : Int32 → Prop} {x y : Int32} (h : ¬ cw_am x y) (hp : post 0) : wpX_among post x y := by
  by_cases a : x < 0
  · exact br_t a hp
  · exact br_f a (br_t (Classical.byContradiction fun z => h ⟨a, z⟩) hp)
theorem cw_ouT {post : Int32 → Prop} {x y : Int32} (h : cw_am x y) (hp : post 0) : wpY_out post x y := br_f h.1 (br_t (Int32.not_le.mp h.2) hp)
theorem cw_ouF {post : Int32 → Prop} {x y : Int32} (h : ¬ cw_am x y) (hp : post 1) : wpY_out post x y := by
  by_cases a : x < 0
  · exact br_t a hp
  · exact br_f a (br_f (fun z => h ⟨a, Int32.not_le.mpr z⟩) hp)
theorem cw_am_of {x y : Int32} {n : Nat} (hn : n < 2 ^ 31) (hy : y = nI n) (h : cw_am x y) : ∃ j, j < n ∧ x = nI j := by
  subst hy
  rcases pk_ix x hn with q | q | q
  · exact absurd q h.1
  · exact absurd q h.2
  · exact q
theorem cw_am_nI {j n : Nat} (h : j < n) (hn : n < 2 ^ 31) : cw_am (nI j) (nI n) := ⟨nI_pos (by omega), nI_ge h hn⟩
/-- v is a volume that is there -/
def cw_ok (T : Nat → Bool) (v : Int32) : Prop := ∃ j, j < 6 ∧ v = nI j ∧ T j = true
def cw_okw (T : Nat → Bool) (fz : Nat → Int32) (v : Int32) : Prop := ∃ j, j < 6 ∧ v = nI j ∧ T j = true ∧ fz j = 0
section
variable {fl fh : Int64} {pr ft he en : Int32} {fn : Nat} {B R : Nat → Option Nat} {U F H : Nat → Nat} {th fz va go pl em se tm mv : Nat → Int32}
variable {T : Nat → Bool}
theorem cw_w_thT {post : Int32 → Prop} {v : Int32} (h : cw_ok T v) (hp : post 1) : wpX_isThere post ((nI fn), fl, fh, pr, ft, he, en, (cw_eB B), (cw_eN U), (cw_eN F), (cw_eB R), cw_eT T, fz, va, (cw_eN H), go, pl, em, se, tm, mv) v := by
  unfold wpX_isThere
  obtain ⟨j, hj, rfl, ht⟩ := h
  refine cw_amT (cw_am_nI hj (by decide)) ?_
  refine br_f (by decide) ⟨vp_in_nI hj (by decide), br_f ?_ hp⟩
  rw [cw_rdT rfl (by omega), ht]; decide
theorem cw_w_thF {post : Int32 → Prop} {v : Int32} (h : ¬ cw_ok T v) (hp : post 0) : wpX_isThere post ((nI fn), fl, fh, pr, ft, he, en, (cw_eB B), (cw_eN U), (cw_eN F), (cw_eB R), cw_eT T, fz, va, (cw_eN H), go, pl, em, se, tm, mv) v := by
  unfold wpX_isThere
  by_cases a : cw_am v 6
  · obtain ⟨j, hj, rfl⟩ := cw_am_of (n := 6) (by decide) rfl a
    refine cw_amT a ?_
    refine br_f (by decide) ⟨vp_in_nI hj (by decide), br_t ?_ hp⟩
    rw [cw_rdT rfl (by omega)]
    cases ht : T j with
    | false => rfl
    | true => exact absurd ⟨j, hj, rfl, ht⟩ h
  · refine cw_amF a ?_
    exact br_t rfl hp
theorem cw_w_wrT {post : Int32 → Prop} {v : Int32} (h : cw_okw T fz v) (hp : post 1) : wpX_isWritable post ((nI fn), fl, fh, pr, ft, he, en, (cw_eB B), (cw_eN U), (cw_eN F), (cw_eB R), cw_eT T, fz, va, (cw_eN H), go, pl, em, se, tm, mv) v := by
  unfold wpX_isWritable
  obtain ⟨j, hj, rfl, ht, hf⟩ := h
  refine cw_w_thT ⟨j, hj, rfl, ht⟩ ?_
  refine br_f (by decide) ⟨vp_in_nI hj (by decide), br_t ?_ hp⟩
  rw [nI_clamp (by omega)]; exact hf
theorem cw_w_wrF {post : Int32 → Prop} {v : Int32} (h : ¬ cw_okw T fz v) (hp : post 0) : wpX_isWritable post ((nI fn), fl, fh, pr, ft, he, en, (cw_eB B), (cw_eN U), (cw_eN F), (cw_eB R), cw_eT T, fz, va, (cw_eN H), go, pl, em, se, tm, mv) v := by
  unfold wpX_isWritable
  by_cases a : cw_ok T v
  · obtain ⟨j, hj, rfl, ht⟩ := a
    refine cw_w_thT ⟨j, hj, rfl, ht⟩ ?_
    refine br_f (by decide) ⟨vp_in_nI hj (by decide), br_f ?_ hp⟩
    rw [nI_clamp (by omega)]
    intro z
    exact h ⟨j, hj, rfl, ht, z⟩
  · refine cw_w_thF a ?_
    exact br_t rfl hp
/-- the least volume that is not there, or 6 -/
def cw_lv (T : Nat → Bool) (w : Nat) : Prop := w ≤ 6 ∧ (∀ i, i < w → T i = true) ∧ (w < 6 → T w = false)
theorem cw_lv_ex (T : Nat → Bool) : ∃ w, cw_lv T w := by
  by_cases h : ∃ k, k < 6 ∧ T k = false
  · obtain ⟨k, hk, hl⟩ := pk_least (fun k => k < 6 ∧ T k = false) h
    refine ⟨k, by omega, fun i hi => ?_, fun _ => hk.2⟩
    have := hl i hi
    cases e : T i with
    | true => rfl
    | false => exact absurd ⟨by omega, e⟩ this
  · refine ⟨6, by omega, fun i hi => ?_, fun z => by omega⟩
    cases e : T i with
    | true => rfl
    | false => exact absurd ⟨i, hi, e⟩ h
theorem cw_w_unl {post : Int32 → Prop} {w : Nat} (hw : cw_lv T w) (hp : post (nI w)) : ∀ d j, j + d = w → wX_unused_2 post (nI fn) fl fh pr ft he en (cw_eB B) (cw_eN U) (cw_eN F) (cw_eB R) (cw_eT T) fz va (cw_eN H) go pl em se tm mv (d + 1) (nI j) := by
  intro d
  induction d with
  | zero =>
    intro j hj
    have hj : j = w := by omega
    subst hj
    refine pk_le 6 j (fun z => hp) (fun z => ⟨vp_in_nI z (by decide), br_t ?_ hp⟩) rfl rfl (by decide) (by have := hw.1; omega)
    rw [cw_rdT rfl (by omega), hw.2.2 z]; rfl
  | succ d ih =>
    intro j hj
    have := hw.1
    refine br_f (nI_ge (b := 6) (by omega) (by decide)) ⟨vp_in_nI (by omega) (by decide), br_f ?_ (nm_r (nI_1 j) (ih (j + 1) (by omega)))⟩
    rw [cw_rdT rfl (by omega), hw.2.1 j (by omega)]; decide
theorem cw_w_unused {post : Int32 → Prop} {w : Nat} (hw : cw_lv T w) (hp : post (nI w)) : wpX_unused post ((nI fn), fl, fh, pr, ft, he, en, (cw_eB B), (cw_eN U), (cw_eN F), (cw_eB R), cw_eT T, fz, va, (cw_eN H), go, pl, em, se, tm, mv) := ⟨w + 1, cw_w_unl hw hp w 0 (by omega)⟩
end
section
variable {sc he st : Int32} {hs : Nat → Nat} {bd lo : Nat → Bool} {th fz be va se hd pl sh : Nat → Int32}
variable {T : Nat → Bool}
theorem cw_y_thT {post : Int32 → Prop} {v : Int32} (h : cw_ok T v) (hp : post 1) : wpY_is post (sc, he, st, cw_eT T, fz, (cw_eN hs), be, va, (cw_eT bd), (cw_eT lo), se, hd, pl, sh) v := by
  unfold wpY_is
  obtain ⟨j, hj, rfl, ht⟩ := h
  refine cw_ouT (cw_am_nI hj (by decide)) ?_
  refine br_t rfl ⟨vp_in_nI hj (by decide), br_f ?_ hp⟩
  rw [cw_rdT rfl (by omega), ht]; decide
theorem cw_y_thF {post : Int32 → Prop} {v : Int32} (h : ¬ cw_ok T v) (hp : post 0) : wpY_is post (sc, he, st, cw_eT T, fz, (cw_eN hs), be, va, (cw_eT bd), (cw_eT lo), se, hd, pl, sh) v := by
  unfold wpY_is
  by_cases a : cw_am v 6
  · obtain ⟨j, hj, rfl⟩ := cw_am_of (n := 6) (by decide) rfl a
    refine cw_ouT a ?_
    refine br_t rfl ⟨vp_in_nI hj (by decide), br_t ?_ hp⟩
    rw [cw_rdT rfl (by omega)]
    cases ht : T j with
    | false => rfl
    | true => exact absurd ⟨j, hj, rfl, ht⟩ h
  · refine cw_ouF a ?_
    exact br_f (by decide) hp
theorem cw_y_wrT {post : Int32 → Prop} {v : Int32} (h : cw_okw T fz v) (hp : post 1) : wpY_writable post (sc, he, st, cw_eT T, fz, (cw_eN hs), be, va, (cw_eT bd), (cw_eT lo), se, hd, pl, sh) v := by
  unfold wpY_writable
  obtain ⟨j, hj, rfl, ht, hf⟩ := h
  refine cw_y_thT ⟨j, hj, rfl, ht⟩ ?_
  refine br_f (by decide) ⟨vp_in_nI hj (by decide), br_t ?_ hp⟩
  rw [nI_clamp (by omega)]; exact hf
theorem cw_y_wrF {post : Int32 → Prop} {v : Int32} (h : ¬ cw_okw T fz v) (hp : post 0) : wpY_writable post (sc, he, st, cw_eT T, fz, (cw_eN hs), be, va, (cw_eT bd), (cw_eT lo), se, hd, pl, sh) v := by
  unfold wpY_writable
  by_cases a : cw_ok T v
  · obtain ⟨j, hj, rfl, ht⟩ := a
    refine cw_y_thT ⟨j, hj, rfl, ht⟩ ?_
    refine br_f (by decide) ⟨vp_in_nI hj (by decide), br_f ?_ hp⟩
    rw [nI_clamp (by omega)]
    intro z
    exact h ⟨j, hj, rfl, ht, z⟩
  · refine cw_y_thF a ?_
    exact br_t rfl hp
theorem cw_y_lel {post : Int32 → Prop} {w : Nat} (hw : cw_lv T w) (hp : post (if w = 6 then -2 else nI w)) : ∀ d j, j + d = w → wY_least_2 post sc he st (cw_eT T) fz (cw_eN hs) be va (cw_eT bd) (cw_eT lo) se hd pl sh (d + 1) (nI j) := by
  intro d
  induction d with
  | zero =>
    intro j hj
    have hj : j = w := by omega
    subst hj
    have := hw.1
    refine pk_le 6 j (fun z => ?_) (fun z => ⟨vp_in_nI z (by decide), br_t ?_ ?_⟩) rfl rfl (by decide) (by omega)
    · rw [if_pos (by omega)] at hp; exact hp
    · rw [cw_rdT rfl (by omega), hw.2.2 z]; rfl
    · rw [if_neg (by omega)] at hp; exact hp
  | succ d ih =>
    intro j hj
    have := hw.1
    refine br_f (nI_ge (b := 6) (by omega) (by decide)) ⟨vp_in_nI (by omega) (by decide), br_f ?_ (nm_r (nI_1 j) (ih (j + 1) (by omega)))⟩
    rw [cw_rdT rfl (by omega), hw.2.1 j (by omega)]; decide
theorem cw_y_least {post : Int32 → Prop} {w : Nat} (hw : cw_lv T w) (hp : post (if w = 6 then -2 else nI w)) : wpY_least post (sc, he, st, cw_eT T, fz, (cw_eN hs), be, va, (cw_eT bd), (cw_eT lo), se, hd, pl, sh) := ⟨w + 1, cw_y_lel hw hp w 0 (by omega)⟩
/-- how often the number c stands in volumes that are there -/
def cw_tp (T : Nat → Bool) (hs : Nat → Nat) (c x : Nat) : Bool := T (x / 64) && decide (hs x = c)
def cw_tc (T : Nat → Bool) (hs : Nat → Nat) (c : Nat) : Nat := cw_cn (cw_tp T hs c) 384
/-- the held array behind a tally -/
def cw_hd (T : Nat → Bool) (hs : Nat → Nat) (hd : Nat → Int32) : Nat → Int32 := fun c => if c < 81 then nI (cw_tc T hs c) else hd c
theorem cw_hd_b {hd : Nat → Int32} {i : Int32} {b : Nat} (hi : i = nI b) (hb : b < 81) : cw_hd T hs hd i.toNatClampNeg = nI (cw_tc T hs b) := by
  rw [hi, nI_clamp (by omega)]; exact if_pos hb
theorem cw_tc_le (c : Nat) : cw_tc T hs c ≤ 384 := cw_cn_le 384
theorem cw_y_ta2 {post : SY → Prop} (hhs : ∀ x, hs x ≤ 80) (hd0 : Nat → Int32) (hpost : post (sc, he, st, cw_eT T, fz, (cw_eN hs), be, va, (cw_eT bd), (cw_eT lo), se, cw_hd T hs hd0, pl, sh)) :
    ∀ d i, i + d = 384 → wY_tally_23 post sc he st (d + 1) (nI i) (cw_eT T) fz (cw_eN hs) be va (cw_eT bd) (cw_eT lo) se (fun c => if c < 81 then nI (cw_cn (cw_tp T hs c) i) else hd0 c) pl sh := by
  intro d
  induction d with
  | zero =>
    intro i hi
    have hi : i = 384 := by omega
    subst hi
    exact br_t (by decide) hpost
  | succ d ih =>
    intro i hi
    have h64 : nI i / 64 = nI (i / 64) := pk_div (a := i) (d := 64) (by omega) (by omega) (by omega)
    have hc := hhs i
    have hle := cw_cn_le (p := cw_tp T hs (hs i)) i
    refine br_f (nI_ge (b := 384) (by omega) (by decide)) ⟨by decide, cw_in1 h64 (by omega) (by decide), ?_⟩
    rw [cw_rdT h64 (by omega)]
    refine cw_bt (fun e => ?_) (fun e => ?_)
    · refine nm_r (nI_1 i) ?_
      have e2 : (fun c => if c < 81 then nI (cw_cn (cw_tp T hs c) i) else hd0 c) = (fun c => if c < 81 then nI (cw_cn (cw_tp T hs c) (i + 1)) else hd0 c) := by
        funext c
        rw [cw_cn_s, show cw_tp T hs c i = false by unfold cw_tp; rw [e]; rfl]
        rfl
      rw [e2]
      exact ih (i + 1) (by omega)
    · refine ⟨vp_in_nI (by omega) (by decide), ?_⟩
      rw [cw_rdN rfl (by omega)]
      refine ⟨vp_in_nI (by omega) (by decide), vp_in_nI (by omega) (by decide), nm_r ?_ (nm_r (nI_1 i) (ih (i + 1) (by omega)))⟩
      rw [nI_clamp (by omega)]
      dsimp only
      rw [if_pos (show hs i < 81 by omega), cw_incn (by omega)]
      funext c
      by_cases q : c = hs i
      · rw [q, pk_us, if_pos (by omega), cw_cn_s, show cw_tp T hs (hs i) i = true by unfold cw_tp; rw [e]; simp]
        rfl
      · rw [pk_un q, cw_cn_s, show cw_tp T hs c i = false by unfold cw_tp; rw [decide_eq_false (fun z => q z.symm)]; simp]
        rfl
theorem cw_y_ta1 {post : SY → Prop} (hhs : ∀ x, hs x ≤ 80) (hd0 : Nat → Int32) (hpost : post (sc, he, st, cw_eT T, fz, (cw_eN hs), be, va, (cw_eT bd), (cw_eT lo), se, cw_hd T hs hd0, pl, sh)) :
    ∀ d i, i + d = 81 → wY_tally_2 post sc he st (d + 1) (nI i) (cw_eT T) fz (cw_eN hs) be va (cw_eT bd) (cw_eT lo) se (fun c => if c < i then 0 else hd0 c) pl sh := by
  intro d
  induction d with
  | zero =>
    intro i hi
    have hi : i = 81 := by omega
    subst hi
    exact br_t (by decide) ⟨385, cw_y_ta2 hhs hd0 hpost 384 0 rfl⟩
  | succ d ih =>
    intro i hi
    refine br_f (nI_ge (b := 81) (by omega) (by decide)) ⟨vp_in_nI (by omega) (by decide), nm_r ?_ (nm_r (nI_1 i) (ih (i + 1) (by omega)))⟩
    rw [nI_clamp (by omega), show vp_nar .short 0 = 0 from cw_sn (n := 0) (by omega)]
    funext c
    by_cases q : c = i
    · rw [q, pk_us, if_pos (by omega)]
    · rw [pk_un q]
      by_cases q2 : c < i
      · rw [if_pos q2, if_pos (by omega)]
      · rw [if_neg q2, if_neg (by omega)]
theorem cw_y_tally {post : SY → Prop} (hhs : ∀ x, hs x ≤ 80) (hpost : post (sc, he, st, cw_eT T, fz, (cw_eN hs), be, va, (cw_eT bd), (cw_eT lo), se, cw_hd T hs hd, pl, sh)) : wpY_tally post (sc, he, st, cw_eT T, fz, (cw_eN hs), be, va, (cw_eT bd), (cw_eT lo), se, hd, pl, sh) := ⟨82, by
  have h := cw_y_ta1 (post := post) hhs hd hpost 81 0 rfl
  exact h⟩
end
end
section
def cw_oN : Option Nat → Nat
  | none => 0
  | some b => b + 1
theorem cw_oN_inj {x y : Option Nat} (h : cw_oN x = cw_oN y) : x = y := by
  cases x with
  | none =>
    cases y with
    | none => rfl
    | some b => exact absurd (show 0 = b + 1 from h) (by omega)
  | some a =>
    cases y with
    | none => exact absurd (show a + 1 = 0 from h) (by omega)
    | some b => rw [show a = b from by have : a + 1 = b + 1 := h; omega]
/-- the good copies, by the bad ones -/
def cw_gI (a b : Bool) : Int32 := if a then (if b then 0 else 2) else (if b then 1 else 3)
/-- the disks that are present, by the lost ones -/
def cw_pr (lo : Nat → Bool) : Int32 := cw_gI (lo 0) (lo 1)
/-- the trees against the rows -/
def cw_RT (A L : Nat → Nat) (B R : Nat → Option Nat) (U H F : Nat → Nat) (fn : Nat) (fl fh : Int64) (Q : Nat → Nat) (T : Nat → Bool) (hs : Nat → Nat) : Prop :=
  cw_Rq A L B R U H F fn Q ∧ cw_Fs H fl fh ∧ (∀ v, v < 6 → T v = false → R v = none) ∧ (∀ v p, v < 6 → p < 64 → T v = true → hs (64 * v + p) = cw_oN (cw_f3 B (R v) p)) ∧ (∀ x, hs x ≤ 80)
def cw_GD (H : Nat → Nat) (go : Nat → Int32) (bd : Nat → Bool) : Prop := ∀ b, b < 80 → H b ≠ 0 → go b = cw_gI (bd b) (bd (80 + b))
def cw_SD (en : Nat) (pl em sh : Nat → Int32) : Prop := ∀ k, k < en → (∃ p, p < 64 ∧ pl k = nI p) ∧ ((em k = 1 ∧ sh k = 0) ∨ (¬ em k = 1 ∧ ¬ sh k = 0))
def cw_RR (A L : Nat → Nat) (B R : Nat → Option Nat) (U H F : Nat → Nat) (fn : Nat) (fl fh : Int64) (T : Nat → Bool) (hs : Nat → Nat) (go : Nat → Int32) (bd : Nat → Bool) (tn hn en : Nat) (pl em sh : Nat → Int32) : Prop :=
  cw_RT A L B R U H F fn fl fh (fun _ => 0) T hs ∧ cw_GD H go bd ∧ tn < 80 ∧ hn ≤ 999999 ∧ en ≤ 64 ∧ cw_SD en pl em sh
/-- the relation at the head of a turn -/
def i_Rel (k : Nat) (u : SX) (v : SY) : Prop :=
  ∃ (A L : Nat → Nat) (B R : Nat → Option Nat) (U H F : Nat → Nat) (fn : Nat) (fl fh : Int64) (T : Nat → Bool) (hs : Nat → Nat) (go : Nat → Int32) (bd : Nat → Bool) (tn hn en : Nat) (pl em sh : Nat → Int32) (lo : Nat → Bool) (fz va se tm mv be hd : Nat → Int32),
    u = ((nI fn), fl, fh, (cw_pr lo), (nI tn), (nI hn), (nI en), (cw_eB B), (cw_eN U), (cw_eN F), (cw_eB R), (cw_eT T), fz, va, (cw_eN H), go, pl, em, se, tm, mv) ∧ v = ((nI tn), (nI hn), (nI en), (cw_eT T), fz, (cw_eN hs), be, va, (cw_eT bd), (cw_eT lo), se, hd, pl, sh) ∧ cw_RR A L B R U H F fn fl fh T hs go bd tn hn en pl em sh
theorem i_up {k : Nat} {u : SX} {v : SY} (h : i_Rel k u v) : i_Rel (k + 6) u v := h
section
variable {A L : Nat → Nat} {B R : Nat → Option Nat} {U H F : Nat → Nat} {fn : Nat} {fl fh : Int64} {T : Nat → Bool} {hs : Nat → Nat} {go : Nat → Int32} {bd : Nat → Bool} {tn hn en : Nat} {pl em sh : Nat → Int32} {lo : Nat → Bool} {fz va se tm mv be hd : Nat → Int32}
theorem cw_el {P : SX → SY → Prop} {k : Nat} {u : SX} {v : SY} (h : ∀ (A L : Nat → Nat) (B R : Nat → Option Nat) (U H F : Nat → Nat) (fn : Nat) (fl fh : Int64) (T : Nat → Bool) (hs : Nat → Nat) (go : Nat → Int32) (bd : Nat → Bool) (tn hn en : Nat) (pl em sh : Nat → Int32) (lo : Nat → Bool) (fz va se tm mv be hd : Nat → Int32), cw_RR A L B R U H F fn fl fh T hs go bd tn hn en pl em sh → P ((nI fn), fl, fh, (cw_pr lo), (nI tn), (nI hn), (nI en), (cw_eB B), (cw_eN U), (cw_eN F), (cw_eB R), (cw_eT T), fz, va, (cw_eN H), go, pl, em, se, tm, mv) ((nI tn), (nI hn), (nI en), (cw_eT T), fz, (cw_eN hs), be, va, (cw_eT bd), (cw_eT lo), se, hd, pl, sh)) (I : i_Rel k u v) : P u v :=
  I.elim fun A I => I.elim fun L I => I.elim fun B I => I.elim fun R I => I.elim fun U I => I.elim fun H I => I.elim fun F I => I.elim fun fn I => I.elim fun fl I => I.elim fun fh I => I.elim fun T I => I.elim fun hs I => I.elim fun go I => I.elim fun bd I => I.elim fun tn I => I.elim fun hn I => I.elim fun en I => I.elim fun pl I => I.elim fun em I => I.elim fun sh I => I.elim fun lo I => I.elim fun fz I => I.elim fun va I => I.elim fun se I => I.elim fun tm I => I.elim fun mv I => I.elim fun be I => I.elim fun hd I => by
    rw [I.1, I.2.1]
    exact h A L B R U H F fn fl fh T hs go bd tn hn en pl em sh lo fz va se tm mv be hd I.2.2
theorem cw_in {k : Nat} (h : cw_RR A L B R U H F fn fl fh T hs go bd tn hn en pl em sh) : i_Rel k ((nI fn), fl, fh, (cw_pr lo), (nI tn), (nI hn), (nI en), (cw_eB B), (cw_eN U), (cw_eN F), (cw_eB R), (cw_eT T), fz, va, (cw_eN H), go, pl, em, se, tm, mv) ((nI tn), (nI hn), (nI en), (cw_eT T), fz, (cw_eN hs), be, va, (cw_eT bd), (cw_eT lo), se, hd, pl, sh) :=
  ⟨A, L, B, R, U, H, F, fn, fl, fh, T, hs, go, bd, tn, hn, en, pl, em, sh, lo, fz, va, se, tm, mv, be, hd, rfl, rfl, h⟩
/-- a block is had if it stands somewhere -/
theorem cw_held (h : cw_RT A L B R U H F fn fl fh (fun _ => 0) T hs) {b : Nat} (hb : b < 80) : H b ≠ 0 ↔ cw_tc T hs (b + 1) ≠ 0 := by
  constructor
  · intro hh
    obtain ⟨v, p, hv, hp, e⟩ := cw_had_to h.1 hb (show 0 < H b by omega)
    have hT : T v = true := by
      cases q : T v with
      | true => rfl
      | false => rw [h.2.2.1 v hv q] at e; cases e
    have := cw_cn_one (p := cw_tp T hs (b + 1)) (i := 64 * v + p) (N := 384) (by omega) (by
      unfold cw_tp
      rw [show (64 * v + p) / 64 = v by omega, hT, h.2.2.2.1 v p hv hp hT, e]
      simp [cw_oN])
    unfold cw_tc
    omega
  · intro hh
    obtain ⟨x, hx, e⟩ := cw_cn_pos (p := cw_tp T hs (b + 1)) (N := 384) (by unfold cw_tc at hh; omega)
    unfold cw_tp at e
    rw [Bool.and_eq_true] at e
    have e2 := of_decide_eq_true e.2
    have e3 := h.2.2.2.1 (x / 64) (x % 64) (by omega) (by omega) e.1
    rw [show 64 * (x / 64) + x % 64 = x by omega, e2] at e3
    have e4 : cw_f3 B (R (x / 64)) (x % 64) = some b := (cw_oN_inj (x := some b) e3).symm
    have := (cw_had_of h.1 (by omega) (by omega) e4).2
    omega
end
theorem cw_init_Iv : cw_Rq (fun k => if 640 ≤ k then 1 else 0) (fun _ => 0) (fun _ => some 0) (fun v => if v < 6 then none else some 0) (fun _ => 0) (fun _ => 0) (fun k => if k < 160 then 159 - k else 0) 160 (fun _ => 0) := by
  refine ⟨cw_Iv_mk ?_ ?_ ?_ ?_ ?_ ?_ ?_, fun v hv => if_pos (by omega)⟩
  · intro k n hk h1 h3 e
    by_cases q : 640 ≤ k
    · unfold cw_E at e
      rw [if_neg (by omega)] at e
      dsimp only at e
      rw [if_pos (by omega)] at e
      cases e
    · dsimp only at h1
      rw [if_neg q] at h1; omega
  · intro k b hk h4 e
    by_cases q : 640 ≤ k
    · dsimp only at h4
      rw [if_pos q] at h4; omega
    · dsimp only at h4
      rw [if_neg q] at h4; omega
  · refine ⟨fun k hk => Or.inl (if_neg (by omega)), fun k h1 h2 => ?_, fun n hn => Or.inl rfl⟩
    show (if 640 ≤ k then 1 else 0) ≤ 1
    rw [if_pos h1]; omega
  · intro n hn
    refine (Eq.symm (cw_cn_zero (fun i hi => ?_)))
    by_cases e : cw_rn (fun k => if 640 ≤ k then 1 else 0) (cw_E (fun _ => some 0) (fun v => if v < 6 then none else some 0)) n i = true
    · obtain ⟨h1, h3, e2⟩ := cw_rn_t.mp e
      by_cases q : 640 ≤ i
      · unfold cw_E at e2
        rw [if_neg (by omega)] at e2
        dsimp only at e2
        rw [if_pos (by omega)] at e2
        cases e2
      · rw [if_neg q] at h1; omega
    · simpa using e
  · intro b hb
    refine (Eq.symm (cw_cn_zero (fun i hi => ?_)))
    by_cases e : cw_rb (fun k => if 640 ≤ k then 1 else 0) (cw_E (fun _ => some 0) (fun v => if v < 6 then none else some 0)) b i = true
    · obtain ⟨h4, e2⟩ := cw_rb_t.mp e
      by_cases q : 640 ≤ i
      · rw [if_pos q] at h4; omega
      · rw [if_neg q] at h4; omega
    · simpa using e
  · refine ⟨by decide +kernel, fun i hi => ?_, fun i j hi hj e => ?_⟩
    · show (if i < 160 then 159 - i else 0) < 160 ∧ _
      rw [if_pos hi]; exact ⟨by omega, rfl⟩
    · dsimp only at e
      rw [if_pos hi, if_pos hj] at e; omega
  · intro n hn
    exact ⟨fun z => absurd rfl z, fun _ => rfl⟩
theorem cw_init_Fs : cw_Fs (fun _ => 0) (-1) 65535 := by
  have a : ∀ b, b < 80 → cw_FB (-1) 65535 b = true := by decide +kernel
  have c : ∀ b, b < 128 → 80 ≤ b → cw_FB (-1) 65535 b = false := by decide +kernel
  exact ⟨fun b hb => a b hb, fun b h1 h2 => c b h2 h1⟩
section
variable {fl fh : Int64} {pr ft he en : Int32} {fn : Nat} {B R : Nat → Option Nat} {U F H : Nat → Nat} {th fz va go pl em se tm mv : Nat → Int32}
theorem cw_w_init2 {post : SX → Prop} (hp : post ((nI fn), fl, fh, pr, ft, he, en, (cw_eB B), (cw_eN U), (cw_eN F), (cw_eB (fun v => if v < 6 then none else some 0)), th, fz, va, (cw_eN H), go, pl, em, se, tm, mv)) : ∀ d i, i + d = 6 → wX_init_175 post (nI fn) fl fh pr ft he en (d + 1) (nI i) (cw_eB B) (cw_eN U) (cw_eN F) (cw_eB (fun v => if v < i then none else some 0)) th fz va (cw_eN H) go pl em se tm mv := by
  intro d
  induction d with
  | zero =>
    intro i hi
    have hi : i = 6 := by omega
    subst hi
    exact br_t (by decide) hp
  | succ d ih =>
    intro i hi
    refine br_f (nI_ge (b := 6) (by omega) (by decide)) ⟨vp_in_nI (by omega) (by decide), nm_r ((cw_wrB (x := none) rfl (by omega) cw_nm1).trans ?_) (nm_r (nI_1 i) (ih (i + 1) (by omega)))⟩
    congr 1
    funext c
    by_cases q : c = i
    · rw [q, cw_us, if_pos (by omega)]
    · rw [cw_uo q]
      by_cases q2 : c < i
      · rw [if_pos q2, if_pos (by omega)]
      · rw [if_neg q2, if_neg (by omega)]
theorem cw_w_init1 {post : SX → Prop} (hp : post ((nI 160), fl, fh, pr, ft, he, en, (cw_eB B), (cw_eN U), (cw_eN (fun k => if k < 160 then 159 - k else 0)), (cw_eB (fun v => if v < 6 then none else some 0)), th, fz, va, (cw_eN H), go, pl, em, se, tm, mv)) : ∀ d i, i + d = 160 → wX_init_141 post 0 fl fh pr ft he en (d + 1) (nI i) (cw_eB B) (cw_eN U) (cw_eN (fun k => if k < i then 159 - k else 0)) (cw_eB (fun _ => some 0)) th fz va (cw_eN H) go pl em se tm mv := by
  intro d
  induction d with
  | zero =>
    intro i hi
    have hi : i = 160 := by omega
    subst hi
    exact br_t (by decide) ⟨7, cw_w_init2 hp 6 0 rfl⟩
  | succ d ih =>
    intro i hi
    have e : (159 : Int32) - nI i = nI (159 - i) := pk_sub (a := 159) (b := i) (by omega)
    refine br_f (nI_ge (b := 160) (by omega) (by decide)) ⟨vp_in_nI (by omega) (by decide), nm_r ((cw_wrN (x := 159 - i) rfl (by omega) (by rw [e]; exact cw_sns (by omega))).trans ?_) (nm_r (nI_1 i) (ih (i + 1) (by omega)))⟩
    congr 1
    funext c
    by_cases q : c = i
    · rw [q, cw_us, if_pos (by omega)]
    · rw [cw_uo q]
      by_cases q2 : c < i
      · rw [if_pos q2, if_pos (by omega)]
      · rw [if_neg q2, if_neg (by omega)]
end
theorem i_vc0 : wpX_init (fun u => wpY_init (fun v => i_Rel 0 u v)) := by
  refine ⟨161, ?_⟩
  refine cw_w_init1 (B := fun _ => some 0) (U := fun _ => 0) (H := fun _ => 0) ?_ 160 0 rfl
  refine cw_in (k := 0) (T := fun _ => false) (lo := fun _ => false) (hs := fun _ => 0) (bd := fun _ => false) (tn := 0) (hn := 0) (en := 0) (A := fun k => if 640 ≤ k then 1 else 0) (L := fun _ => 0) ?_
  refine ⟨⟨cw_init_Iv, cw_init_Fs, fun v hv _ => if_pos hv, fun v p _ _ e => absurd e Bool.false_ne_true, fun _ => Nat.zero_le _⟩, fun b _ h => absurd rfl h, by decide, by decide, by decide, fun k hk => by omega⟩
end
section
theorem cw_updupd {f : Nat → Int32} {k : Nat} {x y : Int32} : upd (upd f k x) k y = upd f k y := by
  funext j
  by_cases e : j = k
  · rw [e, pk_us, pk_us]
  · rw [pk_un e, pk_un e, pk_un e]
section
variable {A L : Nat → Nat} {B R : Nat → Option Nat} {U H F : Nat → Nat} {fn : Nat} {fl fh : Int64} {T : Nat → Bool} {hs : Nat → Nat} {go : Nat → Int32} {bd : Nat → Bool} {tn hn en : Nat} {pl em sh : Nat → Int32} {lo : Nat → Bool} {fz va se tm mv be hd : Nat → Int32}
theorem cw_w_create {post : Int32 → SX → Prop} {w : Nat} (hw : cw_lv T w) (h6 : w = 6 → post (-2) ((nI fn), fl, fh, (cw_pr lo), (nI tn), (nI hn), (nI en), (cw_eB B), (cw_eN U), (cw_eN F), (cw_eB R), (cw_eT T), fz, va, (cw_eN H), go, pl, em, se, tm, mv)) (hl : w < 6 → post (nI w) ((nI fn), fl, fh, (cw_pr lo), (nI tn), (nI hn), (nI en), (cw_eB B), (cw_eN U), (cw_eN F), (cw_eB (cw_un R w none)), (cw_eT (cw_un T w true)), upd fz w (vp_nar .boolean 0), va, (cw_eN H), go, pl, em, se, tm, mv)) : wpX_create post ((nI fn), fl, fh, (cw_pr lo), (nI tn), (nI hn), (nI en), (cw_eB B), (cw_eN U), (cw_eN F), (cw_eB R), (cw_eT T), fz, va, (cw_eN H), go, pl, em, se, tm, mv) := by
  have h7 := hw.1
  unfold wpX_create
  refine cw_w_unused hw ?_
  refine pk_eq w 6 h6 (fun e => ?_)
  have h6' : w < 6 := by omega
  refine ⟨vp_in_nI h6' (by decide), nm_r (cw_wrT (x := true) rfl (by omega) rfl) ⟨vp_in_nI h6' (by decide), nm_r (by rw [nI_clamp (by omega)]) ⟨vp_in_nI h6' (by decide), nm_r (cw_wrB rfl (by omega) cw_nm1) (hl h6')⟩⟩⟩
theorem cw_y_cl {post : Int32 → SY → Prop} {w : Nat} (hw : w < 6) (hp : post (nI w) ((nI tn), (nI hn), (nI en), (cw_eT T), fz, (cw_eN (fun x => if x / 64 = w then 0 else hs x)), be, va, (cw_eT bd), (cw_eT lo), se, hd, pl, sh)) : ∀ d i, i + d = 64 → wY_create_28 post (nI w) (nI tn) (nI hn) (nI en) (d + 1) (nI i) (cw_eT T) fz (cw_eN (fun x => if x / 64 = w ∧ x % 64 < i then 0 else hs x)) be va (cw_eT bd) (cw_eT lo) se hd pl sh := by
  intro d
  induction d with
  | zero =>
    intro i hi
    have hi : i = 64 := by omega
    subst hi
    have e : (fun x => if x / 64 = w ∧ x % 64 < 64 then 0 else hs x) = (fun x => if x / 64 = w then 0 else hs x) := by
      funext x
      by_cases q : x / 64 = w
      · rw [if_pos q, if_pos ⟨q, by omega⟩]
      · rw [if_neg q, if_neg (fun z => q z.1)]
    rw [e]
    exact br_t (by decide) hp
  | succ d ih =>
    intro i hi
    refine br_f (nI_ge (b := 64) (by omega) (by decide)) ⟨cw_in1 (cw_64 w i) (by omega) (by decide), nm_r ((cw_wrN (x := 0) (cw_64 w i) (by omega) (cw_bn8 (n := 0) (by omega))).trans ?_) (nm_r (nI_1 i) (ih (i + 1) (by omega)))⟩
    congr 1
    funext x
    by_cases q : x = 64 * w + i
    · rw [q, cw_us, if_pos (by omega)]
    · rw [cw_uo q]
      by_cases q2 : x / 64 = w ∧ x % 64 < i
      · rw [if_pos q2, if_pos ⟨q2.1, by omega⟩]
      · rw [if_neg q2, if_neg (by omega)]
theorem cw_y_create {post : Int32 → SY → Prop} {w : Nat} (hw : cw_lv T w) (h6 : w = 6 → post (-2) ((nI tn), (nI hn), (nI en), (cw_eT T), fz, (cw_eN hs), be, va, (cw_eT bd), (cw_eT lo), se, hd, pl, sh)) (hl : w < 6 → post (nI w) ((nI tn), (nI hn), (nI en), (cw_eT (cw_un T w true)), upd fz w (vp_nar .boolean 0), (cw_eN (fun x => if x / 64 = w then 0 else hs x)), be, va, (cw_eT bd), (cw_eT lo), se, hd, pl, sh)) : wpY_create post ((nI tn), (nI hn), (nI en), (cw_eT T), fz, (cw_eN hs), be, va, (cw_eT bd), (cw_eT lo), se, hd, pl, sh) := by
  have h7 := hw.1
  unfold wpY_create
  refine cw_y_least hw ?_
  by_cases e : w = 6
  · rw [if_pos e]
    exact br_f (by decide) (h6 e)
  · rw [if_neg e]
    have h6' : w < 6 := by omega
    refine br_t (nI_pos' (by omega)) ⟨vp_in_nI h6' (by decide), nm_r (cw_wrT (x := true) rfl (by omega) rfl) ⟨vp_in_nI h6' (by decide), nm_r (by rw [nI_clamp (by omega)]) ⟨65, ?_⟩⟩⟩
    have h := cw_y_cl (post := post) h6' (hl h6') 64 0 rfl
    have e2 : (fun x => if x / 64 = w ∧ x % 64 < 0 then 0 else hs x) = hs := by
      funext x; exact if_neg (by omega)
    rw [e2] at h
    exact h
theorem cw_y_sl {post : Int32 → SY → Prop} {v w : Nat} (hv : v < 6) (hw : w < 6) (hne : v ≠ w) (hhs : ∀ x, hs x ≤ 80) (hp : post (nI w) ((nI tn), (nI hn), (nI en), (cw_eT T), fz, (cw_eN (fun x => if x / 64 = w then hs (64 * v + x % 64) else hs x)), be, va, (cw_eT bd), (cw_eT lo), se, hd, pl, sh)) : ∀ d i, i + d = 64 → wY_snapshot_32 post (nI v) (nI w) (nI tn) (nI hn) (nI en) (d + 1) (nI i) (cw_eT T) fz (cw_eN (fun x => if x / 64 = w then (if x % 64 < i then hs (64 * v + x % 64) else 0) else hs x)) be va (cw_eT bd) (cw_eT lo) se hd pl sh := by
  intro d
  induction d with
  | zero =>
    intro i hi
    have hi : i = 64 := by omega
    subst hi
    have e : (fun x => if x / 64 = w then (if x % 64 < 64 then hs (64 * v + x % 64) else 0) else hs x) = (fun x => if x / 64 = w then hs (64 * v + x % 64) else hs x) := by
      funext x
      by_cases q : x / 64 = w
      · rw [if_pos q, if_pos q, if_pos (by omega)]
      · rw [if_neg q, if_neg q]
    rw [e]
    exact br_t (by decide) hp
  | succ d ih =>
    intro i hi
    have hh := hhs (64 * v + i)
    refine br_f (nI_ge (b := 64) (by omega) (by decide)) ⟨cw_in1 (cw_64 v i) (by omega) (by decide), cw_in1 (cw_64 w i) (by omega) (by decide), nm_r ((cw_wrN (x := hs (64 * v + i)) (cw_64 w i) (by omega) ?_).trans ?_) (nm_r (nI_1 i) (ih (i + 1) (by omega)))⟩
    · rw [cw_rdN (cw_64 v i) (by omega), if_neg (by omega)]
      exact cw_bn8 (by omega)
    · congr 1
      funext x
      by_cases q : x = 64 * w + i
      · rw [q, cw_us, if_pos (by omega), if_pos (by omega), show (64 * w + i) % 64 = i by omega]
      · rw [cw_uo q]
        by_cases q2 : x / 64 = w
        · rw [if_pos q2, if_pos q2]
          by_cases q3 : x % 64 < i
          · rw [if_pos q3, if_pos (by omega)]
          · rw [if_neg q3, if_neg (by omega)]
        · rw [if_neg q2, if_neg q2]
theorem cw_y_snapshot {post : Int32 → SY → Prop} {v w : Nat} {p1 : Int32} (hw : cw_lv T w) (hv : v < 6) (ht : T v = true) (hhs : ∀ x, hs x ≤ 80) (h6 : w = 6 → post (-2) ((nI tn), (nI hn), (nI en), (cw_eT T), fz, (cw_eN hs), be, va, (cw_eT bd), (cw_eT lo), se, hd, pl, sh)) (hl : w < 6 → post (nI w) ((nI tn), (nI hn), (nI en), (cw_eT (cw_un T w true)), upd fz w (vp_nar .boolean p1), (cw_eN (fun x => if x / 64 = w then hs (64 * v + x % 64) else hs x)), be, va, (cw_eT bd), (cw_eT lo), se, hd, pl, sh)) : wpY_snapshot post ((nI tn), (nI hn), (nI en), (cw_eT T), fz, (cw_eN hs), be, va, (cw_eT bd), (cw_eT lo), se, hd, pl, sh) (nI v) p1 := by
  unfold wpY_snapshot
  refine cw_y_thT ⟨v, hv, rfl, ht⟩ ?_
  refine br_f (by decide) ?_
  refine cw_y_create hw (fun e => ?_) (fun e => ?_)
  · exact br_f (by decide) (h6 e)
  · have hne : v ≠ w := by intro z; rw [z, hw.2.2 e] at ht; cases ht
    refine br_t (nI_pos' (by omega)) ⟨vp_in_nI e (by decide), nm_r (by rw [nI_clamp (by omega), cw_updupd]) ⟨65, ?_⟩⟩
    have e1 : (fun x => if x / 64 = w then (if x / 64 = w then 0 else hs x) else hs x) = (fun x => if x / 64 = w then 0 else hs x) := by
      funext x
      by_cases q : x / 64 = w
      · rw [if_pos q, if_pos q]
      · rw [if_neg q, if_neg q]
    have h := cw_y_sl (post := post) (hs := hs) hv e hne hhs (hl e) 64 0 rfl
    exact h
theorem cw_w_snapshot {post : Int32 → SX → Prop} {v w : Nat} {p1 : Int32} (hw : cw_lv T w) (hv : v < 6) (ht : T v = true) (hR : ∀ n, R v = some n → n < 160 ∧ U n < 32767) (h6 : w = 6 → post (-2) ((nI fn), fl, fh, (cw_pr lo), (nI tn), (nI hn), (nI en), (cw_eB B), (cw_eN U), (cw_eN F), (cw_eB R), (cw_eT T), fz, va, (cw_eN H), go, pl, em, se, tm, mv)) (hl0 : w < 6 → R v = none → post (nI w) ((nI fn), fl, fh, (cw_pr lo), (nI tn), (nI hn), (nI en), (cw_eB B), (cw_eN U), (cw_eN F), (cw_eB (cw_un R w none)), (cw_eT (cw_un T w true)), upd fz w (vp_nar .boolean p1), va, (cw_eN H), go, pl, em, se, tm, mv)) (hl1 : ∀ n, w < 6 → R v = some n → post (nI w) ((nI fn), fl, fh, (cw_pr lo), (nI tn), (nI hn), (nI en), (cw_eB B), (cw_eN (cw_un U n (U n + 1))), (cw_eN F), (cw_eB (cw_un R w (some n))), (cw_eT (cw_un T w true)), upd fz w (vp_nar .boolean p1), va, (cw_eN H), go, pl, em, se, tm, mv)) : wpX_snapshot post ((nI fn), fl, fh, (cw_pr lo), (nI tn), (nI hn), (nI en), (cw_eB B), (cw_eN U), (cw_eN F), (cw_eB R), (cw_eT T), fz, va, (cw_eN H), go, pl, em, se, tm, mv) (nI v) p1 := by
  have h7 := hw.1
  unfold wpX_snapshot
  refine cw_w_thT ⟨v, hv, rfl, ht⟩ ?_
  refine br_f (by decide) ?_
  refine cw_w_unused hw ?_
  refine pk_eq w 6 h6 (fun e => ?_)
  have h6' : w < 6 := by omega
  have hne : v ≠ w := by intro z; rw [z, hw.2.2 h6'] at ht; cases ht
  refine ⟨vp_in_nI h6' (by decide), nm_r (cw_wrT (x := true) rfl (by omega) rfl) ⟨vp_in_nI h6' (by decide), nm_r (by rw [nI_clamp (by omega)]) ⟨vp_in_nI hv (by decide), vp_in_nI h6' (by decide), nm_r (cw_wrB (x := R v) rfl (by omega) (by rw [cw_rdB rfl (by omega)]; exact cw_eO_sn (fun n q => by have := (hR n q).1; omega))) ⟨vp_in_nI hv (by decide), ?_⟩⟩⟩⟩
  have er : cw_un R w (R v) v = R v := cw_uo hne
  rw [cw_rdB rfl (by omega), er]
  refine cw_on rfl (fun n q => by have := (hR n q).1; omega) (fun q => ?_) (fun n q => ?_)
  · rw [q]; exact hl0 h6' q
  · obtain ⟨y1, y2⟩ := hR n q
    rw [q]
    refine ⟨vp_in_nI hv (by decide), vp_in_nI y1 (by decide), vp_in_nI y1 (by decide), nm_r (cw_wrN rfl (by omega) (by rw [cw_rdN (show cw_eO (some n) = nI n from rfl) (by omega)]; exact cw_incn y2)) ?_⟩
    exact hl1 n h6' q
/-- a root becomes a second reference -/
theorem cw_Rq_share {n w : Nat} {Q : Nat → Nat} (h : cw_Rq A L B R U H F fn Q) (hw : w < 6) (hR : R w = none) (hn : n < 160) (hL : L n = 2) (hf : cw_fu A n 2) : cw_Rq A L B (cw_un R w (some n)) (cw_un U n (U n + 1)) H F fn Q := by
  have hA := h.2 w hw
  have d := cw_deN (k := 640 + w) h.1 (by omega) (by omega) (by omega) (fun z => by omega)
  rw [cw_E_r, hR, cw_ad_0] at d
  have s := cw_wr (k := 640 + w) (x := some n) d cw_us
  rw [← cw_E_ur] at s
  have i := cw_inN (n := n) s (by omega)
  have a := cw_acN2 (k := 640 + w) (a := 1) i (by rw [cw_E_r, cw_us]) (by omega) cw_us (by omega) (by omega) (fun z => by omega) (fun _ => rfl) (fun m e => by
    cases e
    exact ⟨hn, hL, fun j hj => by rw [cw_uo (by omega)]; exact hf j hj⟩)
  rw [cw_uu, cw_uself hA] at a
  exact ⟨a, h.2⟩
end
section
variable {k : Nat} {u : SX} {v : SY}
theorem i_vc_create {k : Nat} {u : SX} {v : SY} (I : i_Rel k u v) (hk : k + 6 ≤ 3072) : wpX_create (fun r u' => wpY_create (fun r' v' => r' = r ∧ i_Rel (k + 6) u' v') v) u := by
  refine cw_el (P := fun u v => wpX_create (fun r u' => wpY_create (fun r' v' => r' = r ∧ i_Rel (k + 6) u' v') v) u) ?_ I
  intro A L B R U H F fn fl fh T hs go bd tn hn en pl em sh lo fz va se tm mv be hd h
  obtain ⟨w, hw⟩ := cw_lv_ex T
  refine cw_w_create hw (fun e => ?_) (fun e => ?_)
  · exact cw_y_create hw (fun _ => ⟨rfl, cw_in h⟩) (fun z => by omega)
  · refine cw_y_create hw (fun z => by omega) (fun _ => ⟨rfl, cw_in (A := A) (L := L) ?_⟩)
    have hR := h.1.2.2.1 w e (hw.2.2 e)
    rw [cw_uself hR]
    refine ⟨⟨h.1.1, h.1.2.1, fun v hv ht => ?_, fun v p hv hp ht => ?_, fun x => ?_⟩, h.2⟩
    · by_cases q : v = w
      · rw [q, cw_us] at ht; cases ht
      · rw [cw_uo q] at ht; exact h.1.2.2.1 v hv ht
    · dsimp only
      by_cases q : v = w
      · rw [if_pos (by omega), q, hR]; rfl
      · rw [cw_uo q] at ht
        rw [if_neg (by omega)]; exact h.1.2.2.2.1 v p hv hp ht
    · dsimp only
      by_cases q : x / 64 = w
      · rw [if_pos q]; omega
      · rw [if_neg q]; exact h.1.2.2.2.2 x
theorem i_vc_snapshot {k : Nat} {u : SX} {v : SY} (I : i_Rel k u v) (hk : k + 6 ≤ 3072) (v1 : Int32) (v2 : Int32) : wpX_snapshot (fun r u' => wpY_snapshot (fun r' v' => r' = r ∧ i_Rel (k + 6) u' v') v v1 (lw_bz v2)) u v1 (lw_bz v2) := by
  refine cw_el (P := fun u v => wpX_snapshot (fun r u' => wpY_snapshot (fun r' v' => r' = r ∧ i_Rel (k + 6) u' v') v v1 (lw_bz v2)) u v1 (lw_bz v2)) ?_ I
  intro A L B R U H F fn fl fh T hs go bd tn hn en pl em sh lo fz va se tm mv be hd h
  by_cases ok : cw_ok T v1
  · obtain ⟨v0, hv, rfl, ht⟩ := ok
    obtain ⟨w, hw⟩ := cw_lv_ex T
    have key : ∀ (R' : Nat → Option Nat) (U' : Nat → Nat), w < 6 → R' = cw_un R w (R v0) → cw_Rq A L B R' U' H F fn (fun _ => 0) → cw_RR A L B R' U' H F fn fl fh (cw_un T w true) (fun x => if x / 64 = w then hs (64 * v0 + x % 64) else hs x) go bd tn hn en pl em sh := by
      intro R' U' e hR' hq
      refine ⟨⟨hq, h.1.2.1, fun v hv' ht' => ?_, fun v p hv' hp ht' => ?_, fun x => ?_⟩, h.2⟩
      · by_cases q : v = w
        · rw [q, cw_us] at ht'; cases ht'
        · rw [cw_uo q] at ht'; rw [hR', cw_uo q]; exact h.1.2.2.1 v hv' ht'
      · dsimp only
        by_cases q : v = w
        · rw [if_pos (by omega), q, hR', cw_us, show (64 * w + p) % 64 = p by omega]
          exact h.1.2.2.2.1 v0 p hv hp ht
        · rw [cw_uo q] at ht'
          rw [if_neg (by omega), hR', cw_uo q]; exact h.1.2.2.2.1 v p hv' hp ht'
      · dsimp only
        by_cases q : x / 64 = w
        · rw [if_pos q]; exact h.1.2.2.2.2 _
        · rw [if_neg q]; exact h.1.2.2.2.2 x
    refine cw_w_snapshot hw hv ht (fun n q => ?_) (fun e => ?_) (fun e q => ?_) (fun n e q => ?_)
    · have y := (cw_root h.1.1.1 hv (h.1.1.2 v0 hv) q).1
      have := cw_U_le h.1.1.1 y
      exact ⟨y, by omega⟩
    · exact cw_y_snapshot hw hv ht h.1.2.2.2.2 (fun _ => ⟨rfl, cw_in h⟩) (fun z => by omega)
    · refine cw_y_snapshot hw hv ht h.1.2.2.2.2 (fun z => by omega) (fun _ => ⟨rfl, cw_in (key _ _ e ?_ ?_)⟩)
      · rw [q]
      · rw [cw_uself (h.1.2.2.1 w e (hw.2.2 e))]; exact h.1.1
    · refine cw_y_snapshot hw hv ht h.1.2.2.2.2 (fun z => by omega) (fun _ => ⟨rfl, cw_in (key _ _ e ?_ ?_)⟩)
      · rw [q]
      · obtain ⟨y1, y2, y3⟩ := cw_root h.1.1.1 hv (h.1.1.2 v0 hv) q
        exact cw_Rq_share h.1.1 e (h.1.2.2.1 w e (hw.2.2 e)) y1 y2 y3
  · unfold wpX_snapshot
    refine cw_w_thF ok (br_t rfl ?_)
    show wpY_snapshot _ _ _ _
    unfold wpY_snapshot
    refine cw_y_thF ok (br_t rfl ?_)
    exact ⟨rfl, cw_in h⟩
end
end
section
/-- a copy is healed when block b is looked at -/
def cw_hl (bd lo : Nat → Bool) (b : Nat) : Bool := (bd b && !bd (80 + b) && !lo 0) || (bd (80 + b) && !bd b && !lo 1)
def cw_hn (z : Bool) (hn : Nat) : Nat := if z then (if hn = 999999 then 0 else hn + 1) else hn
def cw_bd (z : Bool) (bd : Nat → Bool) (b : Nat) : Nat → Bool := if z then cw_un (cw_un bd b false) (80 + b) false else bd
def cw_go (z : Bool) (go : Nat → Int32) (b : Nat) : Nat → Int32 := if z then upd go b 3 else go
theorem cw_hn_le {z : Bool} {hn : Nat} (h : hn ≤ 999999) : cw_hn z hn ≤ 999999 := by
  unfold cw_hn
  by_cases q : z = true
  · rw [if_pos q]
    by_cases q2 : hn = 999999
    · rw [if_pos q2]; omega
    · rw [if_neg q2]; omega
  · rw [if_neg q]; exact h
theorem cw_GD_look {H : Nat → Nat} {go : Nat → Int32} {bd : Nat → Bool} {z : Bool} {b : Nat} (h : cw_GD H go bd) (hb : b < 80) : cw_GD H (cw_go z go b) (cw_bd z bd b) := by
  cases z with
  | false => exact h
  | true =>
    intro c hc hH
    show upd go b 3 c = cw_gI (cw_un (cw_un bd b false) (80 + b) false c) (cw_un (cw_un bd b false) (80 + b) false (80 + c))
    by_cases q : c = b
    · rw [q, pk_us, cw_us, cw_uo (by omega), cw_us]; rfl
    · rw [pk_un q, cw_uo (by omega), cw_uo q, cw_uo (by omega), cw_uo (by omega)]
      exact h c hc hH
section
variable {A L : Nat → Nat} {B R : Nat → Option Nat} {U H F : Nat → Nat} {fn : Nat} {fl fh : Int64} {T : Nat → Bool} {hs : Nat → Nat} {go : Nat → Int32} {bd : Nat → Bool} {tn hn en : Nat} {pl em sh : Nat → Int32} {lo : Nat → Bool} {fz va se tm mv be hd : Nat → Int32}
theorem cw_w_look {post : Int32 → SX → Prop} {b : Nat} (hb : b < 80) (hn9 : hn ≤ 999999) (hg : go b = cw_gI (bd b) (bd (80 + b))) (h0 : bd b = true → bd (80 + b) = true → post 0 ((nI fn), fl, fh, (cw_pr lo), (nI tn), (nI hn), (nI en), (cw_eB B), (cw_eN U), (cw_eN F), (cw_eB R), (cw_eT T), fz, va, (cw_eN H), go, pl, em, se, tm, mv)) (h1 : ¬ (bd b = true ∧ bd (80 + b) = true) → post 1 ((nI fn), fl, fh, (cw_pr lo), (nI tn), (nI (cw_hn (cw_hl bd lo b) hn)), (nI en), (cw_eB B), (cw_eN U), (cw_eN F), (cw_eB R), (cw_eT T), fz, va, (cw_eN H), cw_go (cw_hl bd lo b) go b, pl, em, se, tm, mv)) : wpX_look post ((nI fn), fl, fh, (cw_pr lo), (nI tn), (nI hn), (nI en), (cw_eB B), (cw_eN U), (cw_eN F), (cw_eB R), (cw_eT T), fz, va, (cw_eN H), go, pl, em, se, tm, mv) (nI b) := by
  have hv : vp_in (nI b) 80 := vp_in_nI hb (by decide)
  have hc : (nI b).toNatClampNeg = b := nI_clamp (by omega)
  unfold wpX_look
  refine ⟨hv, ?_⟩
  rw [hc, hg]
  have no : ∀ z, cw_hl bd lo b = z → z = false → ((nI fn), fl, fh, (cw_pr lo), (nI tn), (nI (cw_hn (cw_hl bd lo b) hn)), (nI en), (cw_eB B), (cw_eN U), (cw_eN F), (cw_eB R), (cw_eT T), fz, va, (cw_eN H), cw_go (cw_hl bd lo b) go b, pl, em, se, tm, mv) = ((nI fn), fl, fh, (cw_pr lo), (nI tn), (nI hn), (nI en), (cw_eB B), (cw_eN U), (cw_eN F), (cw_eB R), (cw_eT T), fz, va, (cw_eN H), go, pl, em, se, tm, mv) := by
    intro z e1 e2
    rw [e1, e2]; rfl
  have heal : cw_hl bd lo b = true → post 1 ((nI fn), fl, fh, (cw_pr lo), (nI tn), (nI (cw_hn (cw_hl bd lo b) hn)), (nI en), (cw_eB B), (cw_eN U), (cw_eN F), (cw_eB R), (cw_eT T), fz, va, (cw_eN H), cw_go (cw_hl bd lo b) go b, pl, em, se, tm, mv) → vp_in (nI b) 80 ∧ ∀ a_good_8 : Nat → Int32, a_good_8 = upd go b (vp_nar .byte 3) → ((nI hn = 999999 → post 1 ((nI fn), fl, fh, (cw_pr lo), (nI tn), 0, (nI en), (cw_eB B), (cw_eN U), (cw_eN F), (cw_eB R), (cw_eT T), fz, va, (cw_eN H), a_good_8, pl, em, se, tm, mv)) ∧ (¬ nI hn = 999999 → ∀ f_healed_10 : Int32, f_healed_10 = nI hn + 1 → post 1 ((nI fn), fl, fh, (cw_pr lo), (nI tn), f_healed_10, (nI en), (cw_eB B), (cw_eN U), (cw_eN F), (cw_eB R), (cw_eT T), fz, va, (cw_eN H), a_good_8, pl, em, se, tm, mv))) := by
    intro e1 hp
    rw [e1] at hp
    refine ⟨hv, nm_r (show upd go b (vp_nar .byte 3) = upd go b 3 from congrArg _ (cw_bn8 (n := 3) (by omega))) ?_⟩
    refine pk_eq hn 999999 (fun q => ?_) (fun q => nm_r (nI_1 hn) ?_)
    · have e2 : cw_hn true hn = 0 := by unfold cw_hn; rw [if_pos rfl, if_pos q]
      rw [e2] at hp; exact hp
    · have e2 : cw_hn true hn = hn + 1 := by unfold cw_hn; rw [if_pos rfl, if_neg q]
      rw [e2] at hp; exact hp
  have hpr : cw_pr lo = cw_gI (lo 0) (lo 1) := rfl
  cases ha : bd b with
  | true =>
    cases hd2 : bd (80 + b) with
    | true => exact br_t rfl (h0 ha hd2)
    | false =>
      have hp := h1 (by rw [hd2]; exact fun z => absurd z.2 Bool.false_ne_true)
      refine br_f (by decide) ⟨hv, br_f (by decide) ⟨hv, ?_⟩⟩
      cases hl0 : lo 0 with
      | true =>
        rw [no false (by unfold cw_hl; rw [ha, hd2, hl0]; rfl) rfl] at hp
        refine br_t ?_ hp
        rw [hpr, hl0]
        cases lo 1 <;> decide
      | false =>
        refine br_f ?_ (heal (by unfold cw_hl; rw [ha, hd2, hl0]; rfl) hp)
        rw [hpr, hl0]
        cases lo 1 <;> decide
  | false =>
    have hp := h1 (by rw [ha]; exact fun z => absurd z.1 Bool.false_ne_true)
    cases hd2 : bd (80 + b) with
    | false =>
      rw [no false (by unfold cw_hl; rw [ha, hd2]; rfl) rfl] at hp
      exact br_f (by decide) ⟨hv, br_t rfl hp⟩
    | true =>
      refine br_f (by decide) ⟨hv, br_f (by decide) ⟨hv, ?_⟩⟩
      cases hl1 : lo 1 with
      | true =>
        rw [no false (by unfold cw_hl; rw [ha, hd2, hl1]; cases lo 0 <;> rfl) rfl] at hp
        refine br_t ?_ hp
        rw [hpr, hl1]
        cases lo 0 <;> decide
      | false =>
        refine br_f ?_ (heal (by unfold cw_hl; rw [ha, hd2, hl1]; cases lo 0 <;> rfl) hp)
        rw [hpr, hl1]
        cases lo 0 <;> decide
/-- the end of the reference's look -/
theorem cw_y_lkE {post : Int64 → SY → Prop} {b m : Nat} {n : Nat} (hb : b < 80) (hm : m ≤ 1000000) (hp : post (va b).toInt64 ((nI tn), (nI (if m = 1000000 then 0 else m)), (nI en), (cw_eT T), fz, (cw_eN hs), be, va, (cw_eT bd), (cw_eT lo), se, hd, pl, sh)) : wY_look_27 post (nI b) (nI tn) (nI en) (n + 1) (nI 2) (nI m) (cw_eT T) fz (cw_eN hs) be va (cw_eT bd) (cw_eT lo) se hd pl sh := by
  refine br_t (by decide) (pk_le m 999999 (fun q => ⟨vp_in_nI hb (by decide), ?_⟩) (fun q => ?_))
  · rw [if_neg (by omega)] at hp
    rw [nI_clamp (by omega)]; exact hp
  · refine nm_r (e' := nI 0) (by rw [show m = 1000000 by omega]; decide) ⟨vp_in_nI hb (by decide), ?_⟩
    rw [if_pos (by omega)] at hp
    rw [nI_clamp (by omega)]; exact hp
/-- a turn of the reference's look: nothing to heal at disk d -/
theorem cw_y_lkN {post : Int64 → SY → Prop} {b m d n : Nat} (hb : b < 80) (hd2 : d < 2) (hq : bd (80 * d + b) = false ∨ lo d = true) (hp : wY_look_27 post (nI b) (nI tn) (nI en) n (nI (d + 1)) (nI m) (cw_eT T) fz (cw_eN hs) be va (cw_eT bd) (cw_eT lo) se hd pl sh) : wY_look_27 post (nI b) (nI tn) (nI en) (n + 1) (nI d) (nI m) (cw_eT T) fz (cw_eN hs) be va (cw_eT bd) (cw_eT lo) se hd pl sh := by
  refine br_f (nI_ge (b := 2) hd2 (by decide)) ⟨cw_in1 (cw_80 d b) (by omega) (by decide), ?_⟩
  rw [cw_rdT (cw_80 d b) (by omega)]
  refine cw_bt (fun e => nm_r (nI_1 d) hp) (fun e => ⟨vp_in_nI hd2 (by decide), ?_⟩)
  rw [cw_rdT rfl (by omega)]
  refine cw_bt (fun e2 => ?_) (fun e2 => nm_r (nI_1 d) hp)
  rcases hq with q | q
  · rw [q] at e; cases e
  · rw [q] at e2; cases e2
theorem cw_y_lkH {post : Int64 → SY → Prop} {b m d n : Nat} (hb : b < 80) (hd2 : d < 2) (h1 : bd (80 * d + b) = true) (h2 : lo d = false) (hp : wY_look_27 post (nI b) (nI tn) (nI en) n (nI (d + 1)) (nI (m + 1)) (cw_eT T) fz (cw_eN hs) be va (cw_eT (cw_un bd (80 * d + b) false)) (cw_eT lo) se hd pl sh) : wY_look_27 post (nI b) (nI tn) (nI en) (n + 1) (nI d) (nI m) (cw_eT T) fz (cw_eN hs) be va (cw_eT bd) (cw_eT lo) se hd pl sh := by
  refine br_f (nI_ge (b := 2) hd2 (by decide)) ⟨cw_in1 (cw_80 d b) (by omega) (by decide), ?_⟩
  rw [cw_rdT (cw_80 d b) (by omega), h1]
  refine br_f (by decide) ⟨vp_in_nI hd2 (by decide), ?_⟩
  rw [cw_rdT rfl (by omega), h2]
  refine br_t rfl ⟨cw_in1 (cw_80 d b) (by omega) (by decide), nm_r (cw_wrT (x := false) (cw_80 d b) (by omega) rfl) (nm_r (nI_1 m) (nm_r (nI_1 d) hp))⟩
theorem cw_y_look {post : Int64 → SY → Prop} {b : Nat} (hb : b < 80) (hn9 : hn ≤ 999999) (h0 : bd b = true → bd (80 + b) = true → post 1000000000001 ((nI tn), (nI hn), (nI en), (cw_eT T), fz, (cw_eN hs), be, va, (cw_eT bd), (cw_eT lo), se, hd, pl, sh)) (h1 : ¬ (bd b = true ∧ bd (80 + b) = true) → post (va b).toInt64 ((nI tn), (nI (cw_hn (cw_hl bd lo b) hn)), (nI en), (cw_eT T), fz, (cw_eN hs), be, va, (cw_eT (cw_bd (cw_hl bd lo b) bd b)), (cw_eT lo), se, hd, pl, sh)) : wpY_look post ((nI tn), (nI hn), (nI en), (cw_eT T), fz, (cw_eN hs), be, va, (cw_eT bd), (cw_eT lo), se, hd, pl, sh) (nI b) := by
  have e0 : 80 * 0 + b = b := by omega
  have e1 : 80 * 1 + b = 80 + b := by omega
  have e80 : (80 : Int32) + nI b = nI (80 + b) := nI_add 80 b
  have fin : ∀ z, cw_hl bd lo b = z → z = false → post (va b).toInt64 ((nI tn), (nI (cw_hn (cw_hl bd lo b) hn)), (nI en), (cw_eT T), fz, (cw_eN hs), be, va, (cw_eT (cw_bd (cw_hl bd lo b) bd b)), (cw_eT lo), se, hd, pl, sh) → post (va b).toInt64 ((nI tn), (nI (if hn = 1000000 then 0 else hn)), (nI en), (cw_eT T), fz, (cw_eN hs), be, va, (cw_eT bd), (cw_eT lo), se, hd, pl, sh) := by
    intro z q1 q2 hp
    rw [q1, q2] at hp
    rw [if_neg (by omega)]; exact hp
  have finH : ∀ bd', cw_hl bd lo b = true → cw_bd true bd b = bd' → post (va b).toInt64 ((nI tn), (nI (cw_hn (cw_hl bd lo b) hn)), (nI en), (cw_eT T), fz, (cw_eN hs), be, va, (cw_eT (cw_bd (cw_hl bd lo b) bd b)), (cw_eT lo), se, hd, pl, sh) → post (va b).toInt64 ((nI tn), (nI (if hn + 1 = 1000000 then 0 else hn + 1)), (nI en), (cw_eT T), fz, (cw_eN hs), be, va, (cw_eT bd'), (cw_eT lo), se, hd, pl, sh) := by
    intro bd' q1 q2 hp
    rw [q1, q2] at hp
    have e : cw_hn true hn = if hn + 1 = 1000000 then 0 else hn + 1 := by
      unfold cw_hn
      rw [if_pos rfl]
      by_cases q : hn = 999999
      · rw [if_pos q, if_pos (by omega)]
      · rw [if_neg q, if_neg (by omega)]
    rw [e] at hp; exact hp
  -- the loop
  have loop : ¬ (bd b = true ∧ bd (80 + b) = true) → ∃ n27 : Nat, wY_look_27 post (nI b) (nI tn) (nI en) n27 0 (nI hn) (cw_eT T) fz (cw_eN hs) be va (cw_eT bd) (cw_eT lo) se hd pl sh := by
    intro hnb
    have hp := h1 hnb
    refine ⟨3, ?_⟩
    show wY_look_27 post (nI b) (nI tn) (nI en) 3 (nI 0) (nI hn) (cw_eT T) fz (cw_eN hs) be va (cw_eT bd) (cw_eT lo) se hd pl sh
    cases ha : bd b with
    | true =>
      have hd2 : bd (80 + b) = false := by
        cases q : bd (80 + b) with
        | false => rfl
        | true => exact absurd ⟨ha, q⟩ hnb
      cases hl0 : lo 0 with
      | true =>
        have hz : cw_hl bd lo b = false := by unfold cw_hl; rw [ha, hd2, hl0]; rfl
        exact cw_y_lkN hb (by omega) (Or.inr hl0) (cw_y_lkN hb (by omega) (Or.inl (by rw [e1]; exact hd2)) (cw_y_lkE hb (by omega) (fin false hz rfl hp)))
      | false =>
        have hz : cw_hl bd lo b = true := by unfold cw_hl; rw [ha, hd2, hl0]; rfl
        refine cw_y_lkH hb (by omega) (by rw [e0]; exact ha) hl0 ?_
        rw [e0]
        refine cw_y_lkN hb (by omega) (Or.inl (by rw [e1, cw_uo (by omega)]; exact hd2)) (cw_y_lkE hb (by omega) (finH _ hz ?_ hp))
        show cw_un (cw_un bd b false) (80 + b) false = _
        exact cw_uself (by rw [cw_uo (by omega)]; exact hd2)
    | false =>
      cases hd2 : bd (80 + b) with
      | false =>
        have hz : cw_hl bd lo b = false := by unfold cw_hl; rw [ha, hd2]; rfl
        exact cw_y_lkN hb (by omega) (Or.inl (by rw [e0]; exact ha)) (cw_y_lkN hb (by omega) (Or.inl (by rw [e1]; exact hd2)) (cw_y_lkE hb (by omega) (fin false hz rfl hp)))
      | true =>
        cases hl1 : lo 1 with
        | true =>
          have hz : cw_hl bd lo b = false := by unfold cw_hl; rw [ha, hd2, hl1]; cases lo 0 <;> rfl
          exact cw_y_lkN hb (by omega) (Or.inl (by rw [e0]; exact ha)) (cw_y_lkN hb (by omega) (Or.inr hl1) (cw_y_lkE hb (by omega) (fin false hz rfl hp)))
        | false =>
          have hz : cw_hl bd lo b = true := by unfold cw_hl; rw [ha, hd2, hl1]; cases lo 0 <;> rfl
          refine cw_y_lkN hb (by omega) (Or.inl (by rw [e0]; exact ha)) (cw_y_lkH hb (by omega) (by rw [e1]; exact hd2) hl1 ?_)
          rw [e1]
          refine cw_y_lkE hb (by omega) (finH _ hz ?_ hp)
          show cw_un (cw_un bd b false) (80 + b) false = _
          rw [cw_uself ha]
  unfold wpY_look
  refine ⟨vp_in_nI (by omega) (by decide), ?_⟩
  rw [cw_rdT rfl (by omega)]
  refine cw_bt (fun e => loop (by rw [e]; exact fun z => absurd z.1 Bool.false_ne_true)) (fun e => ⟨cw_in1 e80 (by omega) (by decide), ?_⟩)
  rw [cw_rdT e80 (by omega)]
  exact cw_bt (fun e2 => loop (by rw [e2]; exact fun z => absurd z.2 Bool.false_ne_true)) (fun e2 => h0 e e2)
end
end
section
theorem cw_oN_m1 {x : Option Nat} : nI (cw_oN x) - 1 = cw_eO x := by
  cases x with
  | none => decide
  | some b => exact nI_pred b
section
variable {A L : Nat → Nat} {B R : Nat → Option Nat} {U H F : Nat → Nat} {fn : Nat} {fl fh : Int64} {T : Nat → Bool} {hs : Nat → Nat} {go : Nat → Int32} {bd : Nat → Bool} {tn hn en : Nat} {pl em sh : Nat → Int32} {lo : Nat → Bool} {fz va se tm mv be hd : Nat → Int32}
theorem cw_w_baT {post : Int32 → Prop} {v p : Nat} {Q : Nat → Nat} (h : cw_Rq A L B R U H F fn Q) (hv : v < 6) (ht : T v = true) (hp : p < 64) (hpost : post (cw_eO (cw_f3 B (R v) p))) : wpX_blockAt post ((nI fn), fl, fh, (cw_pr lo), (nI tn), (nI hn), (nI en), (cw_eB B), (cw_eN U), (cw_eN F), (cw_eB R), (cw_eT T), fz, va, (cw_eN H), go, pl, em, se, tm, mv) (nI v) (nI p) := by
  unfold wpX_blockAt
  refine cw_w_thT ⟨v, hv, rfl, ht⟩ ?_
  refine br_f (by decide) ?_
  refine cw_amT (cw_am_nI (n := 64) hp (by decide)) ?_
  refine br_f (by decide) ?_
  exact cw_w_find h hv hp hpost
theorem cw_w_baF {post : Int32 → Prop} {v p : Int32} (h : ¬ (cw_ok T v ∧ cw_am p 64)) (hpost : post (-1)) : wpX_blockAt post ((nI fn), fl, fh, (cw_pr lo), (nI tn), (nI hn), (nI en), (cw_eB B), (cw_eN U), (cw_eN F), (cw_eB R), (cw_eT T), fz, va, (cw_eN H), go, pl, em, se, tm, mv) v p := by
  unfold wpX_blockAt
  by_cases a : cw_ok T v
  · refine cw_w_thT a ?_
    refine br_f (by decide) ?_
    refine cw_amF (fun z => h ⟨a, z⟩) ?_
    exact br_t rfl hpost
  · refine cw_w_thF a ?_
    exact br_t rfl hpost
theorem cw_y_baT {post : Int32 → Prop} {v p : Nat} {x : Option Nat} (hv : v < 6) (ht : T v = true) (hp : p < 64) (e : hs (64 * v + p) = cw_oN x) (hpost : post (cw_eO x)) : wpY_blockAt post ((nI tn), (nI hn), (nI en), (cw_eT T), fz, (cw_eN hs), be, va, (cw_eT bd), (cw_eT lo), se, hd, pl, sh) (nI v) (nI p) := by
  unfold wpY_blockAt
  refine cw_y_thT ⟨v, hv, rfl, ht⟩ ?_
  refine br_f (by decide) ?_
  refine cw_ouT (cw_am_nI (n := 64) hp (by decide)) ?_
  refine br_t rfl ⟨cw_in1 (cw_64 v p) (by omega) (by decide), ?_⟩
  rw [cw_rdN (cw_64 v p) (by omega), e, cw_oN_m1]
  exact hpost
theorem cw_y_baF {post : Int32 → Prop} {v p : Int32} (h : ¬ (cw_ok T v ∧ cw_am p 64)) (hpost : post (-1)) : wpY_blockAt post ((nI tn), (nI hn), (nI en), (cw_eT T), fz, (cw_eN hs), be, va, (cw_eT bd), (cw_eT lo), se, hd, pl, sh) v p := by
  unfold wpY_blockAt
  by_cases a : cw_ok T v
  · refine cw_y_thT a ?_
    refine br_f (by decide) ?_
    refine cw_ouF (fun z => h ⟨a, z⟩) ?_
    exact br_f (by decide) hpost
  · refine cw_y_thF a ?_
    exact br_t rfl hpost
/-- the relation behind a look -/
theorem cw_RR_look {b : Nat} {z : Bool} (h : cw_RR A L B R U H F fn fl fh T hs go bd tn hn en pl em sh) (hb : b < 80) : cw_RR A L B R U H F fn fl fh T hs (cw_go z go b) (cw_bd z bd b) tn (cw_hn z hn) en pl em sh :=
  ⟨h.1, cw_GD_look h.2.1 hb, h.2.2.1, cw_hn_le h.2.2.2.1, h.2.2.2.2⟩
end
theorem i_vc_blockAt {k : Nat} {u : SX} {v : SY} (I : i_Rel k u v) (hk : k + 6 ≤ 3072) (v1 : Int32) (v2 : Int32) : wpX_blockAt (fun r => wpY_blockAt (fun r' => r' = r ∧ i_Rel (k + 6) u v) v v1 v2) u v1 v2 := by
  refine cw_el (P := fun u v => wpX_blockAt (fun r => wpY_blockAt (fun r' => r' = r ∧ i_Rel (k + 6) u v) v v1 v2) u v1 v2) ?_ I
  intro A L B R U H F fn fl fh T hs go bd tn hn en pl em sh lo fz va se tm mv be hd h
  by_cases a : cw_ok T v1 ∧ cw_am v2 64
  · obtain ⟨⟨v0, hv, rfl, ht⟩, a2⟩ := a
    obtain ⟨p, hp, rfl⟩ := cw_am_of (n := 64) (by decide) rfl a2
    refine cw_w_baT h.1.1 hv ht hp ?_
    exact cw_y_baT hv ht hp (h.1.2.2.2.1 v0 p hv hp ht) ⟨rfl, cw_in h⟩
  · refine cw_w_baF a ?_
    exact cw_y_baF a ⟨rfl, cw_in h⟩
theorem i_vc_read {k : Nat} {u : SX} {v : SY} (I : i_Rel k u v) (hk : k + 6 ≤ 3072) (v1 : Int32) (v2 : Int32) : wpX_read (fun r u' => wpY_read (fun r' v' => r' = r ∧ i_Rel (k + 6) u' v') v v1 v2) u v1 v2 := by
  refine cw_el (P := fun u v => wpX_read (fun r u' => wpY_read (fun r' v' => r' = r ∧ i_Rel (k + 6) u' v') v v1 v2) u v1 v2) ?_ I
  intro A L B R U H F fn fl fh T hs go bd tn hn en pl em sh lo fz va se tm mv be hd h
  unfold wpX_read
  by_cases a : cw_ok T v1 ∧ cw_am v2 64
  · obtain ⟨⟨v0, hv, rfl, ht⟩, a2⟩ := a
    obtain ⟨p, hp, rfl⟩ := cw_am_of (n := 64) (by decide) rfl a2
    have e := h.1.2.2.2.1 v0 p hv hp ht
    refine cw_w_baT h.1.1 hv ht hp ?_
    cases hf : cw_f3 B (R v0) p with
    | none =>
      refine br_f (by decide) ?_
      show wpY_read _ _ _ _
      unfold wpY_read
      refine cw_y_baT hv ht hp e ?_
      rw [hf]
      exact br_f (by decide) ⟨rfl, cw_in h⟩
    | some b =>
      obtain ⟨hb, hH⟩ := cw_had_of h.1.1 hv hp hf
      have hg := h.2.1 b hb (by omega)
      refine br_t (nI_pos' (by omega)) ?_
      refine cw_w_look hb h.2.2.2.1 hg (fun q1 q2 => ?_) (fun q => ?_)
      · refine br_t rfl ?_
        show wpY_read _ _ _ _
        unfold wpY_read
        refine cw_y_baT hv ht hp e ?_
        rw [hf]
        refine br_t (nI_pos' (by omega)) ?_
        exact cw_y_look hb h.2.2.2.1 (fun _ _ => ⟨rfl, cw_in h⟩) (fun z => absurd ⟨q1, q2⟩ z)
      · refine br_f (by decide) ⟨vp_in_nI hb (by decide), ?_⟩
        show wpY_read _ _ _ _
        unfold wpY_read
        refine cw_y_baT hv ht hp e ?_
        rw [hf]
        refine br_t (nI_pos' (by omega)) ?_
        refine cw_y_look hb h.2.2.2.1 (fun x y => absurd ⟨x, y⟩ q) (fun z => ⟨?_, cw_in (cw_RR_look h hb)⟩)
        rw [show (cw_eO (some b)).toNatClampNeg = b from nI_clamp (by omega)]
  · refine cw_w_baF a ?_
    refine br_f (by decide) ?_
    show wpY_read _ _ _ _
    unfold wpY_read
    refine cw_y_baF a ?_
    exact br_f (by decide) ⟨rfl, cw_in h⟩
theorem cw_gbit0 {a c : Bool} : ((cw_gI a c >>> (nI 0 &&& 31)) &&& 1) = cw_eb (!a) := by cases a <;> cases c <;> decide
theorem cw_gbit1 {a c : Bool} : ((cw_gI a c >>> (nI 1 &&& 31)) &&& 1) = cw_eb (!c) := by cases a <;> cases c <;> decide
theorem cw_gclr0 {a c : Bool} : vp_nar .byte ((cw_gI a c &&& (((1 : Int32) <<< (nI 0 &&& 31)) ^^^ (-1))).toInt8.toInt32) = cw_gI true c := by rw [vp_nar_byte]; cases a <;> cases c <;> decide
theorem cw_gclr1 {a c : Bool} : vp_nar .byte ((cw_gI a c &&& (((1 : Int32) <<< (nI 1 &&& 31)) ^^^ (-1))).toInt8.toInt32) = cw_gI a true := by rw [vp_nar_byte]; cases a <;> cases c <;> decide
theorem cw_pclr0 {a c : Bool} : cw_gI a c &&& (((1 : Int32) <<< (nI 0 &&& 31)) ^^^ (-1)) = cw_gI true c := by cases a <;> cases c <;> decide
theorem cw_pclr1 {a c : Bool} : cw_gI a c &&& (((1 : Int32) <<< (nI 1 &&& 31)) ^^^ (-1)) = cw_gI a true := by cases a <;> cases c <;> decide
theorem cw_pset0 {a c : Bool} : cw_gI a c ||| ((1 : Int32) <<< (nI 0 &&& 31)) = cw_gI false c := by cases a <;> cases c <;> decide
theorem cw_pset1 {a c : Bool} : cw_gI a c ||| ((1 : Int32) <<< (nI 1 &&& 31)) = cw_gI a false := by cases a <;> cases c <;> decide
/-- the bit of disk d -/
theorem cw_gbit {bd : Nat → Bool} {d b : Nat} (hd : d < 2) : ((cw_gI (bd b) (bd (80 + b)) >>> (nI d &&& 31)) &&& 1) = cw_eb (!bd (80 * d + b)) := by
  rcases (by omega : d = 0 ∨ d = 1) with q | q
  · rw [q, show 80 * 0 + b = b by omega]; exact cw_gbit0
  · rw [q, show 80 * 1 + b = 80 + b by omega]; exact cw_gbit1
theorem cw_gclr {bd : Nat → Bool} {d b : Nat} (hd : d < 2) : vp_nar .byte ((cw_gI (bd b) (bd (80 + b)) &&& (((1 : Int32) <<< (nI d &&& 31)) ^^^ (-1))).toInt8.toInt32) = cw_gI (cw_un bd (80 * d + b) true b) (cw_un bd (80 * d + b) true (80 + b)) := by
  rcases (by omega : d = 0 ∨ d = 1) with q | q
  · rw [q, show 80 * 0 + b = b by omega, cw_us, cw_uo (by omega)]; exact cw_gclr0
  · rw [q, show 80 * 1 + b = 80 + b by omega, cw_us, cw_uo (by omega)]; exact cw_gclr1
theorem cw_pbit {lo : Nat → Bool} {d : Nat} (hd : d < 2) : ((cw_pr lo >>> (nI d &&& 31)) &&& 1) = cw_eb (!lo d) := by
  rcases (by omega : d = 0 ∨ d = 1) with q | q
  · rw [q]; exact cw_gbit0
  · rw [q]; exact cw_gbit1
theorem cw_pclr {lo : Nat → Bool} {d : Nat} (hd : d < 2) : cw_pr lo &&& (((1 : Int32) <<< (nI d &&& 31)) ^^^ (-1)) = cw_pr (cw_un lo d true) := by
  rcases (by omega : d = 0 ∨ d = 1) with q | q
  · rw [q]; exact cw_pclr0
  · rw [q]; exact cw_pclr1
theorem cw_pset {lo : Nat → Bool} {d : Nat} (hd : d < 2) : cw_pr lo ||| ((1 : Int32) <<< (nI d &&& 31)) = cw_pr (cw_un lo d false) := by
  rcases (by omega : d = 0 ∨ d = 1) with q | q
  · rw [q]; exact cw_pset0
  · rw [q]; exact cw_pset1
theorem i_vc_spoil {k : Nat} {u : SX} {v : SY} (I : i_Rel k u v) (hk : k + 6 ≤ 3072) (v1 : Int32) (v2 : Int32) : wpX_spoil (fun r u' => wpY_spoil (fun r' v' => r' = r ∧ i_Rel (k + 6) u' v') v v1 v2) u v1 v2 := by
  refine cw_el (P := fun u v => wpX_spoil (fun r u' => wpY_spoil (fun r' v' => r' = r ∧ i_Rel (k + 6) u' v') v v1 v2) u v1 v2) ?_ I
  intro A L B R U H F fn fl fh T hs go bd tn hn en pl em sh lo fz va se tm mv be hd h
  unfold wpX_spoil
  by_cases a1 : cw_am v1 2
  · obtain ⟨d, hd2, rfl⟩ := cw_am_of (n := 2) (by decide) rfl a1
    refine cw_amT a1 ?_
    refine br_f (by decide) ?_
    by_cases a2 : cw_am v2 80
    · obtain ⟨b, hb, rfl⟩ := cw_am_of (n := 80) (by decide) rfl a2
      refine cw_amT a2 ?_
      have hH := cw_H_le h.1.1.1 hb
      have hheld := cw_held h.1 hb
      have htc := cw_tc_le (T := T) (hs := hs) (b + 1)
      have e80 := cw_80 d b
      have eb1 : nI b + 1 = nI (b + 1) := nI_1 b
      refine br_f (by decide) ⟨vp_in_nI hb (by decide), ?_⟩
      refine pk_eq (H b) 0 (fun q => ?_) (fun q => ⟨vp_in_nI hb (by decide), ?_⟩) (cw_rdN rfl (by omega))
      · show wpY_spoil _ _ _ _
        unfold wpY_spoil
        refine cw_ouT a1 (br_t rfl ?_)
        refine cw_ouT a2 (br_t rfl ?_)
        refine cw_y_tally h.1.2.2.2.2 ⟨cw_in1 eb1 (by omega) (by decide), ?_⟩
        refine pk_eq (cw_tc T hs (b + 1)) 0 (fun z => ⟨rfl, cw_in h⟩) (fun z => absurd q (hheld.mpr z)) (cw_hd_b eb1 (by omega))
      · have hg := h.2.1 b hb q
        rw [nI_clamp (by omega), hg, cw_gbit hd2]
        refine cw_bt (fun e => ?_) (fun e => ⟨vp_in_nI hb (by decide), vp_in_nI hb (by decide), ?_⟩)
        · show wpY_spoil _ _ _ _
          unfold wpY_spoil
          refine cw_ouT a1 (br_t rfl ?_)
          refine cw_ouT a2 (br_t rfl ?_)
          refine cw_y_tally h.1.2.2.2.2 ⟨cw_in1 eb1 (by omega) (by decide), ?_⟩
          refine pk_eq (cw_tc T hs (b + 1)) 0 (fun z => absurd z (hheld.mp q)) (fun z => ⟨cw_in1 e80 (by omega) (by decide), ?_⟩) (cw_hd_b eb1 (by omega))
          rw [cw_rdT e80 (by omega)]
          refine cw_bt (fun e2 => ?_) (fun e2 => ⟨rfl, cw_in h⟩)
          rw [e2] at e; cases e
        · refine nm_r (congrArg (upd go b) (cw_gclr (b := b) hd2)) ?_
          show wpY_spoil _ _ _ _
          unfold wpY_spoil
          refine cw_ouT a1 (br_t rfl ?_)
          refine cw_ouT a2 (br_t rfl ?_)
          refine cw_y_tally h.1.2.2.2.2 ⟨cw_in1 eb1 (by omega) (by decide), ?_⟩
          refine pk_eq (cw_tc T hs (b + 1)) 0 (fun z => absurd z (hheld.mp q)) (fun z => ⟨cw_in1 e80 (by omega) (by decide), ?_⟩) (cw_hd_b eb1 (by omega))
          rw [cw_rdT e80 (by omega)]
          refine cw_bt (fun e2 => ⟨cw_in1 e80 (by omega) (by decide), nm_r (cw_wrT (x := true) e80 (by omega) rfl) ⟨rfl, cw_in ⟨h.1, ?_, h.2.2⟩⟩⟩) (fun e2 => ?_)
          · intro c hc hHc
            by_cases qc : c = b
            · rw [qc, pk_us]
            · rw [pk_un qc, cw_uo (by omega), cw_uo (by omega)]
              exact h.2.1 c hc hHc
          · rw [e2] at e; cases e
    · refine cw_amF a2 (br_t rfl ?_)
      show wpY_spoil _ _ _ _
      unfold wpY_spoil
      refine cw_ouT a1 (br_t rfl ?_)
      refine cw_ouF a2 (br_f (by decide) ?_)
      exact ⟨rfl, cw_in h⟩
  · refine cw_amF a1 (br_t rfl ?_)
    show wpY_spoil _ _ _ _
    unfold wpY_spoil
    refine cw_ouF a1 (br_f (by decide) ?_)
    exact ⟨rfl, cw_in h⟩
theorem i_vc_replace {k : Nat} {u : SX} {v : SY} (I : i_Rel k u v) (hk : k + 6 ≤ 3072) (v1 : Int32) : wpX_replace (fun r u' => wpY_replace (fun r' v' => r' = r ∧ i_Rel (k + 6) u' v') v v1) u v1 := by
  refine cw_el (P := fun u v => wpX_replace (fun r u' => wpY_replace (fun r' v' => r' = r ∧ i_Rel (k + 6) u' v') v v1) u v1) ?_ I
  intro A L B R U H F fn fl fh T hs go bd tn hn en pl em sh lo fz va se tm mv be hd h
  unfold wpX_replace
  by_cases a1 : cw_am v1 2
  · obtain ⟨d, hd2, rfl⟩ := cw_am_of (n := 2) (by decide) rfl a1
    refine cw_amT a1 ?_
    refine br_f (by decide) ?_
    rw [cw_pbit hd2]
    cases hl : lo d with
    | false =>
      refine br_t rfl ?_
      show wpY_replace _ _ _
      unfold wpY_replace
      refine cw_ouT a1 (br_t rfl ⟨vp_in_nI hd2 (by decide), ?_⟩)
      rw [cw_rdT rfl (by omega), hl]
      exact br_t rfl ⟨rfl, cw_in h⟩
    | true =>
      refine br_f (by decide) (nm_r (cw_pset hd2) ?_)
      show wpY_replace _ _ _
      unfold wpY_replace
      refine cw_ouT a1 (br_t rfl ⟨vp_in_nI hd2 (by decide), ?_⟩)
      rw [cw_rdT rfl (by omega), hl]
      exact br_f (by decide) ⟨vp_in_nI hd2 (by decide), nm_r (cw_wrT (x := false) rfl (by omega) rfl) ⟨rfl, cw_in h⟩⟩
  · refine cw_amF a1 (br_t rfl ?_)
    show wpY_replace _ _ _
    unfold wpY_replace
    refine cw_ouF a1 (br_f (by decide) ?_)
    exact ⟨rfl, cw_in h⟩
theorem i_vc_entry {k : Nat} {u : SX} {v : SY} (I : i_Rel k u v) (hk : k + 6 ≤ 3072) (v1 : Int32) : wpX_entry (fun r => wpY_entry (fun r' => r' = r ∧ i_Rel (k + 6) u v) v v1) u v1 := by
  refine cw_el (P := fun u v => wpX_entry (fun r => wpY_entry (fun r' => r' = r ∧ i_Rel (k + 6) u v) v v1) u v1) ?_ I
  intro A L B R U H F fn fl fh T hs go bd tn hn en pl em sh lo fz va se tm mv be hd h
  have hen := h.2.2.2.2.1
  unfold wpX_entry
  by_cases a1 : cw_am v1 (nI en)
  · obtain ⟨j, hj, rfl⟩ := cw_am_of (n := en) (by omega) rfl a1
    refine cw_amT a1 ?_
    have hv : vp_in (nI j) 64 := vp_in_nI (by omega) (by decide)
    refine br_f (by decide) ⟨hv, ?_⟩
    have hc : (nI j).toNatClampNeg = j := nI_clamp (by omega)
    rcases (h.2.2.2.2.2 j hj).2 with q | q
    · rw [hc]
      refine br_t q.1 ⟨hv, ?_⟩
      show wpY_entry _ _ _
      unfold wpY_entry
      refine cw_ouT a1 (br_t rfl ⟨hv, ?_⟩)
      rw [hc]
      exact br_t q.2 ⟨hv, rfl, cw_in h⟩
    · rw [hc]
      refine br_f q.1 ⟨hv, hv, ?_⟩
      show wpY_entry _ _ _
      unfold wpY_entry
      refine cw_ouT a1 (br_t rfl ⟨hv, ?_⟩)
      rw [hc]
      exact br_f q.2 ⟨hv, hv, Int64.add_comm _ _, cw_in h⟩
  · refine cw_amF a1 (br_t rfl ?_)
    show wpY_entry _ _ _
    unfold wpY_entry
    refine cw_ouF a1 (br_f (by decide) ?_)
    exact ⟨rfl, cw_in h⟩
end
section
/-- what losing disk d makes of a block's good copies -/
def cw_clr (d : Nat) (g : Int32) : Int32 := vp_nar .byte ((g &&& (((1 : Int32) <<< (nI d &&& 31)) ^^^ (-1))).toInt8.toInt32)
def cw_lc (H : Nat → Nat) (bd : Nat → Bool) (d b : Nat) : Bool := decide (H b ≠ 0) && !bd (80 * d + b)
def cw_lg (d : Nat) (go : Nat → Int32) (i : Nat) : Nat → Int32 := fun b => if b < i then cw_clr d (go b) else go b
def cw_lb (d : Nat) (bd : Nat → Bool) (i : Nat) : Nat → Bool := fun x => if 80 * d ≤ x ∧ x < 80 * d + i then true else bd x
section
variable {A L : Nat → Nat} {B R : Nat → Option Nat} {U H F : Nat → Nat} {fn : Nat} {fl fh : Int64} {T : Nat → Bool} {hs : Nat → Nat} {go : Nat → Int32} {bd : Nat → Bool} {tn hn en : Nat} {pl em sh : Nat → Int32} {lo : Nat → Bool} {fz va se tm mv be hd : Nat → Int32}
theorem cw_w_lsl {post : Int32 → SX → Prop} {d : Nat} (hd2 : d < 2) (hG : cw_GD H go bd) (hH : ∀ b, b < 80 → H b < 2 ^ 31) (hp : post (nI (cw_cn (cw_lc H bd d) 80)) ((nI fn), fl, fh, (cw_pr lo), (nI tn), (nI hn), (nI en), (cw_eB B), (cw_eN U), (cw_eN F), (cw_eB R), (cw_eT T), fz, va, (cw_eN H), cw_lg d go 80, pl, em, se, tm, mv)) : ∀ e i, i + e = 80 → wX_lose_39 post (nI d) (nI fn) fl fh (cw_pr lo) (nI tn) (nI hn) (nI en) (e + 1) (nI (cw_cn (cw_lc H bd d) i)) (nI i) (cw_eB B) (cw_eN U) (cw_eN F) (cw_eB R) (cw_eT T) fz va (cw_eN H) (cw_lg d go i) pl em se tm mv := by
  intro e
  induction e with
  | zero =>
    intro i hi
    have hi : i = 80 := by omega
    subst hi
    exact br_t (by decide) hp
  | succ e ih =>
    intro i hi
    have hv : vp_in (nI i) 80 := vp_in_nI (by omega) (by decide)
    have hgi : cw_lg d go i i = go i := if_neg (by omega)
    have hc : (nI i).toNatClampNeg = i := nI_clamp (by omega)
    have hcl := cw_cn_le (p := cw_lc H bd d) i
    have stp : upd (cw_lg d go i) i (vp_nar .byte (((cw_lg d go i i) &&& (((1 : Int32) <<< (nI d &&& 31)) ^^^ (-1))).toInt8.toInt32)) = cw_lg d go (i + 1) := by
      rw [hgi]
      funext c
      unfold cw_lg
      by_cases q : c = i
      · rw [q, pk_us, if_pos (by omega)]; rfl
      · rw [pk_un q]
        by_cases q2 : c < i
        · rw [if_pos q2, if_pos (by omega)]
        · rw [if_neg q2, if_neg (by omega)]
    refine br_f (nI_ge (b := 80) (by omega) (by decide)) ⟨hv, ?_⟩
    refine pk_le (H i) 0 (fun q => ?_) (fun q => ⟨hv, ?_⟩) (cw_rdN rfl (by omega)) rfl (hH i (by omega))
    · have e0 : cw_cn (cw_lc H bd d) (i + 1) = cw_cn (cw_lc H bd d) i := by
        rw [cw_cn_s, show cw_lc H bd d i = false by unfold cw_lc; rw [decide_eq_false (by omega)]; rfl]; rfl
      refine ⟨hv, hv, ?_⟩
      rw [hc, stp]
      refine nm_e (nm_r (nI_1 i) ?_)
      rw [← e0]
      exact ih (i + 1) (by omega)
    · have hg := hG i (by omega) (by omega)
      have e1 : nI (cw_cn (cw_lc H bd d) i) + cw_eb (!bd (80 * d + i)) = nI (cw_cn (cw_lc H bd d) (i + 1)) := by
        rw [cw_cn_s, show cw_lc H bd d i = !bd (80 * d + i) by unfold cw_lc; rw [decide_eq_true (by omega)]; rfl]
        cases bd (80 * d + i) with
        | true => exact Int32.add_zero _
        | false => exact nI_1 _
      refine nm_r (e' := nI (cw_cn (cw_lc H bd d) (i + 1))) (by rw [hc, hgi, hg, cw_gbit hd2]; exact e1) ⟨hv, hv, ?_⟩
      rw [hc, stp]
      exact nm_e (nm_r (nI_1 i) (ih (i + 1) (by omega)))
theorem cw_y_lsl {post : Int32 → SY → Prop} {d : Nat} {hd0 : Nat → Int32} (hd2 : d < 2) (hp : post (nI (cw_cn (cw_lc (fun b => cw_tc T hs (b + 1)) bd d) 80)) ((nI tn), (nI hn), (nI en), (cw_eT T), fz, (cw_eN hs), be, va, (cw_eT (cw_lb d bd 80)), (cw_eT lo), se, cw_hd T hs hd0, pl, sh)) : ∀ e i, i + e = 80 → wY_lose_34 post (nI d) (nI tn) (nI hn) (nI en) (e + 1) (nI (cw_cn (cw_lc (fun b => cw_tc T hs (b + 1)) bd d) i)) (nI i) (cw_eT T) fz (cw_eN hs) be va (cw_eT (cw_lb d bd i)) (cw_eT lo) se (cw_hd T hs hd0) pl sh := by
  intro e
  induction e with
  | zero =>
    intro i hi
    have hi : i = 80 := by omega
    subst hi
    exact br_t (by decide) hp
  | succ e ih =>
    intro i hi
    have hbi : cw_lb d bd i (80 * d + i) = bd (80 * d + i) := if_neg (by omega)
    have hcl := cw_cn_le (p := cw_lc (fun b => cw_tc T hs (b + 1)) bd d) i
    have htc := cw_tc_le (T := T) (hs := hs) (i + 1)
    have stp : cw_un (cw_lb d bd i) (80 * d + i) true = cw_lb d bd (i + 1) := by
      funext c
      unfold cw_lb
      by_cases q : c = 80 * d + i
      · rw [q, cw_us, if_pos (by omega)]
      · rw [cw_uo q]
        by_cases q2 : 80 * d ≤ c ∧ c < 80 * d + i
        · rw [if_pos q2, if_pos (by omega)]
        · rw [if_neg q2, if_neg (by omega)]
    refine br_f (nI_ge (b := 80) (by omega) (by decide)) ⟨cw_in1 (nI_1 i) (by omega) (by decide), ?_⟩
    refine pk_le (cw_tc T hs (i + 1)) 0 (fun q => ?_) (fun q => ⟨cw_in1 (cw_80 d i) (by omega) (by decide), ?_⟩) (cw_hd_b (nI_1 i) (by omega)) rfl
    · have e0 : cw_cn (cw_lc (fun b => cw_tc T hs (b + 1)) bd d) (i + 1) = cw_cn (cw_lc (fun b => cw_tc T hs (b + 1)) bd d) i := by
        rw [cw_cn_s, show cw_lc (fun b => cw_tc T hs (b + 1)) bd d i = false by unfold cw_lc; dsimp only; rw [decide_eq_false (by omega)]; rfl]; rfl
      refine ⟨cw_in1 (cw_80 d i) (by omega) (by decide), nm_r ((cw_wrT (x := true) (cw_80 d i) (by omega) rfl).trans (congrArg cw_eT stp)) (nm_r (nI_1 i) ?_)⟩
      rw [← e0]
      exact ih (i + 1) (by omega)
    · have e1 : cw_lc (fun b => cw_tc T hs (b + 1)) bd d i = !bd (80 * d + i) := by unfold cw_lc; dsimp only; rw [decide_eq_true (by omega)]; rfl
      rw [cw_rdT (cw_80 d i) (by omega), hbi]
      refine cw_bt (fun eb => ?_) (fun eb => ?_)
      · have e2 : cw_cn (cw_lc (fun b => cw_tc T hs (b + 1)) bd d) (i + 1) = cw_cn (cw_lc (fun b => cw_tc T hs (b + 1)) bd d) i + 1 := by
          rw [cw_cn_s, e1, eb]; rfl
        refine nm_r (nI_1 _) ⟨cw_in1 (cw_80 d i) (by omega) (by decide), nm_r ((cw_wrT (x := true) (cw_80 d i) (by omega) rfl).trans (congrArg cw_eT stp)) (nm_r (nI_1 i) ?_)⟩
        rw [← e2]
        exact ih (i + 1) (by omega)
      · have e2 : cw_cn (cw_lc (fun b => cw_tc T hs (b + 1)) bd d) (i + 1) = cw_cn (cw_lc (fun b => cw_tc T hs (b + 1)) bd d) i := by
          rw [cw_cn_s, e1, eb]; rfl
        refine ⟨cw_in1 (cw_80 d i) (by omega) (by decide), nm_r ((cw_wrT (x := true) (cw_80 d i) (by omega) rfl).trans (congrArg cw_eT stp)) (nm_r (nI_1 i) ?_)⟩
        rw [← e2]
        exact ih (i + 1) (by omega)
end
theorem i_vc_lose {k : Nat} {u : SX} {v : SY} (I : i_Rel k u v) (hk : k + 6 ≤ 3072) (v1 : Int32) : wpX_lose (fun r u' => wpY_lose (fun r' v' => r' = r ∧ i_Rel (k + 6) u' v') v v1) u v1 := by
  refine cw_el (P := fun u v => wpX_lose (fun r u' => wpY_lose (fun r' v' => r' = r ∧ i_Rel (k + 6) u' v') v v1) u v1) ?_ I
  intro A L B R U H F fn fl fh T hs go bd tn hn en pl em sh lo fz va se tm mv be hd h
  unfold wpX_lose
  by_cases a1 : cw_am v1 2
  · obtain ⟨d, hd2, rfl⟩ := cw_am_of (n := 2) (by decide) rfl a1
    refine cw_amT a1 ?_
    refine br_f (by decide) ?_
    rw [cw_pbit hd2]
    cases hl : lo d with
    | true =>
      refine br_t rfl ?_
      show wpY_lose _ _ _
      unfold wpY_lose
      refine cw_ouT a1 (br_t rfl ⟨vp_in_nI hd2 (by decide), ?_⟩)
      rw [cw_rdT rfl (by omega), hl]
      exact br_f (by decide) ⟨rfl, cw_in h⟩
    | false =>
      refine br_f (by decide) (nm_r (cw_pclr hd2) ⟨81, ?_⟩)
      have e0 : cw_lg d go 0 = go := by funext c; exact if_neg (by omega)
      have lX := cw_w_lsl (B := B) (R := R) (U := U) (H := H) (F := F) (fn := fn) (fl := fl) (fh := fh) (T := T) (go := go) (bd := bd) (tn := tn) (hn := hn) (en := en) (pl := pl) (em := em) (lo := cw_un lo d true) (fz := fz) (va := va) (se := se) (tm := tm) (mv := mv) (post := fun r u' => wpY_lose (fun r' v' => r' = r ∧ i_Rel (k + 6) u' v') ((nI tn), (nI hn), (nI en), (cw_eT T), fz, (cw_eN hs), be, va, (cw_eT bd), (cw_eT lo), se, hd, pl, sh) (nI d)) hd2 h.2.1 (fun b hb => by have := cw_H_le h.1.1.1 hb; omega) ?_ 80 0 rfl
      · rw [e0] at lX
        exact lX
      · show wpY_lose _ _ _
        unfold wpY_lose
        refine cw_ouT a1 (br_t rfl ⟨vp_in_nI hd2 (by decide), ?_⟩)
        rw [cw_rdT rfl (by omega), hl]
        refine br_t rfl ⟨vp_in_nI hd2 (by decide), nm_r (cw_wrT (x := true) rfl (by omega) rfl) ?_⟩
        refine cw_y_tally h.1.2.2.2.2 ⟨81, ?_⟩
        have e1 : cw_lb d bd 0 = bd := by funext c; exact if_neg (by omega)
        have lY := cw_y_lsl (T := T) (hs := hs) (bd := bd) (tn := tn) (hn := hn) (en := en) (pl := pl) (sh := sh) (lo := cw_un lo d true) (fz := fz) (va := va) (se := se) (be := be) (hd0 := hd) (post := fun r' v' => r' = nI (cw_cn (cw_lc H bd d) 80) ∧ i_Rel (k + 6) ((nI fn), fl, fh, (cw_pr (cw_un lo d true)), (nI tn), (nI hn), (nI en), (cw_eB B), (cw_eN U), (cw_eN F), (cw_eB R), (cw_eT T), fz, va, (cw_eN H), cw_lg d go 80, pl, em, se, tm, mv) v') hd2 ?_ 80 0 rfl
        · rw [e1] at lY
          exact lY
        · refine ⟨congrArg nI (cw_cn_congr (fun b hb => ?_)), cw_in ⟨h.1, ?_, h.2.2⟩⟩
          · unfold cw_lc
            have := cw_held h.1 hb
            by_cases q : H b = 0
            · rw [decide_eq_false (show ¬ (H b ≠ 0) by omega), decide_eq_false (show ¬ (cw_tc T hs (b + 1) ≠ 0) from fun z => (this.mpr z) q)]
            · rw [decide_eq_true (show H b ≠ 0 from q), decide_eq_true (this.mp q)]
          · intro c hc hHc
            show (if c < 80 then cw_clr d (go c) else go c) = _
            rw [if_pos hc, h.2.1 c hc hHc]
            unfold cw_clr
            rw [cw_gclr hd2]
            rcases (by omega : d = 0 ∨ d = 1) with q | q
            · subst q
              unfold cw_lb
              rw [show 80 * 0 + c = c by omega, cw_us, cw_uo (by omega), if_pos (by omega), if_neg (by omega)]
            · subst q
              unfold cw_lb
              rw [show 80 * 1 + c = 80 + c by omega, cw_us, cw_uo (by omega), if_neg (by omega), if_pos (by omega)]
  · refine cw_amF a1 (br_t rfl ?_)
    show wpY_lose _ _ _
    unfold wpY_lose
    refine cw_ouF a1 (br_f (by decide) ?_)
    exact ⟨rfl, cw_in h⟩
end
section
/-- a value counted for block b -/
def cw_vl (H : Nat → Nat) (bd : Nat → Bool) (w b : Nat) : Nat := if H b = 0 then 0 else if w = 0 then 1 else if w = 2 then (bd b).toNat + (bd (80 + b)).toNat else ((bd b).toNat + (bd (80 + b)).toNat) / 2
theorem cw_vl_le {H : Nat → Nat} {bd : Nat → Bool} {w b : Nat} : cw_vl H bd w b ≤ 2 := by
  unfold cw_vl
  have := cw_bn (bd b)
  have := cw_bn (bd (80 + b))
  by_cases q : H b = 0
  · rw [if_pos q]; omega
  · rw [if_neg q]
    by_cases q1 : w = 0
    · rw [if_pos q1]; omega
    · rw [if_neg q1]
      by_cases q2 : w = 2
      · rw [if_pos q2]; omega
      · rw [if_neg q2]; omega
theorem cw_vl_eq {H H' : Nat → Nat} {bd : Nat → Bool} {w b : Nat} (h : H b = 0 ↔ H' b = 0) : cw_vl H bd w b = cw_vl H' bd w b := by
  unfold cw_vl
  by_cases q : H b = 0
  · rw [if_pos q, if_pos (h.mp q)]
  · rw [if_neg q, if_neg (fun z => q (h.mpr z))]
section
variable {A L : Nat → Nat} {B R : Nat → Option Nat} {U H F : Nat → Nat} {fn : Nat} {fl fh : Int64} {T : Nat → Bool} {hs : Nat → Nat} {go : Nat → Int32} {bd : Nat → Bool} {tn hn en : Nat} {pl em sh : Nat → Int32} {lo : Nat → Bool} {fz va se tm mv be hd : Nat → Int32}
theorem cw_w_cnl {post : Int32 → Prop} {x1 : Int32} (hG : cw_GD H go bd) (hH : ∀ b, b < 80 → H b < 2 ^ 31)
    (hm : ¬ (∃ w, w < 6 ∧ x1 = nI w) → post (-1)) (h0 : x1 = 0 → post (nI (cw_sm (cw_vl H bd 0) 80))) (h1 : x1 = 1 → post (nI (cw_sm (cw_vl H bd 1) 80))) (h2 : x1 = 2 → post (nI (cw_sm (cw_vl H bd 2) 80))) (h3 : x1 = 3 → post (nI hn)) (h4 : x1 = 4 → post (nI tn)) (h5 : x1 = 5 → post (nI en)) :
    ∀ e i, i + e = 80 → wX_count_10 post x1 (nI fn) fl fh (cw_pr lo) (nI tn) (nI hn) (nI en) (cw_eB B) (cw_eN U) (cw_eN F) (cw_eB R) (cw_eT T) fz va (cw_eN H) go pl em se tm mv (e + 1) (nI (cw_sm (cw_vl H bd 0) i)) (nI (cw_sm (cw_vl H bd 1) i)) (nI (cw_sm (cw_vl H bd 2) i)) (nI i) := by
  intro e
  induction e with
  | zero =>
    intro i hi
    have hi : i = 80 := by omega
    subst hi
    refine br_t (by decide) ?_
    refine br_c (fun q => hm (fun ⟨w, hw, e⟩ => by rw [e] at q; exact nI_pos (by omega) q)) (fun q => ?_)
    refine br_c (fun q5 => hm (fun ⟨w, hw, e⟩ => by rw [e] at q5; exact nI_nlt (a := 5) (by omega) (by decide) q5)) (fun q5 => ?_)
    exact br_c h0 (fun _ => br_c h1 (fun _ => br_c h2 (fun _ => br_c h3 (fun _ => br_c h4 (fun _ => br_c h5 (fun _ => trivial))))))
  | succ e ih =>
    intro i hi
    have hv : vp_in (nI i) 80 := vp_in_nI (by omega) (by decide)
    have hc : (nI i).toNatClampNeg = i := nI_clamp (by omega)
    refine br_f (nI_ge (b := 80) (by omega) (by decide)) ⟨hv, ?_⟩
    refine pk_eq (H i) 0 (fun q => ?_) (fun q => ?_) (cw_rdN rfl (by omega)) rfl (hH i (by omega))
    · have e0 : ∀ w, cw_sm (cw_vl H bd w) (i + 1) = cw_sm (cw_vl H bd w) i := by
        intro w; rw [cw_sm_s]; unfold cw_vl; rw [if_pos q]; rfl
      refine nm_r (nI_1 i) ?_
      rw [← e0 0, ← e0 1, ← e0 2]
      exact ih (i + 1) (by omega)
    · have hg := hG i (by omega) q
      have f0 : cw_sm (cw_vl H bd 0) (i + 1) = cw_sm (cw_vl H bd 0) i + 1 := by
        rw [cw_sm_s]; unfold cw_vl; rw [if_neg q, if_pos rfl]
      have f1 : cw_sm (cw_vl H bd 1) (i + 1) = cw_sm (cw_vl H bd 1) i + ((bd i).toNat + (bd (80 + i)).toNat) / 2 := by
        rw [cw_sm_s]; unfold cw_vl; rw [if_neg q, if_neg (by decide), if_neg (by decide)]
      have f2 : cw_sm (cw_vl H bd 2) (i + 1) = cw_sm (cw_vl H bd 2) i + ((bd i).toNat + (bd (80 + i)).toNat) := by
        rw [cw_sm_s]; unfold cw_vl; rw [if_neg q, if_neg (by decide), if_pos rfl]
      refine nm_r (e' := nI (cw_sm (cw_vl H bd 0) (i + 1))) (by rw [f0]; exact nI_1 _) ⟨hv, ?_⟩
      have nx := ih (i + 1) (by omega)
      rw [hc, hg]
      cases ha : bd i with
      | true =>
        cases hb : bd (80 + i) with
        | true =>
          rw [ha, hb] at f1 f2 hg
          refine br_t rfl (nm_r (e' := nI (cw_sm (cw_vl H bd 1) (i + 1))) (by rw [f1]; exact nI_1 _) ⟨hv, ?_⟩)
          rw [hc, hg]
          exact br_f (by decide) ⟨hv, br_t rfl (nm_r (e' := nI (cw_sm (cw_vl H bd 2) (i + 1))) (by rw [f2]; exact nI_add _ 2) (nm_r (nI_1 i) nx))⟩
        | false =>
          rw [ha, hb] at f1 f2 hg
          refine br_f (by decide) ⟨hv, ?_⟩
          rw [hc, hg]
          rw [show cw_sm (cw_vl H bd 1) (i + 1) = cw_sm (cw_vl H bd 1) i from f1] at nx
          exact br_f (by decide) ⟨hv, br_f (by decide) (nm_r (e' := nI (cw_sm (cw_vl H bd 2) (i + 1))) (by rw [f2]; exact nI_1 _) (nm_r (nI_1 i) nx))⟩
      | false =>
        cases hb : bd (80 + i) with
        | true =>
          rw [ha, hb] at f1 f2 hg
          refine br_f (by decide) ⟨hv, ?_⟩
          rw [hc, hg]
          rw [show cw_sm (cw_vl H bd 1) (i + 1) = cw_sm (cw_vl H bd 1) i from f1] at nx
          exact br_f (by decide) ⟨hv, br_f (by decide) (nm_r (e' := nI (cw_sm (cw_vl H bd 2) (i + 1))) (by rw [f2]; exact nI_1 _) (nm_r (nI_1 i) nx))⟩
        | false =>
          rw [ha, hb] at f1 f2 hg
          refine br_f (by decide) ⟨hv, ?_⟩
          rw [hc, hg]
          rw [show cw_sm (cw_vl H bd 1) (i + 1) = cw_sm (cw_vl H bd 1) i from f1] at nx
          exact br_t rfl (nm_r (e' := nI (cw_sm (cw_vl H bd 2) (i + 1))) (by rw [f2]; exact Int32.add_zero _) (nm_r (nI_1 i) nx))
theorem cw_y_cnl {post : Int32 → SY → Prop} {w : Nat} {hd0 : Nat → Int32} (hw : w < 3) (hp : post (nI (cw_sm (cw_vl (fun b => cw_tc T hs (b + 1)) bd w) 80)) ((nI tn), (nI hn), (nI en), (cw_eT T), fz, (cw_eN hs), be, va, (cw_eT bd), (cw_eT lo), se, cw_hd T hs hd0, pl, sh)) :
    ∀ e i, i + e = 80 → wY_count_48 post (nI w) (nI tn) (nI hn) (nI en) (cw_eT T) fz (cw_eN hs) be va (cw_eT bd) (cw_eT lo) se (cw_hd T hs hd0) pl sh (e + 1) (nI (cw_sm (cw_vl (fun b => cw_tc T hs (b + 1)) bd w) i)) (nI i) := by
  intro e
  induction e with
  | zero =>
    intro i hi
    have hi : i = 80 := by omega
    subst hi
    exact br_t (by decide) hp
  | succ e ih =>
    intro i hi
    have e80 : (80 : Int32) + nI i = nI (80 + i) := nI_add 80 i
    have htc := cw_tc_le (T := T) (hs := hs) (i + 1)
    refine br_f (nI_ge (b := 80) (by omega) (by decide)) ⟨cw_in1 (nI_1 i) (by omega) (by decide), ?_⟩
    refine pk_eq (cw_tc T hs (i + 1)) 0 (fun q => ?_) (fun q => ⟨vp_in_nI (by omega) (by decide), ?_⟩) (cw_hd_b (nI_1 i) (by omega))
    · have e0 : cw_sm (cw_vl (fun b => cw_tc T hs (b + 1)) bd w) (i + 1) = cw_sm (cw_vl (fun b => cw_tc T hs (b + 1)) bd w) i := by
        rw [cw_sm_s]; unfold cw_vl; rw [if_pos q]; rfl
      refine nm_r (nI_1 i) ?_
      rw [← e0]
      exact ih (i + 1) (by omega)
    · have nx := ih (i + 1) (by omega)
      have end1 : ∀ z0 z1 : Nat, z1 = (bd i).toNat → z0 = (bd (80 + i)).toNat → wY_count_99 post (wY_count_48 post (nI w) (nI tn) (nI hn) (nI en) (cw_eT T) fz (cw_eN hs) be va (cw_eT bd) (cw_eT lo) se (cw_hd T hs hd0) pl sh (e + 1)) (nI w) (nI (cw_sm (cw_vl (fun b => cw_tc T hs (b + 1)) bd w) i)) (nI i) (nI z0) (nI z1) (nI tn) (nI hn) (nI en) (cw_eT T) fz (cw_eN hs) be va (cw_eT bd) (cw_eT lo) se (cw_hd T hs hd0) pl sh := by
        intro z0 z1 h1 h0
        have b0 := cw_bn (bd i)
        have b1 := cw_bn (bd (80 + i))
        refine nm_r (e' := nI (z1 + z0)) (nI_add _ _) ?_
        refine pk_eq w 0 (fun q0 => ?_) (fun q0 => ?_)
        · refine nm_r (e' := nI (cw_sm (cw_vl (fun b => cw_tc T hs (b + 1)) bd w) (i + 1))) ?_ (nm_r (nI_1 i) nx)
          rw [cw_sm_s, show cw_vl (fun b => cw_tc T hs (b + 1)) bd w i = 1 by unfold cw_vl; rw [if_neg q, if_pos q0]]
          exact nI_1 _
        · refine pk_eq w 2 (fun q2 => ?_) (fun q2 => ⟨by decide, ?_⟩)
          · refine nm_r (e' := nI (cw_sm (cw_vl (fun b => cw_tc T hs (b + 1)) bd w) (i + 1))) ?_ (nm_r (nI_1 i) nx)
            rw [cw_sm_s, show cw_vl (fun b => cw_tc T hs (b + 1)) bd w i = z1 + z0 by unfold cw_vl; rw [if_neg q, if_neg q0, if_pos q2, h1, h0]]
            exact nI_add _ _
          · refine nm_r (e' := nI (cw_sm (cw_vl (fun b => cw_tc T hs (b + 1)) bd w) (i + 1))) ?_ (nm_r (nI_1 i) nx)
            rw [cw_sm_s, show cw_vl (fun b => cw_tc T hs (b + 1)) bd w i = (z1 + z0) / 2 by unfold cw_vl; rw [if_neg q, if_neg q0, if_neg q2, h1, h0], show nI (z1 + z0) / 2 = nI ((z1 + z0) / 2) from pk_div (d := 2) (by omega) (by omega) (by omega)]
            exact nI_add _ _
      rw [cw_rdT rfl (by omega)]
      refine cw_bt (fun ea => ⟨cw_in1 e80 (by omega) (by decide), ?_⟩) (fun ea => ⟨cw_in1 e80 (by omega) (by decide), ?_⟩)
      · rw [cw_rdT e80 (by omega)]
        exact cw_bt (fun eb => end1 0 0 (by rw [ea]; rfl) (by rw [eb]; rfl)) (fun eb => end1 1 0 (by rw [ea]; rfl) (by rw [eb]; rfl))
      · rw [cw_rdT e80 (by omega)]
        exact cw_bt (fun eb => end1 0 1 (by rw [ea]; rfl) (by rw [eb]; rfl)) (fun eb => end1 1 1 (by rw [ea]; rfl) (by rw [eb]; rfl))
end
theorem i_vc_count {k : Nat} {u : SX} {v : SY} (I : i_Rel k u v) (hk : k + 6 ≤ 3072) (v1 : Int32) : wpX_count (fun r => wpY_count (fun r' v' => r' = r ∧ i_Rel (k + 6) u v') v v1) u v1 := by
  refine cw_el (P := fun u v => wpX_count (fun r => wpY_count (fun r' v' => r' = r ∧ i_Rel (k + 6) u v') v v1) u v1) ?_ I
  intro A L B R U H F fn fl fh T hs go bd tn hn en pl em sh lo fz va se tm mv be hd h
  refine ⟨81, ?_⟩
  have low : ∀ w, w < 3 → v1 = nI w → wpY_count (fun r' v' => r' = nI (cw_sm (cw_vl H bd w) 80) ∧ i_Rel (k + 6) ((nI fn), fl, fh, (cw_pr lo), (nI tn), (nI hn), (nI en), (cw_eB B), (cw_eN U), (cw_eN F), (cw_eB R), (cw_eT T), fz, va, (cw_eN H), go, pl, em, se, tm, mv) v') ((nI tn), (nI hn), (nI en), (cw_eT T), fz, (cw_eN hs), be, va, (cw_eT bd), (cw_eT lo), se, hd, pl, sh) v1 := by
    intro w hw e
    subst e
    unfold wpY_count
    refine pk_eq w 3 (fun q => by omega) (fun _ => ?_)
    refine pk_eq w 4 (fun q => by omega) (fun _ => ?_)
    refine pk_eq w 5 (fun q => by omega) (fun _ => ?_)
    refine cw_ouT (cw_am_nI (n := 3) hw (by decide)) (br_t rfl ?_)
    refine cw_y_tally h.1.2.2.2.2 ⟨81, ?_⟩
    refine cw_y_cnl (hd0 := hd) (bd := bd) hw ⟨congrArg nI (cw_sm_congr (fun b hb => cw_vl_eq ?_)), cw_in h⟩ 80 0 rfl
    have := cw_held h.1 hb
    show cw_tc T hs (b + 1) = 0 ↔ H b = 0
    omega
  refine cw_w_cnl h.2.1 (fun b hb => by have := cw_H_le h.1.1.1 hb; omega) (fun q => ?_) (fun q => low 0 (by decide) q) (fun q => low 1 (by decide) q) (fun q => low 2 (by decide) q) (fun q => ?_) (fun q => ?_) (fun q => ?_) 80 0 rfl
  · have n3 : ¬ v1 = 3 := fun z => q ⟨3, by decide, z⟩
    have n4 : ¬ v1 = 4 := fun z => q ⟨4, by decide, z⟩
    have n5 : ¬ v1 = 5 := fun z => q ⟨5, by decide, z⟩
    unfold wpY_count
    refine br_f n3 (br_f n4 (br_f n5 ?_))
    refine cw_ouF (fun z => ?_) (br_f (by decide) ⟨rfl, cw_in h⟩)
    obtain ⟨j, hj, e⟩ := cw_am_of (n := 3) (by decide) rfl z
    exact q ⟨j, by omega, e⟩
  · unfold wpY_count
    exact br_t q ⟨rfl, cw_in h⟩
  · unfold wpY_count
    refine br_f (by rw [q]; decide) (br_t q ⟨rfl, cw_in h⟩)
  · unfold wpY_count
    refine br_f (by rw [q]; decide) (br_f (by rw [q]; decide) (br_t q ⟨rfl, cw_in h⟩))
end
section
theorem cw_hn_ne {z : Bool} {hn : Nat} (h : z = true) : cw_hn z hn ≠ hn := by
  rw [h]
  unfold cw_hn
  rw [if_pos rfl]
  by_cases q : hn = 999999
  · rw [if_pos q]; omega
  · rw [if_neg q]; omega
section
variable {A L : Nat → Nat} {B R : Nat → Option Nat} {U H F : Nat → Nat} {fn : Nat} {fl fh : Int64} {T : Nat → Bool} {hs : Nat → Nat} {go : Nat → Int32} {bd : Nat → Bool} {tn hn en : Nat} {pl em sh : Nat → Int32} {lo : Nat → Bool} {fz va se tm mv be hd : Nat → Int32}
theorem cw_w_sc47 {post : Int32 → SX → Prop} {J : Int32 → Int32 → Int32 → Int64 → Int64 → Int32 → Int32 → Int32 → Int32 → (Nat → Int32) → (Nat → Int32) → (Nat → Int32) → (Nat → Int32) → (Nat → Int32) → (Nat → Int32) → (Nat → Int32) → (Nat → Int32) → (Nat → Int32) → (Nat → Int32) → (Nat → Int32) → (Nat → Int32) → (Nat → Int32) → (Nat → Int32) → Prop} {x1 : Int32} {made k : Nat} (z : Bool) (h9 : hn ≤ 999999) (ht : tn < 80)
    (hJ : J (nI (made + z.toNat)) (nI (k + 1)) (nI fn) fl fh (cw_pr lo) (nI ((tn + 1) % 80)) (nI (cw_hn z hn)) (nI en) (cw_eB B) (cw_eN U) (cw_eN F) (cw_eB R) (cw_eT T) fz va (cw_eN H) go pl em se tm mv) : wX_scrub_47 post J x1 (nI made) (nI k) (nI hn) (nI fn) fl fh (cw_pr lo) (nI tn) (nI (cw_hn z hn)) (nI en) (cw_eB B) (cw_eN U) (cw_eN F) (cw_eB R) (cw_eT T) fz va (cw_eN H) go pl em se tm mv := by
  have h59 : ∀ m, J (nI m) (nI (k + 1)) (nI fn) fl fh (cw_pr lo) (nI ((tn + 1) % 80)) (nI (cw_hn z hn)) (nI en) (cw_eB B) (cw_eN U) (cw_eN F) (cw_eB R) (cw_eT T) fz va (cw_eN H) go pl em se tm mv → wX_scrub_59 post J x1 (nI m) (nI k) (nI fn) fl fh (cw_pr lo) (nI tn) (nI (cw_hn z hn)) (nI en) (cw_eB B) (cw_eN U) (cw_eN F) (cw_eB R) (cw_eT T) fz va (cw_eN H) go pl em se tm mv := by
    intro m hJ
    refine pk_eq tn 79 (fun q => nm_r (nI_1 k) ?_) (fun q => nm_r (nI_1 tn) (nm_r (nI_1 k) ?_))
    · rw [show (tn + 1) % 80 = 0 by omega] at hJ; exact hJ
    · rw [show (tn + 1) % 80 = tn + 1 by omega] at hJ; exact hJ
  have h8 := cw_hn_le (z := z) h9
  refine pk_eq (cw_hn z hn) hn (fun q => ?_) (fun q => ?_)
  · have hz : z = false := by
      cases z with
      | false => rfl
      | true => exact absurd q (cw_hn_ne rfl)
    refine h59 made ?_
    rw [hz] at hJ ⊢; exact hJ
  · have hz : z = true := by
      cases z with
      | true => rfl
      | false => exact absurd rfl q
    refine nm_r (nI_1 made) (h59 (made + 1) ?_)
    rw [hz] at hJ ⊢; exact hJ
theorem cw_y_sc120 {post : Int32 → SY → Prop} {J : Int32 → Int32 → Int32 → Int32 → Int32 → (Nat → Int32) → (Nat → Int32) → (Nat → Int32) → (Nat → Int32) → (Nat → Int32) → (Nat → Int32) → (Nat → Int32) → (Nat → Int32) → (Nat → Int32) → (Nat → Int32) → (Nat → Int32) → Prop} {x1 : Int32} {made k : Nat} (ht : tn < 80) (hJ : J (nI made) (nI (k + 1)) (nI ((tn + 1) % 80)) (nI hn) (nI en) (cw_eT T) fz (cw_eN hs) be va (cw_eT bd) (cw_eT lo) se hd pl sh) : wY_scrub_120 post J x1 (nI made) (nI k) (nI tn) (nI hn) (nI en) (cw_eT T) fz (cw_eN hs) be va (cw_eT bd) (cw_eT lo) se hd pl sh := by
  refine ⟨by decide, nm_r (e' := nI ((tn + 1) % 80)) ?_ (nm_r (nI_1 k) hJ)⟩
  rw [nI_1]
  exact pk_rem (a := tn + 1) (d := 80) (by omega) (by omega) (by omega)
theorem cw_y_scstep {post : Int32 → SY → Prop} {n m made k : Nat} {hd0 : Nat → Int32} (h9 : hn ≤ 999999) (ht : tn < 80) (hk : k < n) (hn2 : n < 81)
    (hJ : wY_scrub_19 post (nI n) m (nI (made + (decide (cw_tc T hs (tn + 1) ≠ 0) && cw_hl bd lo tn).toNat)) (nI (k + 1)) (nI ((tn + 1) % 80)) (nI (cw_hn (decide (cw_tc T hs (tn + 1) ≠ 0) && cw_hl bd lo tn) hn)) (nI en) (cw_eT T) fz (cw_eN hs) be va (cw_eT (cw_bd (decide (cw_tc T hs (tn + 1) ≠ 0) && cw_hl bd lo tn) bd tn)) (cw_eT lo) se (cw_hd T hs hd0) pl sh) :
    wY_scrub_19 post (nI n) (m + 1) (nI made) (nI k) (nI tn) (nI hn) (nI en) (cw_eT T) fz (cw_eN hs) be va (cw_eT bd) (cw_eT lo) se (cw_hd T hs hd0) pl sh := by
  have htc := cw_tc_le (T := T) (hs := hs) (tn + 1)
  have e80 : (80 : Int32) + nI tn = nI (80 + tn) := nI_add 80 tn
  -- no look
  have no : (decide (cw_tc T hs (tn + 1) ≠ 0) && cw_hl bd lo tn) = false → wY_scrub_66 post (wY_scrub_19 post (nI n) m) (nI n) (nI made) (nI k) (nI tn) (nI hn) (nI en) (cw_eT T) fz (cw_eN hs) be va (cw_eT bd) (cw_eT lo) se (cw_hd T hs hd0) pl sh := by
    intro z
    rw [z] at hJ
    have h120 := cw_y_sc120 (post := post) (x1 := nI n) (J := wY_scrub_19 post (nI n) m) (T := T) (hs := hs) (bd := bd) (hn := hn) (en := en) (pl := pl) (sh := sh) (lo := lo) (fz := fz) (va := va) (se := se) (be := be) (hd := cw_hd T hs hd0) (made := made) (k := k) ht hJ
    refine ⟨vp_in_nI (by omega) (by decide), ?_⟩
    exact br_c (fun _ => br_t rfl (br_t rfl h120)) (fun _ => br_t rfl (br_t rfl h120))
  -- a look
  have yes : ∀ d, d < 2 → cw_tc T hs (tn + 1) ≠ 0 → ¬ (bd tn = true ∧ bd (80 + tn) = true) → cw_hl bd lo tn = (!lo d) → wY_scrub_86 post (wY_scrub_19 post (nI n) m) (nI n) (nI made) (nI k) 1 (nI d) (nI tn) (nI hn) (nI en) (cw_eT T) fz (cw_eN hs) be va (cw_eT bd) (cw_eT lo) se (cw_hd T hs hd0) pl sh := by
    intro d hd2 q1 q2 q3
    rw [decide_eq_true q1, Bool.true_and] at hJ
    have h106 : wY_scrub_106 post (wY_scrub_19 post (nI n) m) (nI n) (nI (made + (cw_hl bd lo tn).toNat)) (nI k) 1 (nI tn) (nI hn) (nI en) (cw_eT T) fz (cw_eN hs) be va (cw_eT bd) (cw_eT lo) se (cw_hd T hs hd0) pl sh := by
      refine br_f (by decide) ?_
      refine cw_y_look ht h9 (fun x y => absurd ⟨x, y⟩ q2) (fun _ => ?_)
      exact cw_y_sc120 ht hJ
    refine br_f (by decide) ⟨vp_in_nI hd2 (by decide), ?_⟩
    rw [cw_rdT rfl (by omega)]
    refine cw_bt (fun e => ?_) (fun e => ?_)
    · rw [q3, e] at h106
      exact nm_r (nI_1 made) h106
    · rw [q3, e] at h106
      exact h106
  refine br_f (nI_ge hk (by omega)) ⟨cw_in1 (nI_1 tn) (by omega) (by decide), ?_⟩
  refine pk_le (cw_tc T hs (tn + 1)) 0 (fun q => ?_) (fun q => ⟨vp_in_nI (by omega) (by decide), cw_in1 e80 (by omega) (by decide), ?_⟩) (cw_hd_b (nI_1 tn) (by omega))
  · exact no (by rw [decide_eq_false (by omega)]; rfl)
  · rw [cw_rdT rfl (by omega), cw_rdT e80 (by omega)]
    have h67 : wY_scrub_67 post (wY_scrub_19 post (nI n) m) (nI n) (nI made) (nI k) 1 (nI tn) (nI hn) (nI en) (cw_eT T) fz (cw_eN hs) be va (cw_eT bd) (cw_eT lo) se (cw_hd T hs hd0) pl sh ∨ bd tn = bd (80 + tn) := by
      cases ha : bd tn with
      | true =>
        cases hb : bd (80 + tn) with
        | true => exact Or.inr rfl
        | false =>
          refine Or.inl ⟨vp_in_nI (by omega) (by decide), ?_⟩
          rw [cw_rdT rfl (by omega), ha]
          exact br_f (by decide) (yes 0 (by decide) (by omega) (by rw [hb]; exact fun z => absurd z.2 Bool.false_ne_true) (by unfold cw_hl; rw [ha, hb]; cases lo 0 <;> rfl))
      | false =>
        cases hb : bd (80 + tn) with
        | false => exact Or.inr rfl
        | true =>
          refine Or.inl ⟨vp_in_nI (by omega) (by decide), ?_⟩
          rw [cw_rdT rfl (by omega), ha]
          exact br_t rfl (yes 1 (by decide) (by omega) (by rw [ha]; exact fun z => absurd z.1 Bool.false_ne_true) (by unfold cw_hl; rw [ha, hb]; cases lo 1 <;> rfl))
    refine br_c (fun e => no ?_) (fun e => ?_)
    · have hl0 : cw_hl bd lo tn = false := by
        unfold cw_hl
        revert e
        cases bd tn <;> cases bd (80 + tn) <;> intro e
        · rfl
        · exact absurd e (by decide)
        · exact absurd e (by decide)
        · rfl
      rw [hl0, Bool.and_false]
    · rcases h67 with q2 | q2
      · exact q2
      · exact absurd (congrArg cw_eb q2) e
theorem cw_hl_both {b : Nat} (h1 : bd b = true) (h2 : bd (80 + b) = true) : cw_hl bd lo b = false := by
  unfold cw_hl; rw [h1, h2]; rfl
theorem cw_ls_scrub {YW : (Int32 → SY → Prop) → Prop} {K n : Nat} {hd0 : Nat → Int32} (hn2 : n < 81) : ∀ (d k made : Nat) (go : Nat → Int32) (bd : Nat → Bool) (tn hn : Nat), k + d = n → made ≤ k → cw_RR A L B R U H F fn fl fh T hs go bd tn hn en pl em sh → (∀ post, wY_scrub_19 post (nI n) (d + 1) (nI made) (nI k) (nI tn) (nI hn) (nI en) (cw_eT T) fz (cw_eN hs) be va (cw_eT bd) (cw_eT lo) se (cw_hd T hs hd0) pl sh → YW post) →
    wX_scrub_15 (fun r u' => YW (fun r' v' => r' = r ∧ i_Rel K u' v')) (nI n) (d + 1) (nI made) (nI k) (nI fn) fl fh (cw_pr lo) (nI tn) (nI hn) (nI en) (cw_eB B) (cw_eN U) (cw_eN F) (cw_eB R) (cw_eT T) fz va (cw_eN H) go pl em se tm mv := by
  intro d
  induction d with
  | zero =>
    intro k made go bd tn hn hk hm h hY
    have hk : k = n := by omega
    subst hk
    refine br_t (nI_le (Nat.le_refl _) (by omega)) (hY _ ?_)
    exact br_t (nI_le (Nat.le_refl _) (by omega)) ⟨rfl, cw_in h⟩
  | succ d ih =>
    intro k made go bd tn hn hk hm h hY
    have ht := h.2.2.1
    have h9 := h.2.2.2.1
    have hH := cw_H_le h.1.1.1 ht
    have hheld := cw_held h.1 ht
    have hz := cw_bn (decide (cw_tc T hs (tn + 1) ≠ 0) && cw_hl bd lo tn)
    have nx := ih (k + 1) (made + (decide (cw_tc T hs (tn + 1) ≠ 0) && cw_hl bd lo tn).toNat) (cw_go (decide (cw_tc T hs (tn + 1) ≠ 0) && cw_hl bd lo tn) go tn) (cw_bd (decide (cw_tc T hs (tn + 1) ≠ 0) && cw_hl bd lo tn) bd tn) ((tn + 1) % 80) (cw_hn (decide (cw_tc T hs (tn + 1) ≠ 0) && cw_hl bd lo tn) hn) (by omega) (by omega) ⟨h.1, cw_GD_look h.2.1 ht, by omega, cw_hn_le h9, h.2.2.2.2⟩ (fun post hp => hY post (cw_y_scstep h9 ht (by omega) hn2 hp))
    refine br_f (nI_ge (by omega) (by omega)) ⟨vp_in_nI ht (by decide), ?_⟩
    refine pk_le (H tn) 0 (fun q => ?_) (fun q => ?_) (cw_rdN rfl (by omega))
    · rw [decide_eq_false (fun z => (hheld.mpr z) (by omega)), Bool.false_and] at nx
      exact cw_w_sc47 (hn := hn) false h9 ht nx
    · rw [decide_eq_true (hheld.mp (by omega)), Bool.true_and] at nx
      refine cw_w_look ht h9 (h.2.1 tn ht (by omega)) (fun q1 q2 => ?_) (fun q1 => ?_)
      · rw [cw_hl_both q1 q2] at nx
        exact cw_w_sc47 (hn := hn) false h9 ht nx
      · exact cw_w_sc47 (hn := hn) (cw_hl bd lo tn) h9 ht nx
end
theorem i_vc_scrub {k : Nat} {u : SX} {v : SY} (I : i_Rel k u v) (hk : k + 6 ≤ 3072) (v1 : Int32) : wpX_scrub (fun r u' => wpY_scrub (fun r' v' => r' = r ∧ i_Rel (k + 6) u' v') v v1) u v1 := by
  refine cw_el (P := fun u v => wpX_scrub (fun r u' => wpY_scrub (fun r' v' => r' = r ∧ i_Rel (k + 6) u' v') v v1) u v1) ?_ I
  intro A L B R U H F fn fl fh T hs go bd tn hn en pl em sh lo fz va se tm mv be hd h
  unfold wpX_scrub
  by_cases a1 : cw_am v1 81
  · obtain ⟨n, hn2, rfl⟩ := cw_am_of (n := 81) (by decide) rfl a1
    refine cw_amT a1 ?_
    refine br_f (by decide) ⟨n + 1, ?_⟩
    refine cw_ls_scrub (be := be) (YW := fun post => wpY_scrub post ((nI tn), (nI hn), (nI en), (cw_eT T), fz, (cw_eN hs), be, va, (cw_eT bd), (cw_eT lo), se, hd, pl, sh) (nI n)) (K := k + 6) (hd0 := hd) hn2 n 0 0 go bd tn hn (by omega) (by omega) h (fun post hp => ?_)
    unfold wpY_scrub
    refine cw_ouT a1 (br_t rfl ?_)
    exact cw_y_tally h.1.2.2.2.2 ⟨n + 1, hp⟩
  · refine cw_amF a1 (br_t rfl ?_)
    show wpY_scrub _ _ _
    unfold wpY_scrub
    refine cw_ouF a1 (br_f (by decide) ?_)
    exact ⟨rfl, cw_in h⟩
end
section
/-- all links below x are within -/
def cw_ty (B : Nat → Option Nat) (x : Option Nat) : Prop := ∀ n, x = some n → n < 160 ∧ ∀ j m, j < 4 → B (4 * n + j) = some m → m < 160 ∧ ∀ i l, i < 4 → B (4 * m + i) = some l → l < 160 ∧ ∀ e b, e < 4 → B (4 * l + e) = some b → b < 160
theorem cw_ty_n {B : Nat → Option Nat} : cw_ty B none := fun n e => by cases e
theorem cw_ty_R {A L : Nat → Nat} {B R : Nat → Option Nat} {U H F : Nat → Nat} {fn : Nat} {Q : Nat → Nat} (h : cw_Rq A L B R U H F fn Q) {v : Nat} (hv : v < 6) : cw_ty B (R v) := by
  intro n e
  obtain ⟨y1, y2, y3⟩ := cw_root h.1 hv (h.2 v hv) e
  refine ⟨y1, fun j m hj e2 => ?_⟩
  obtain ⟨z1, z2, z3⟩ := cw_kid h.1 y1 y3 (by omega) (by omega) hj e2
  refine ⟨z1, fun i l hi e3 => ?_⟩
  obtain ⟨w1, w2, w3⟩ := cw_kid h.1 z1 z3 (by omega) (by omega) hi e3
  exact ⟨w1, fun i' b hi' e4 => by have := cw_kib h.1 w1 w3 hi' e4; omega⟩
/-- q is the first place from s on at which x and y differ, or 64 -/
def cw_nx (B : Nat → Option Nat) (x y : Option Nat) (s q : Nat) : Prop := s ≤ q ∧ q ≤ 64 ∧ (∀ i, s ≤ i → i < q → cw_f3 B x i = cw_f3 B y i) ∧ (q < 64 → cw_f3 B x q ≠ cw_f3 B y q)
theorem cw_nx_ex (B : Nat → Option Nat) (x y : Option Nat) {s : Nat} (hs : s ≤ 64) : ∃ q, cw_nx B x y s q := by
  by_cases h : ∃ k, s ≤ k ∧ k < 64 ∧ cw_f3 B x k ≠ cw_f3 B y k
  · obtain ⟨k, hk, hl⟩ := pk_least (fun k => s ≤ k ∧ k < 64 ∧ cw_f3 B x k ≠ cw_f3 B y k) h
    refine ⟨k, hk.1, by omega, fun i h1 h2 => ?_, fun _ => hk.2.2⟩
    exact Classical.byContradiction fun z => hl i h2 ⟨h1, by omega, z⟩
  · refine ⟨64, hs, Nat.le_refl _, fun i h1 h2 => ?_, fun z => by omega⟩
    exact Classical.byContradiction fun z => h ⟨i, h1, h2, z⟩
theorem cw_nx_skip {B : Nat → Option Nat} {x y : Option Nat} {s s' q : Nat} (h : cw_nx B x y s q) (hs : s' ≤ 64) (he : ∀ i, s ≤ i → i < s' → cw_f3 B x i = cw_f3 B y i) (hss : s ≤ s') : cw_nx B x y s' q := by
  obtain ⟨h1, h2, h3, h4⟩ := h
  have hq : s' ≤ q := by
    by_cases z : s' ≤ q
    · exact z
    · exact absurd (he q h1 (by omega)) (h4 (by omega))
  exact ⟨hq, h2, fun i a b => h3 i (by omega) b, h4⟩
theorem cw_lv0 {s : Nat} (hs : s < 64) : (nI s >>> (((4 : Int32) - 2 * nI 0) &&& 31)) &&& 3 = nI (s / 16) := by
  rw [show ((4 : Int32) - 2 * nI 0) &&& 31 = (4 : Int32) &&& 31 by decide, cw_sh4 hs]
  rw [show nI (s / 16) &&& 3 = nI (s / 16 % 2 ^ 2) from pk_andN (by omega) 2 (by decide)]
  exact congrArg nI (by omega)
theorem cw_lv1 {s : Nat} (hs : s < 64) : (nI s >>> (((4 : Int32) - 2 * nI 1) &&& 31)) &&& 3 = nI (s / 4 % 4) := by
  rw [show ((4 : Int32) - 2 * nI 1) &&& 31 = (2 : Int32) &&& 31 by decide]; exact cw_sh2 hs
theorem cw_lv2 {s : Nat} (hs : s < 64) : (nI s >>> (((4 : Int32) - 2 * nI 2) &&& 31)) &&& 3 = nI (s % 4) := by
  rw [show ((4 : Int32) - 2 * nI 2) &&& 31 = (0 : Int32) &&& 31 by decide, sb_shr0]; exact cw_sh0 hs
theorem cw_mk64 : ∀ s, s < 64 → (nI s &&& (-nI 64)) + nI 64 = nI 64 := by decide +kernel
theorem cw_mk16 : ∀ s, s < 64 → (nI s &&& (-nI 16)) + nI 16 = nI (s / 16 * 16 + 16) := by decide +kernel
theorem cw_mk4 : ∀ s, s < 64 → (nI s &&& (-nI 4)) + nI 4 = nI (s / 4 * 4 + 4) := by decide +kernel
theorem cw_mk1 : ∀ s, s < 64 → (nI s &&& (-nI 1)) + nI 1 = nI (s + 1) := by decide +kernel
section
variable {fl fh : Int64} {pr ft he en : Int32} {fn : Nat} {B R : Nat → Option Nat} {U F H : Nat → Nat} {th fz va go pl em se tm mv : Nat → Int32}
theorem cw_w_nd23 {post J3 : Int32 → Prop} {x1 x2 : Int32} {s n l j st : Nat} {a b : Option Nat} (hl : l < 3) (ha : ∀ m, a = some m → m < 160) (hb : ∀ m, b = some m → m < 160) (hne : a ≠ b) (hj : (nI s >>> (((4 : Int32) - 2 * nI l) &&& 31)) &&& 3 = nI j) (hj4 : j < 4) (hst : st < 1000)
    (hp : wX_nextDifference_23 post J3 x1 x2 (nI s) (nI fn) fl fh pr ft he en (cw_eB B) (cw_eN U) (cw_eN F) (cw_eB R) th fz va (cw_eN H) go pl em se tm mv n (cw_eO (cw_ch B a j)) (cw_eO (cw_ch B b j)) (nI (st / 4)) (nI (l + 1))) : wX_nextDifference_23 post J3 x1 x2 (nI s) (nI fn) fl fh pr ft he en (cw_eB B) (cw_eN U) (cw_eN F) (cw_eB R) th fz va (cw_eN H) go pl em se tm mv (n + 1) (cw_eO a) (cw_eO b) (nI st) (nI l) := by
  have e1 : ∀ m, (4 : Int32) * nI m + ((nI s >>> (((4 : Int32) - 2 * nI l) &&& 31)) &&& 3) = nI (4 * m + j) := fun m => by rw [hj, cw_4j]
  refine br_f (nI_ge (b := 3) hl (by decide)) (br_f (fun z => hne ((cw_eO_inj (fun m e => by have := ha m e; omega) (fun m e => by have := hb m e; omega)).mp z)) ?_)
  refine nm_r (pk_shrN (by omega) _ 2 (by decide)) (nm_e ?_)
  have h76 : wX_nextDifference_76 post J3 (wX_nextDifference_23 post J3 x1 x2 (nI s) (nI fn) fl fh pr ft he en (cw_eB B) (cw_eN U) (cw_eN F) (cw_eB R) th fz va (cw_eN H) go pl em se tm mv n) x1 x2 (nI s) (cw_eO b) (nI (st / 2 ^ 2)) (nI l) ((4 : Int32) - 2 * nI l) (cw_eO (cw_ch B a j)) (nI fn) fl fh pr ft he en (cw_eB B) (cw_eN U) (cw_eN F) (cw_eB R) th fz va (cw_eN H) go pl em se tm mv := by
    refine cw_og rfl (fun m e => by have := hb m e; omega) (fun m e => ?_) (fun e => ?_)
    · subst e
      have := hb m rfl
      refine ⟨cw_in1 (e1 m) (by omega) (by decide), nm_r (cw_rdB (e1 m) (by omega)) (nm_r (nI_1 l) hp)⟩
    · subst e
      exact nm_r (nI_1 l) hp
  refine cw_og rfl (fun m e => by have := ha m e; omega) (fun m e => ?_) (fun e => ?_)
  · subst e
    have := ha m rfl
    refine ⟨cw_in1 (e1 m) (by omega) (by decide), ?_⟩
    rw [show cw_eB B ((4 : Int32) * cw_eO (some m) + ((nI s >>> (((4 : Int32) - 2 * nI l) &&& 31)) &&& 3)).toNatClampNeg = cw_eO (B (4 * m + j)) from cw_rdB (e1 m) (by omega)]
    exact h76
  · subst e
    exact h76
theorem cw_w_next {post : Int32 → Prop} {x y : Option Nat} {q : Nat} (hx : cw_ty B x) (hy : cw_ty B y) (hp : post (nI q)) : ∀ d s, s ≤ 64 → 64 ≤ s + d → cw_nx B x y s q → wX_nextDifference_3 post (cw_eO x) (cw_eO y) (nI fn) fl fh pr ft he en (cw_eB B) (cw_eN U) (cw_eN F) (cw_eB R) th fz va (cw_eN H) go pl em se tm mv (d + 1) (nI s) := by
  intro d
  induction d with
  | zero =>
    intro s hs hd hn
    have hq : q = 64 := by have := hn.1; have := hn.2.1; omega
    subst hq
    exact br_t (nI_le (a := 64) (by omega) (by omega)) hp
  | succ d ih =>
    intro s hs hd hn
    by_cases hs64 : s = 64
    · have hq : q = 64 := by have := hn.1; have := hn.2.1; omega
      subst hq
      exact br_t (nI_le (a := 64) (by omega) (by omega)) hp
    have hs2 : s < 64 := by omega
    have go1 : ∀ s', s < s' → s' ≤ 64 → (∀ i, s ≤ i → i < s' → cw_f3 B x i = cw_f3 B y i) → wX_nextDifference_3 post (cw_eO x) (cw_eO y) (nI fn) fl fh pr ft he en (cw_eB B) (cw_eN U) (cw_eN F) (cw_eB R) th fz va (cw_eN H) go pl em se tm mv (d + 1) (nI s') := fun s' h1 h2 he => ih s' h2 (by omega) (cw_nx_skip hn h2 he (by omega))
    refine br_f (nI_ge (b := 64) hs2 (by decide)) ⟨4, ?_⟩
    -- the bounds of the links
    have bx : ∀ m, x = some m → m < 160 := fun m e => (hx m e).1
    have yb : ∀ m, y = some m → m < 160 := fun m e => (hy m e).1
    have cx : ∀ z, cw_ty B z → ∀ m, cw_ch B z (s / 16) = some m → m < 160 ∧ ∀ i l, i < 4 → B (4 * m + i) = some l → l < 160 ∧ ∀ e b, e < 4 → B (4 * l + e) = some b → b < 160 := by
      intro z hz m e
      cases z with
      | none => cases e
      | some n => exact (hz n rfl).2 (s / 16) m (by omega) e
    have dx : ∀ z, cw_ty B z → ∀ l, cw_ch B (cw_ch B z (s / 16)) (s / 4 % 4) = some l → l < 160 ∧ ∀ e b, e < 4 → B (4 * l + e) = some b → b < 160 := by
      intro z hz l e
      cases q : cw_ch B z (s / 16) with
      | none => rw [q] at e; cases e
      | some m => rw [q] at e; exact (cx z hz m q).2 (s / 4 % 4) l (by omega) e
    have ex : ∀ z, cw_ty B z → ∀ b, cw_ch B (cw_ch B (cw_ch B z (s / 16)) (s / 4 % 4)) (s % 4) = some b → b < 160 := by
      intro z hz b e
      cases q : cw_ch B (cw_ch B z (s / 16)) (s / 4 % 4) with
      | none => rw [q] at e; cases e
      | some l => rw [q] at e; exact (dx z hz l q).2 (s % 4) b (by omega) e
    show wX_nextDifference_23 post _ _ _ _ (nI fn) fl fh pr ft he en (cw_eB B) (cw_eN U) (cw_eN F) (cw_eB R) th fz va (cw_eN H) go pl em se tm mv 4 (cw_eO x) (cw_eO y) (nI 64) (nI 0)
    by_cases q0 : x = y
    · refine br_f (by decide) (br_t (by rw [q0]) (br_t (by rw [q0]) (nm_r (cw_mk64 s hs2) ?_)))
      exact go1 64 hs2 (by omega) (fun i _ _ => by rw [q0])
    refine cw_w_nd23 (by omega) bx yb q0 (cw_lv0 hs2) (by omega) (by omega) ?_
    by_cases q1 : cw_ch B x (s / 16) = cw_ch B y (s / 16)
    · refine br_f (by decide) (br_t (by rw [q1]) (br_t (by rw [q1]) (nm_r (cw_mk16 s hs2) ?_)))
      refine go1 (s / 16 * 16 + 16) (by omega) (by omega) (fun i h1 h2 => ?_)
      unfold cw_f3
      rw [show i / 16 = s / 16 by omega, q1]
    refine cw_w_nd23 (st := 16) (by omega) (fun m e => (cx x hx m e).1) (fun m e => (cx y hy m e).1) q1 (cw_lv1 hs2) (by omega) (by omega) ?_
    by_cases q2 : cw_ch B (cw_ch B x (s / 16)) (s / 4 % 4) = cw_ch B (cw_ch B y (s / 16)) (s / 4 % 4)
    · refine br_f (by decide) (br_t (by rw [q2]) (br_t (by rw [q2]) (nm_r (cw_mk4 s hs2) ?_)))
      refine go1 (s / 4 * 4 + 4) (by omega) (by omega) (fun i h1 h2 => ?_)
      unfold cw_f3 cw_f2
      rw [show i / 16 = s / 16 by omega, show i / 4 % 4 = s / 4 % 4 by omega, q2]
    refine cw_w_nd23 (st := 4) (by omega) (fun m e => (dx x hx m e).1) (fun m e => (dx y hy m e).1) q2 (cw_lv2 hs2) (by omega) (by omega) ?_
    refine br_t (by decide) ?_
    by_cases q3 : cw_ch B (cw_ch B (cw_ch B x (s / 16)) (s / 4 % 4)) (s % 4) = cw_ch B (cw_ch B (cw_ch B y (s / 16)) (s / 4 % 4)) (s % 4)
    · refine br_t (by rw [q3]) (nm_r (cw_mk1 s hs2) ?_)
      refine go1 (s + 1) (by omega) (by omega) (fun i h1 h2 => ?_)
      rw [show i = s by omega]
      exact q3
    · refine br_f (fun z => q3 ((cw_eO_inj (fun m e => by have := ex x hx m e; omega) (fun m e => by have := ex y hy m e; omega)).mp z)) ?_
      have hqs : q = s := by
        by_cases z : q = s
        · exact z
        · exact absurd (hn.2.2.1 s (Nat.le_refl _) (by have := hn.1; omega)) q3
      rw [← hqs]; exact hp
theorem cw_w_nextD {post : Int32 → Prop} {x y : Option Nat} {s q : Nat} (hx : cw_ty B x) (hy : cw_ty B y) (hs : s ≤ 64) (hn : cw_nx B x y s q) (hp : post (nI q)) : wpX_nextDifference post ((nI fn), fl, fh, pr, ft, he, en, (cw_eB B), (cw_eN U), (cw_eN F), (cw_eB R), th, fz, va, (cw_eN H), go, pl, em, se, tm, mv) (cw_eO x) (cw_eO y) (nI s) :=
  ⟨65, cw_w_next hx hy hp 64 s hs (by omega) hn⟩
end
end
section
/-- the places where x and y differ -/
def cw_df (B : Nat → Option Nat) (x y : Option Nat) (i : Nat) : Bool := decide (cw_f3 B x i ≠ cw_f3 B y i)
theorem cw_nx_cn {B : Nat → Option Nat} {x y : Option Nat} {s q : Nat} (h : cw_nx B x y s q) : cw_cn (cw_df B x y) q = cw_cn (cw_df B x y) s := by
  have e := cw_cn_add (p := cw_df B x y) s (q - s)
  rw [show s + (q - s) = q by have := h.1; omega] at e
  have z : cw_cn (fun j => cw_df B x y (s + j)) (q - s) = 0 := cw_cn_zero (fun i hi => decide_eq_false (fun z => z (h.2.2.1 (s + i) (by omega) (by omega))))
  rw [e, z]; rfl
section
variable {A L : Nat → Nat} {B R : Nat → Option Nat} {U H F : Nat → Nat} {fn : Nat} {fl fh : Int64} {T : Nat → Bool} {hs : Nat → Nat} {go : Nat → Int32} {bd : Nat → Bool} {tn hn en : Nat} {pl em sh : Nat → Int32} {lo : Nat → Bool} {fz va se tm mv be hd : Nat → Int32}
theorem cw_w_dfl {post : Int32 → Prop} {v w : Nat} {Q : Nat → Nat} (h : cw_Rq A L B R U H F fn Q) (hv : v < 6) (hw : w < 6) (hp : post (nI (cw_cn (cw_df B (R v) (R w)) 64))) : ∀ d q, q ≤ 64 → 64 ≤ q + d → (q < 64 → cw_f3 B (R v) q ≠ cw_f3 B (R w) q) → wX_differ_39 post (nI v) (nI w) (nI fn) fl fh (cw_pr lo) (nI tn) (nI hn) (nI en) (cw_eB B) (cw_eN U) (cw_eN F) (cw_eB R) (cw_eT T) fz va (cw_eN H) go pl em se tm mv (d + 1) (nI (cw_cn (cw_df B (R v) (R w)) q)) (nI q) := by
  intro d
  induction d with
  | zero =>
    intro q hq hd hD
    have hq : q = 64 := by omega
    subst hq
    exact br_t (by decide) hp
  | succ d ih =>
    intro q hq hd hD
    by_cases e : q = 64
    · subst e
      exact br_t (by decide) hp
    have hq2 : q < 64 := by omega
    have e1 : cw_cn (cw_df B (R v) (R w)) (q + 1) = cw_cn (cw_df B (R v) (R w)) q + 1 := by
      rw [cw_cn_s, show cw_df B (R v) (R w) q = true from decide_eq_true (hD hq2)]; rfl
    refine br_f (nI_ge (b := 64) hq2 (by decide)) (nm_r (nI_1 _) ⟨vp_in_nI hv (by decide), vp_in_nI hw (by decide), ?_⟩)
    obtain ⟨q', hx⟩ := cw_nx_ex B (R v) (R w) (s := q + 1) (by omega)
    rw [show cw_eB R (nI v).toNatClampNeg = cw_eO (R v) from cw_rdB rfl (by omega), show cw_eB R (nI w).toNatClampNeg = cw_eO (R w) from cw_rdB rfl (by omega), show nI q + 1 = nI (q + 1) from nI_1 q]
    refine cw_w_nextD (cw_ty_R h hv) (cw_ty_R h hw) (by omega) hx ?_
    have nx := ih q' hx.2.1 (by have := hx.1; omega) hx.2.2.2
    rw [cw_nx_cn hx, e1] at nx
    exact nx
theorem cw_w_differ {post : Int32 → Prop} {v w : Nat} {Q : Nat → Nat} (h : cw_Rq A L B R U H F fn Q) (hv : v < 6) (hw : w < 6) (tv : T v = true) (tw : T w = true) (hp : post (nI (cw_cn (cw_df B (R v) (R w)) 64))) : wpX_differ post ((nI fn), fl, fh, (cw_pr lo), (nI tn), (nI hn), (nI en), (cw_eB B), (cw_eN U), (cw_eN F), (cw_eB R), (cw_eT T), fz, va, (cw_eN H), go, pl, em, se, tm, mv) (nI v) (nI w) := by
  unfold wpX_differ
  refine cw_w_thT ⟨v, hv, rfl, tv⟩ ?_
  refine br_f (by decide) ?_
  refine cw_w_thT ⟨w, hw, rfl, tw⟩ ?_
  refine br_f (by decide) ⟨vp_in_nI hv (by decide), vp_in_nI hw (by decide), ?_⟩
  obtain ⟨q', hx⟩ := cw_nx_ex B (R v) (R w) (s := 0) (by omega)
  rw [show cw_eB R (nI v).toNatClampNeg = cw_eO (R v) from cw_rdB rfl (by omega), show cw_eB R (nI w).toNatClampNeg = cw_eO (R w) from cw_rdB rfl (by omega)]
  refine cw_w_nextD (s := 0) (cw_ty_R h hv) (cw_ty_R h hw) (by omega) hx ⟨65, ?_⟩
  have nx := cw_w_dfl (post := post) (hn := hn) (tn := tn) (en := en) (T := T) (go := go) (fl := fl) (fh := fh) (lo := lo) (fz := fz) (va := va) (pl := pl) (em := em) (se := se) (tm := tm) (mv := mv) h hv hw hp 64 q' hx.2.1 (by omega) hx.2.2.2
  rw [cw_nx_cn hx] at nx
  exact nx
theorem cw_y_dfl {post : Int32 → Prop} {v w : Nat} {D : Nat → Bool} (hv : v < 6) (hw : w < 6) (hD : ∀ i, i < 64 → D i = decide (hs (64 * v + i) ≠ hs (64 * w + i))) (hhs : ∀ x, hs x ≤ 80) (hp : post (nI (cw_cn D 64))) : ∀ d i, i + d = 64 → wY_differ_23 post (nI v) (nI w) (nI tn) (nI hn) (nI en) (cw_eT T) fz (cw_eN hs) be va (cw_eT bd) (cw_eT lo) se hd pl sh (d + 1) (nI (cw_cn D i)) (nI i) := by
  intro d
  induction d with
  | zero =>
    intro i hi
    have hi : i = 64 := by omega
    subst hi
    exact br_t (by decide) hp
  | succ d ih =>
    intro i hi
    have a1 := hhs (64 * v + i)
    have a2 := hhs (64 * w + i)
    have nx := ih (i + 1) (by omega)
    refine br_f (nI_ge (b := 64) (by omega) (by decide)) ⟨cw_in1 (cw_64 v i) (by omega) (by decide), cw_in1 (cw_64 w i) (by omega) (by decide), ?_⟩
    refine pk_eq (hs (64 * v + i)) (hs (64 * w + i)) (fun e => ?_) (fun e => ?_) (cw_rdN (cw_64 v i) (by omega)) (cw_rdN (cw_64 w i) (by omega))
    · rw [cw_cn_s, hD i (by omega), decide_eq_false (fun z => z e)] at nx
      exact nm_r (nI_1 i) nx
    · rw [cw_cn_s, hD i (by omega), decide_eq_true e] at nx
      exact nm_r (nI_1 _) (nm_r (nI_1 i) nx)
theorem cw_y_differ {post : Int32 → Prop} {v w : Nat} {D : Nat → Bool} (hv : v < 6) (hw : w < 6) (tv : T v = true) (tw : T w = true) (hD : ∀ i, i < 64 → D i = decide (hs (64 * v + i) ≠ hs (64 * w + i))) (hhs : ∀ x, hs x ≤ 80) (hp : post (nI (cw_cn D 64))) : wpY_differ post ((nI tn), (nI hn), (nI en), (cw_eT T), fz, (cw_eN hs), be, va, (cw_eT bd), (cw_eT lo), se, hd, pl, sh) (nI v) (nI w) := by
  unfold wpY_differ
  refine cw_y_thT ⟨v, hv, rfl, tv⟩ ?_
  refine br_f (by decide) ?_
  refine cw_y_thT ⟨w, hw, rfl, tw⟩ ?_
  refine br_f (by decide) ⟨65, ?_⟩
  exact cw_y_dfl hv hw hD hhs hp 64 0 rfl
theorem cw_df_hs (h : cw_RR A L B R U H F fn fl fh T hs go bd tn hn en pl em sh) {v w : Nat} (hv : v < 6) (hw : w < 6) (tv : T v = true) (tw : T w = true) : ∀ i, i < 64 → cw_df B (R v) (R w) i = decide (hs (64 * v + i) ≠ hs (64 * w + i)) := by
  intro i hi
  unfold cw_df
  rw [h.1.2.2.2.1 v i hv hi tv, h.1.2.2.2.1 w i hw hi tw]
  by_cases q : cw_f3 B (R v) i = cw_f3 B (R w) i
  · rw [decide_eq_false (fun z => z q), decide_eq_false (fun z => z (congrArg cw_oN q))]
  · rw [decide_eq_true q, decide_eq_true (show cw_oN (cw_f3 B (R v) i) ≠ cw_oN (cw_f3 B (R w) i) from fun z => q (cw_oN_inj z))]
/-- the loop to the k-th difference -/
theorem cw_w_dcl {post : Int32 → Prop} {v w k : Nat} {Q : Nat → Nat} (h : cw_Rq A L B R U H F fn Q) (hv : v < 6) (hw : w < 6) (hk : k < 2 ^ 31) (hp : ∀ p, p < 64 → cw_df B (R v) (R w) p = true → cw_cn (cw_df B (R v) (R w)) p = k → post (nI p)) (h0 : cw_cn (cw_df B (R v) (R w)) 64 ≤ k → post (-1)) : ∀ d q, q ≤ 64 → 64 ≤ q + d → (q < 64 → cw_f3 B (R v) q ≠ cw_f3 B (R w) q) → cw_cn (cw_df B (R v) (R w)) q ≤ k → wX_difference_44 post (nI v) (nI w) (nI fn) fl fh (cw_pr lo) (nI tn) (nI hn) (nI en) (cw_eB B) (cw_eN U) (cw_eN F) (cw_eB R) (cw_eT T) fz va (cw_eN H) go pl em se tm mv (d + 1) (nI (k - cw_cn (cw_df B (R v) (R w)) q)) (nI q) := by
  intro d
  induction d with
  | zero =>
    intro q hq hd hD hc
    have hq : q = 64 := by omega
    subst hq
    exact br_t (by decide) (br_t (by decide) (h0 hc))
  | succ d ih =>
    intro q hq hd hD hc
    by_cases e : q = 64
    · subst e
      exact br_t (by decide) (br_t (by decide) (h0 hc))
    have hq2 : q < 64 := by omega
    have eD : cw_df B (R v) (R w) q = true := decide_eq_true (hD hq2)
    have e1 : cw_cn (cw_df B (R v) (R w)) (q + 1) = cw_cn (cw_df B (R v) (R w)) q + 1 := by
      rw [cw_cn_s, eD]; rfl
    refine br_f (nI_ge (b := 64) hq2 (by decide)) ?_
    refine pk_le (k - cw_cn (cw_df B (R v) (R w)) q) 0 (fun z => ?_) (fun z => ?_)
    · exact br_f (nI_ge (b := 64) hq2 (by decide)) (hp q hq2 eD (by omega))
    · refine nm_r (sb_m1 z) ⟨vp_in_nI hv (by decide), vp_in_nI hw (by decide), ?_⟩
      obtain ⟨q', hx⟩ := cw_nx_ex B (R v) (R w) (s := q + 1) (by omega)
      rw [show cw_eB R (nI v).toNatClampNeg = cw_eO (R v) from cw_rdB rfl (by omega), show cw_eB R (nI w).toNatClampNeg = cw_eO (R w) from cw_rdB rfl (by omega), show nI q + 1 = nI (q + 1) from nI_1 q]
      refine cw_w_nextD (cw_ty_R h hv) (cw_ty_R h hw) (by omega) hx ?_
      have e2 := cw_nx_cn hx
      have nx := ih q' hx.2.1 (by have := hx.1; omega) hx.2.2.2 (by omega)
      rw [e2, e1, show k - (cw_cn (cw_df B (R v) (R w)) q + 1) = k - cw_cn (cw_df B (R v) (R w)) q - 1 by omega] at nx
      exact nx
theorem cw_y_dcl {post : Int32 → Prop} {v w : Nat} {D : Nat → Bool} {x3 r : Int32} (hv : v < 6) (hw : w < 6) (hD : ∀ i, i < 64 → D i = decide (hs (64 * v + i) ≠ hs (64 * w + i))) (hhs : ∀ x, hs x ≤ 80) (e : Nat) (he : e ≤ 64) (hb : ∀ i, i < e → D i = true → ¬ nI (cw_cn D i) = x3) (hr : (e = 64 ∧ r = -1) ∨ (e < 64 ∧ D e = true ∧ nI (cw_cn D e) = x3 ∧ r = nI e)) (hp : post r) : ∀ d i, i ≤ e → e ≤ i + d → wY_difference_24 post (nI v) (nI w) x3 (nI tn) (nI hn) (nI en) (cw_eT T) fz (cw_eN hs) be va (cw_eT bd) (cw_eT lo) se hd pl sh (d + 1) (nI (cw_cn D i)) (nI i) := by
  have last : ∀ n, wY_difference_24 post (nI v) (nI w) x3 (nI tn) (nI hn) (nI en) (cw_eT T) fz (cw_eN hs) be va (cw_eT bd) (cw_eT lo) se hd pl sh (n + 1) (nI (cw_cn D e)) (nI e) := by
    intro n
    rcases hr with ⟨h1, h2⟩ | ⟨h1, h2, h3, h4⟩
    · subst h1
      rw [h2] at hp
      exact br_t (by decide) hp
    · have a1 := hhs (64 * v + e)
      have a2 := hhs (64 * w + e)
      rw [h4] at hp
      refine br_f (nI_ge (b := 64) h1 (by decide)) ⟨cw_in1 (cw_64 v e) (by omega) (by decide), cw_in1 (cw_64 w e) (by omega) (by decide), ?_⟩
      refine pk_eq (hs (64 * v + e)) (hs (64 * w + e)) (fun q => ?_) (fun q => br_t h3 hp) (cw_rdN (cw_64 v e) (by omega)) (cw_rdN (cw_64 w e) (by omega))
      rw [hD e h1, decide_eq_false (fun z => z q)] at h2; cases h2
  intro d
  induction d with
  | zero =>
    intro i h1 h2
    rw [show i = e by omega]
    exact last 0
  | succ d ih =>
    intro i h1 h2
    by_cases q : i = e
    · rw [q]; exact last (d + 1)
    have a1 := hhs (64 * v + i)
    have a2 := hhs (64 * w + i)
    have nx := ih (i + 1) (by omega) (by omega)
    refine br_f (nI_ge (b := 64) (by omega) (by decide)) ⟨cw_in1 (cw_64 v i) (by omega) (by decide), cw_in1 (cw_64 w i) (by omega) (by decide), ?_⟩
    refine pk_eq (hs (64 * v + i)) (hs (64 * w + i)) (fun e2 => ?_) (fun e2 => ?_) (cw_rdN (cw_64 v i) (by omega)) (cw_rdN (cw_64 w i) (by omega))
    · rw [cw_cn_s, hD i (by omega), decide_eq_false (fun z => z e2)] at nx
      exact nm_r (nI_1 i) nx
    · have eD : D i = true := by rw [hD i (by omega)]; exact decide_eq_true e2
      rw [cw_cn_s, eD] at nx
      exact br_f (hb i (by omega) eD) (nm_r (nI_1 _) (nm_r (nI_1 i) nx))
end
theorem i_vc_differ {k : Nat} {u : SX} {v : SY} (I : i_Rel k u v) (hk : k + 6 ≤ 3072) (v1 : Int32) (v2 : Int32) : wpX_differ (fun r => wpY_differ (fun r' => r' = r ∧ i_Rel (k + 6) u v) v v1 v2) u v1 v2 := by
  refine cw_el (P := fun u v => wpX_differ (fun r => wpY_differ (fun r' => r' = r ∧ i_Rel (k + 6) u v) v v1 v2) u v1 v2) ?_ I
  intro A L B R U H F fn fl fh T hs go bd tn hn en pl em sh lo fz va se tm mv be hd h
  by_cases a1 : cw_ok T v1
  · by_cases a2 : cw_ok T v2
    · obtain ⟨v, hv, rfl, tv⟩ := a1
      obtain ⟨w, hw, rfl, tw⟩ := a2
      refine cw_w_differ h.1.1 hv hw tv tw ?_
      exact cw_y_differ hv hw tv tw (cw_df_hs h hv hw tv tw) h.1.2.2.2.2 ⟨rfl, cw_in h⟩
    · unfold wpX_differ
      refine cw_w_thT a1 (br_f (by decide) ?_)
      refine cw_w_thF a2 (br_t rfl ?_)
      show wpY_differ _ _ _ _
      unfold wpY_differ
      refine cw_y_thT a1 (br_f (by decide) ?_)
      exact cw_y_thF a2 (br_t rfl ⟨rfl, cw_in h⟩)
  · unfold wpX_differ
    refine cw_w_thF a1 (br_t rfl ?_)
    show wpY_differ _ _ _ _
    unfold wpY_differ
    exact cw_y_thF a1 (br_t rfl ⟨rfl, cw_in h⟩)
theorem i_vc_difference {k : Nat} {u : SX} {v : SY} (I : i_Rel k u v) (hk : k + 6 ≤ 3072) (v1 : Int32) (v2 : Int32) (v3 : Int32) : wpX_difference (fun r => wpY_difference (fun r' => r' = r ∧ i_Rel (k + 6) u v) v v1 v2 v3) u v1 v2 v3 := by
  refine cw_el (P := fun u v => wpX_difference (fun r => wpY_difference (fun r' => r' = r ∧ i_Rel (k + 6) u v) v v1 v2 v3) u v1 v2 v3) ?_ I
  intro A L B R U H F fn fl fh T hs go bd tn hn en pl em sh lo fz va se tm mv be hd h
  unfold wpX_difference
  by_cases a1 : cw_ok T v1
  · by_cases a2 : cw_ok T v2
    · obtain ⟨v, hv, rfl, tv⟩ := id a1
      obtain ⟨w, hw, rfl, tw⟩ := id a2
      have hD := cw_df_hs h hv hw tv tw
      have yw : ∀ (e : Nat) (r : Int32), e ≤ 64 → (∀ i, i < e → cw_df B (R v) (R w) i = true → ¬ nI (cw_cn (cw_df B (R v) (R w)) i) = v3) → ((e = 64 ∧ r = -1) ∨ (e < 64 ∧ cw_df B (R v) (R w) e = true ∧ nI (cw_cn (cw_df B (R v) (R w)) e) = v3 ∧ r = nI e)) → wpY_difference (fun r' => r' = r ∧ i_Rel (k + 6) ((nI fn), fl, fh, (cw_pr lo), (nI tn), (nI hn), (nI en), (cw_eB B), (cw_eN U), (cw_eN F), (cw_eB R), (cw_eT T), fz, va, (cw_eN H), go, pl, em, se, tm, mv) ((nI tn), (nI hn), (nI en), (cw_eT T), fz, (cw_eN hs), be, va, (cw_eT bd), (cw_eT lo), se, hd, pl, sh)) ((nI tn), (nI hn), (nI en), (cw_eT T), fz, (cw_eN hs), be, va, (cw_eT bd), (cw_eT lo), se, hd, pl, sh) (nI v) (nI w) v3 := by
        intro e r he hb hr
        unfold wpY_difference
        refine cw_y_thT a1 (br_f (by decide) ?_)
        refine cw_y_thT a2 (br_f (by decide) ⟨65, ?_⟩)
        exact cw_y_dcl hv hw hD h.1.2.2.2.2 e he hb hr ⟨rfl, cw_in h⟩ 64 0 (by omega) (by omega)
      refine cw_w_thT a1 (br_f (by decide) ?_)
      refine cw_w_thT a2 (br_f (by decide) ?_)
      by_cases neg : v3 < 0
      · refine br_f (Int32.not_le.mpr neg) (yw 64 (-1) (by omega) (fun i hi _ e => ?_) (Or.inl ⟨rfl, rfl⟩))
        have := cw_cn_le (p := cw_df B (R v) (R w)) i
        rw [← e] at neg
        exact nI_pos (by omega) neg
      · obtain ⟨c, hc, rfl⟩ := nI_of neg
        have mono : ∀ i j, i < j → cw_df B (R v) (R w) i = true → cw_cn (cw_df B (R v) (R w)) i < cw_cn (cw_df B (R v) (R w)) j := by
          intro i j hij e
          have s := cw_cn_add (p := cw_df B (R v) (R w)) (i + 1) (j - (i + 1))
          rw [show i + 1 + (j - (i + 1)) = j by omega, cw_cn_s, e] at s
          rw [s]
          simp only [Bool.toNat_true]
          omega
        refine br_t (nI_pos' hc) ⟨vp_in_nI hv (by decide), vp_in_nI hw (by decide), ?_⟩
        obtain ⟨q', hn2⟩ := cw_nx_ex B (R v) (R w) (s := 0) (by omega)
        rw [show cw_eB R (nI v).toNatClampNeg = cw_eO (R v) from cw_rdB rfl (by omega), show cw_eB R (nI w).toNatClampNeg = cw_eO (R w) from cw_rdB rfl (by omega)]
        refine cw_w_nextD (s := 0) (cw_ty_R h.1.1 hv) (cw_ty_R h.1.1 hw) (by omega) hn2 ⟨65, ?_⟩
        have e0 : cw_cn (cw_df B (R v) (R w)) q' = 0 := cw_nx_cn hn2
        have lX := cw_w_dcl (post := fun r => wpY_difference (fun r' => r' = r ∧ i_Rel (k + 6) ((nI fn), fl, fh, (cw_pr lo), (nI tn), (nI hn), (nI en), (cw_eB B), (cw_eN U), (cw_eN F), (cw_eB R), (cw_eT T), fz, va, (cw_eN H), go, pl, em, se, tm, mv) ((nI tn), (nI hn), (nI en), (cw_eT T), fz, (cw_eN hs), be, va, (cw_eT bd), (cw_eT lo), se, hd, pl, sh)) ((nI tn), (nI hn), (nI en), (cw_eT T), fz, (cw_eN hs), be, va, (cw_eT bd), (cw_eT lo), se, hd, pl, sh) (nI v) (nI w) (nI c)) (hn := hn) (tn := tn) (en := en) (T := T) (go := go) (fl := fl) (fh := fh) (lo := lo) (fz := fz) (va := va) (pl := pl) (em := em) (se := se) (tm := tm) (mv := mv) h.1.1 hv hw hc (fun p hp eD ec => ?_) (fun hle => ?_) 64 q' hn2.2.1 (by omega) hn2.2.2.2 (by omega)
        · rw [e0] at lX
          exact lX
        · refine yw p (nI p) (by omega) (fun i hi e1 e2 => ?_) (Or.inr ⟨hp, eD, by rw [ec], rfl⟩)
          have m1 := mono i p hi e1
          have := cw_cn_le (p := cw_df B (R v) (R w)) p
          rw [nI_eq (by omega) hc] at e2
          omega
        · refine yw 64 (-1) (by omega) (fun i hi e1 e2 => ?_) (Or.inl ⟨rfl, rfl⟩)
          have m1 := mono i 64 hi e1
          have := cw_cn_le (p := cw_df B (R v) (R w)) 64
          rw [nI_eq (by omega) hc] at e2
          omega
    · refine cw_w_thT a1 (br_f (by decide) ?_)
      refine cw_w_thF a2 (br_t rfl ?_)
      show wpY_difference _ _ _ _ _
      unfold wpY_difference
      refine cw_y_thT a1 (br_f (by decide) ?_)
      exact cw_y_thF a2 (br_t rfl ⟨rfl, cw_in h⟩)
  · refine cw_w_thF a1 (br_t rfl ?_)
    show wpY_difference _ _ _ _ _
    unfold wpY_difference
    exact cw_y_thF a1 (br_t rfl ⟨rfl, cw_in h⟩)
end
section
theorem cw_nbr (x : Int32) : ¬ x.toInt64 = 1000000000001 := by
  intro h
  have e := congrArg Int64.toInt h
  rw [Int32.toInt_toInt64, show (1000000000001 : Int64).toInt = 1000000000001 by decide] at e
  have := x.toInt_lt
  omega
theorem cw_ty_f3 {B : Nat → Option Nat} {x : Option Nat} (hx : cw_ty B x) {p b : Nat} (hp : p < 64) (e : cw_f3 B x p = some b) : b < 160 := by
  obtain ⟨n1, n2, n3, e1, e2, e3, e4⟩ := cw_path e
  exact ((((hx n1 e1).2 _ n2 (by omega) e2).2 _ n3 (by omega) e3).2 _ b (by omega) e4)
def cw_emv : Option Nat → Int32
  | none => 1
  | some _ => 0
def cw_shv : Option Nat → Int32
  | none => 0
  | some _ => 1
def cw_sev (va : Nat → Int32) : Option Nat → Int32
  | none => 0
  | some b => va b
section
variable {A L : Nat → Nat} {B R : Nat → Option Nat} {U H F : Nat → Nat} {fn : Nat} {fl fh : Int64} {T : Nat → Bool} {hs : Nat → Nat} {go : Nat → Int32} {bd : Nat → Bool} {tn hn en : Nat} {pl em sh : Nat → Int32} {lo : Nat → Bool} {fz va se tm mv be hd : Nat → Int32}
theorem cw_SD_add (h : cw_SD en pl em sh) {q : Nat} (hq : q < 64) (b : Option Nat) : cw_SD (en + 1) (upd pl en (nI q)) (upd em en (cw_emv b)) (upd sh en (cw_shv b)) := by
  intro k hk
  by_cases e : k = en
  · rw [e, pk_us, pk_us, pk_us]
    refine ⟨⟨q, hq, rfl⟩, ?_⟩
    cases b with
    | none => exact Or.inl ⟨rfl, rfl⟩
    | some b => exact Or.inr ⟨by show ¬ (0 : Int32) = 1; decide, by show ¬ (1 : Int32) = 0; decide⟩
  · rw [pk_un e, pk_un e, pk_un e]
    exact h k (by omega)
/-- an entry is stored, and the next difference looked for -/
theorem cw_w_sd98 {post : Int32 → SX → Prop} {J : Int32 → Int32 → Int64 → Int64 → Int32 → Int32 → Int32 → Int32 → (Nat → Int32) → (Nat → Int32) → (Nat → Int32) → (Nat → Int32) → (Nat → Int32) → (Nat → Int32) → (Nat → Int32) → (Nat → Int32) → (Nat → Int32) → (Nat → Int32) → (Nat → Int32) → (Nat → Int32) → (Nat → Int32) → (Nat → Int32) → Prop} {v q q' : Nat} {y b : Option Nat} {Q : Nat → Nat} (h : cw_Rq A L B R U H F fn Q) (hv : v < 6) (hy : cw_ty B y) (hq : q < 64) (hen : en < 64) (hb : ∀ c, b = some c → c < 80) (hx : cw_nx B (R v) y (q + 1) q')
    (hJ : J (nI q') (nI fn) fl fh (cw_pr lo) (nI tn) (nI hn) (nI (en + 1)) (cw_eB B) (cw_eN U) (cw_eN F) (cw_eB R) (cw_eT T) fz va (cw_eN H) go (upd pl en (nI q)) (upd em en (cw_emv b)) (upd se en (cw_sev va b)) tm mv) : wX_send_98 post J (nI v) (cw_eO y) (nI q) (cw_eO b) (nI fn) fl fh (cw_pr lo) (nI tn) (nI hn) (nI en) (cw_eB B) (cw_eN U) (cw_eN F) (cw_eB R) (cw_eT T) fz va (cw_eN H) go pl em se tm mv := by
  have hi : vp_in (nI en) 64 := vp_in_nI hen (by decide)
  have hc : (nI en).toNatClampNeg = en := nI_clamp (by omega)
  have h161 : wX_send_161 post J (nI v) (cw_eO y) (nI q) (cw_sev va b) (nI en) (nI fn) fl fh (cw_pr lo) (nI tn) (nI hn) (nI (en + 1)) (cw_eB B) (cw_eN U) (cw_eN F) (cw_eB R) (cw_eT T) fz va (cw_eN H) go (upd pl en (nI q)) (upd em en (cw_emv b)) se tm mv := by
    refine ⟨hi, nm_r (by rw [hc]) ⟨vp_in_nI hv (by decide), ?_⟩⟩
    rw [show cw_eB R (nI v).toNatClampNeg = cw_eO (R v) from cw_rdB rfl (by omega), show nI q + 1 = nI (q + 1) from nI_1 q]
    exact cw_w_nextD (cw_ty_R h hv) hy (by omega) hx hJ
  refine ⟨hi, nm_r (e' := upd pl en (nI q)) (by rw [hc, cw_bns (by omega)]) ?_⟩
  refine cw_og rfl (fun c e => by have := hb c e; omega) (fun c e => ?_) (fun e => ?_)
  · subst e
    have hc80 := hb c rfl
    refine ⟨hi, nm_r (e' := upd em en (cw_emv (some c))) (by rw [hc]; exact congrArg _ (cw_bns (n := 0) (by omega))) (nm_r (nI_1 en) (br_t (nI_pos' (by omega)) ⟨vp_in_nI hc80 (by decide), ?_⟩))⟩
    rw [show (cw_eO (some c)).toNatClampNeg = c from nI_clamp (by omega)]
    exact h161
  · subst e
    exact ⟨hi, nm_r (e' := upd em en (cw_emv none)) (by rw [hc]; exact congrArg _ (cw_bns (n := 1) (by omega))) (nm_r (nI_1 en) (br_f (by decide) h161))⟩
theorem cw_y_sd79 {post : Int32 → SY → Prop} {J : Int32 → Int32 → Int32 → Int32 → (Nat → Int32) → (Nat → Int32) → (Nat → Int32) → (Nat → Int32) → (Nat → Int32) → (Nat → Int32) → (Nat → Int32) → (Nat → Int32) → (Nat → Int32) → (Nat → Int32) → (Nat → Int32) → Prop} {x1 x2 : Int32} {q : Nat} {z : Int64} {b : Option Nat} (hq : q < 64) (hen : en < 64) (hb : ∀ c, b = some c → c < 80) (hz : ¬ z = 1000000000001) (hzb : ∀ c, b = some c → z.toInt32 = va c)
    (hJ : J (nI (q + 1)) (nI tn) (nI hn) (nI (en + 1)) (cw_eT T) fz (cw_eN hs) be va (cw_eT bd) (cw_eT lo) (upd se en (cw_sev va b)) hd (upd pl en (nI q)) (upd sh en (cw_shv b))) : wY_send_79 post J x1 x2 (nI q) (cw_eO b) z (nI tn) (nI hn) (nI en) (cw_eT T) fz (cw_eN hs) be va (cw_eT bd) (cw_eT lo) se hd pl sh := by
  have hi : vp_in (nI en) 64 := vp_in_nI hen (by decide)
  have hc : (nI en).toNatClampNeg = en := nI_clamp (by omega)
  refine br_f hz ⟨hi, nm_r (e' := upd pl en (nI q)) (by rw [hc, cw_bns (by omega)]) ?_⟩
  refine cw_on rfl (fun c e => by have := hb c e; omega) (fun e => ?_) (fun c e => ?_)
  · subst e
    exact ⟨hi, nm_r (e' := upd sh en (cw_shv none)) (by rw [hc]; rfl) (nm_r (nI_1 en) (br_f (by decide) ⟨hi, nm_r (by rw [hc]; rfl) (nm_r (nI_1 q) hJ)⟩))⟩
  · subst e
    have hc80 := hb c rfl
    exact ⟨hi, nm_r (e' := upd sh en (cw_shv (some c))) (by rw [hc]; rfl) (nm_r (nI_1 en) (br_t (nI_pos' (by omega)) ⟨hi, nm_r (by rw [hc, hzb c rfl]; rfl) (nm_r (nI_1 q) hJ)⟩))⟩
/-- the reference passes places that do not differ -/
theorem cw_y_sdskip {post : Int32 → SY → Prop} {v : Nat} {w' : Int32} {y : Option Nat} (hv : v < 6) (tv : T v = true) (hc : ∀ p, p < 64 → hs (64 * v + p) = cw_oN (cw_f3 B (R v) p)) (hO : ∀ (p : Nat) (post : Int32 → Prop), p < 64 → post (cw_eO (cw_f3 B y p)) → wpY_blockAt post ((nI tn), (nI hn), (nI en), (cw_eT T), fz, (cw_eN hs), be, va, (cw_eT bd), (cw_eT lo), se, hd, pl, sh) w' (nI p)) : ∀ e s m, s + e ≤ 64 → (∀ i, s ≤ i → i < s + e → cw_f3 B (R v) i = cw_f3 B y i) → wY_send_30 post (nI v) w' m (nI (s + e)) (nI tn) (nI hn) (nI en) (cw_eT T) fz (cw_eN hs) be va (cw_eT bd) (cw_eT lo) se hd pl sh → wY_send_30 post (nI v) w' (m + e) (nI s) (nI tn) (nI hn) (nI en) (cw_eT T) fz (cw_eN hs) be va (cw_eT bd) (cw_eT lo) se hd pl sh := by
  intro e
  induction e with
  | zero => intro s m _ _ h; exact h
  | succ e ih =>
    intro s m hs he h
    have nx := ih (s + 1) m (by omega) (fun i h1 h2 => he i (by omega) (by omega)) (by rw [show s + 1 + e = s + (e + 1) by omega]; exact h)
    refine br_f (nI_ge (b := 64) (by omega) (by decide)) ?_
    refine cw_y_baT hv tv (by omega) (hc s (by omega)) ?_
    refine hO s _ (by omega) ?_
    exact br_t (by rw [he s (Nat.le_refl _) (by omega)]) (nm_r (nI_1 s) nx)
theorem cw_ls_send {YW : (Int32 → SY → Prop) → Prop} {K v : Nat} {w' : Int32} {y : Option Nat} (hv : v < 6) (tv : T v = true) (hy : cw_ty B y)
    (hO : ∀ (hn en : Nat) (bd : Nat → Bool) (pl se sh : Nat → Int32) (p : Nat) (post : Int32 → Prop), p < 64 → post (cw_eO (cw_f3 B y p)) → wpY_blockAt post ((nI tn), (nI hn), (nI en), (cw_eT T), fz, (cw_eN hs), be, va, (cw_eT bd), (cw_eT lo), se, hd, pl, sh) w' (nI p)) :
    ∀ (d q : Nat) (go : Nat → Int32) (bd : Nat → Bool) (hn en : Nat) (pl em se sh : Nat → Int32), q ≤ 64 → 64 ≤ q + d → (q < 64 → cw_f3 B (R v) q ≠ cw_f3 B y q) → en ≤ q → cw_RR A L B R U H F fn fl fh T hs go bd tn hn en pl em sh → (∀ post, wY_send_30 post (nI v) w' (64 - q + 1) (nI q) (nI tn) (nI hn) (nI en) (cw_eT T) fz (cw_eN hs) be va (cw_eT bd) (cw_eT lo) se hd pl sh → YW post) →
    wX_send_57 (fun r u' => YW (fun r' v' => r' = r ∧ i_Rel K u' v')) (nI v) (cw_eO y) (d + 1) (nI q) (nI fn) fl fh (cw_pr lo) (nI tn) (nI hn) (nI en) (cw_eB B) (cw_eN U) (cw_eN F) (cw_eB R) (cw_eT T) fz va (cw_eN H) go pl em se tm mv := by
  intro d
  induction d with
  | zero =>
    intro q go bd hn en pl em se sh hq hdd hD hen h hY
    have hq : q = 64 := by omega
    subst hq
    exact br_t (by decide) (hY _ (br_t (by decide) ⟨rfl, cw_in h⟩))
  | succ d ih =>
    intro q go bd hn en pl em se sh hq hdd hD hen h hY
    by_cases e64 : q = 64
    · subst e64
      exact br_t (by decide) (hY _ (br_t (by decide) ⟨rfl, cw_in h⟩))
    have hq2 : q < 64 := by omega
    have hc : ∀ p, p < 64 → hs (64 * v + p) = cw_oN (cw_f3 B (R v) p) := fun p hp => h.1.2.2.2.1 v p hv hp tv
    have hty := cw_ty_R h.1.1 hv
    have hne : ¬ cw_eO (cw_f3 B (R v) q) = cw_eO (cw_f3 B y q) := fun z => hD hq2 ((cw_eO_inj (fun m e => by have := cw_ty_f3 hty hq2 e; omega) (fun m e => by have := cw_ty_f3 hy hq2 e; omega)).mp z)
    obtain ⟨q', hx⟩ := cw_nx_ex B (R v) y (s := q + 1) (by omega)
    have h9 := h.2.2.2.1
    -- the reference up to what it looks at
    have yq : ∀ post, (∀ c, cw_f3 B (R v) q = some c → wpY_look (fun r_51 u => match u with | (f0, f1, f2, a0, a1, a2, a3, a4, a5, a6, a7, a8, a9, a10) => wY_send_79 post (wY_send_30 post (nI v) w' (64 - q)) (nI v) w' (nI q) (cw_eO (some c)) r_51 f0 f1 f2 a0 a1 a2 a3 a4 a5 a6 a7 a8 a9 a10) ((nI tn), (nI hn), (nI en), (cw_eT T), fz, (cw_eN hs), be, va, (cw_eT bd), (cw_eT lo), se, hd, pl, sh) (nI c)) → (cw_f3 B (R v) q = none → wY_send_79 post (wY_send_30 post (nI v) w' (64 - q)) (nI v) w' (nI q) (cw_eO none) 1000000000000 (nI tn) (nI hn) (nI en) (cw_eT T) fz (cw_eN hs) be va (cw_eT bd) (cw_eT lo) se hd pl sh) → YW post := by
      intro post hs1 hs0
      refine hY post ?_
      refine br_f (nI_ge (b := 64) hq2 (by decide)) ?_
      refine cw_y_baT hv tv hq2 (hc q hq2) ?_
      refine hO hn en bd pl se sh q _ hq2 ?_
      refine br_f hne ?_
      cases hf : cw_f3 B (R v) q with
      | none => exact br_f (by decide) (hs0 hf)
      | some c => exact br_t (nI_pos' (by have := cw_ty_f3 hty hq2 hf; omega)) (hs1 c hf)
    -- the next turn
    have nx : ∀ (go : Nat → Int32) (bd : Nat → Bool) (hn : Nat) (b : Option Nat), cw_RR A L B R U H F fn fl fh T hs go bd tn hn en pl em sh → (∀ post, wY_send_30 post (nI v) w' (64 - q) (nI (q + 1)) (nI tn) (nI hn) (nI (en + 1)) (cw_eT T) fz (cw_eN hs) be va (cw_eT bd) (cw_eT lo) (upd se en (cw_sev va b)) hd (upd pl en (nI q)) (upd sh en (cw_shv b)) → YW post) → wX_send_57 (fun r u' => YW (fun r' v' => r' = r ∧ i_Rel K u' v')) (nI v) (cw_eO y) (d + 1) (nI q') (nI fn) fl fh (cw_pr lo) (nI tn) (nI hn) (nI (en + 1)) (cw_eB B) (cw_eN U) (cw_eN F) (cw_eB R) (cw_eT T) fz va (cw_eN H) go (upd pl en (nI q)) (upd em en (cw_emv b)) (upd se en (cw_sev va b)) tm mv := by
      intro go bd hn b h' hY'
      have hx1 := hx.1
      have hx2 := hx.2.1
      refine ih q' go bd hn (en + 1) _ _ _ (upd sh en (cw_shv b)) hx.2.1 (by omega) hx.2.2.2 (by omega) ⟨h'.1, h'.2.1, h'.2.2.1, h'.2.2.2.1, by omega, cw_SD_add h'.2.2.2.2.2 hq2 b⟩ (fun post hp => hY' post ?_)
      have sk := cw_y_sdskip (post := post) (T := T) (hs := hs) (bd := bd) (tn := tn) (hn := hn) (en := en + 1) (pl := upd pl en (nI q)) (sh := upd sh en (cw_shv b)) (lo := lo) (fz := fz) (va := va) (se := upd se en (cw_sev va b)) (be := be) (hd := hd) (B := B) (R := R) (w' := w') (y := y) hv tv hc (fun p post => hO hn (en + 1) bd _ _ _ p post) (q' - (q + 1)) (q + 1) (64 - q' + 1) (by omega) (fun i h1 h2 => hx.2.2.1 i h1 (by omega)) (by rw [show q + 1 + (q' - (q + 1)) = q' by omega]; exact hp)
      rw [show 64 - q' + 1 + (q' - (q + 1)) = 64 - q by omega] at sk
      exact sk
    refine br_f (nI_ge (b := 64) hq2 (by decide)) ?_
    refine cw_w_find h.1.1 hv hq2 ?_
    refine cw_on rfl (fun m e => by have := cw_ty_f3 hty hq2 e; omega) (fun e => ?_) (fun c e => ?_)
    · rw [e]
      refine cw_w_sd98 h.1.1 hv hy hq2 (by omega) (fun c z => by cases z) hx ?_
      refine nx go bd hn none h (fun post hp => yq post (fun c z => by rw [e] at z; cases z) (fun _ => ?_))
      exact cw_y_sd79 hq2 (by omega) (fun c z => by cases z) (by decide) (fun c z => by cases z) hp
    · obtain ⟨hb, hH⟩ := cw_had_of h.1.1 hv hq2 e
      rw [e]
      refine cw_w_look hb h9 (h.2.1 c hb (by omega)) (fun q1 q2 => ?_) (fun q1 => ?_)
      · refine br_t rfl ?_
        refine yq _ (fun c' z => ?_) (fun z => by rw [e] at z; cases z)
        rw [e] at z; cases z
        refine cw_y_look hb h9 (fun _ _ => ?_) (fun z => absurd ⟨q1, q2⟩ z)
        exact br_t rfl ⟨rfl, cw_in (en := 0) ⟨h.1, h.2.1, h.2.2.1, h9, by omega, fun k hk => by omega⟩⟩
      · refine br_f (by decide) ?_
        refine cw_w_sd98 h.1.1 hv hy hq2 (by omega) (fun c' z => by cases z; exact hb) hx ?_
        refine nx _ (cw_bd (cw_hl bd lo c) bd c) _ (some c) (cw_RR_look h hb) (fun post hp => yq post (fun c' z => ?_) (fun z => by rw [e] at z; cases z))
        rw [e] at z; cases z
        refine cw_y_look hb h9 (fun x y => absurd ⟨x, y⟩ q1) (fun _ => ?_)
        exact cw_y_sd79 hq2 (by omega) (fun c' z => by cases z; exact hb) (cw_nbr _) (fun c' z => by cases z; exact Int32.toInt32_toInt64 _) hp
end
theorem i_vc_send {k : Nat} {u : SX} {v : SY} (I : i_Rel k u v) (hk : k + 6 ≤ 3072) (v1 : Int32) (v2 : Int32) : wpX_send (fun r u' => wpY_send (fun r' v' => r' = r ∧ i_Rel (k + 6) u' v') v v1 v2) u v1 v2 := by
  refine cw_el (P := fun u v => wpX_send (fun r u' => wpY_send (fun r' v' => r' = r ∧ i_Rel (k + 6) u' v') v v1 v2) u v1 v2) ?_ I
  intro A L B R U H F fn fl fh T hs go bd tn hn en pl em sh lo fz va se tm mv be hd h
  unfold wpX_send
  by_cases a1 : cw_ok T v1
  · obtain ⟨v, hv, rfl, tv⟩ := id a1
    refine cw_w_thT a1 (br_f (by decide) ?_)
    have main : ∀ y : Option Nat, cw_ty B y → (∀ (hn en : Nat) (bd : Nat → Bool) (pl se sh : Nat → Int32) (p : Nat) (post : Int32 → Prop), p < 64 → post (cw_eO (cw_f3 B y p)) → wpY_blockAt post ((nI tn), (nI hn), (nI en), (cw_eT T), fz, (cw_eN hs), be, va, (cw_eT bd), (cw_eT lo), se, hd, pl, sh) v2 (nI p)) → (∀ post, (∃ n30, wY_send_30 post (nI v) v2 n30 0 (nI tn) (nI hn) (nI 0) (cw_eT T) fz (cw_eN hs) be va (cw_eT bd) (cw_eT lo) se hd pl sh) → wpY_send post ((nI tn), (nI hn), (nI en), (cw_eT T), fz, (cw_eN hs), be, va, (cw_eT bd), (cw_eT lo), se, hd, pl, sh) (nI v) v2) → wX_send_37 (fun r u' => wpY_send (fun r' v' => r' = r ∧ i_Rel (k + 6) u' v') ((nI tn), (nI hn), (nI en), (cw_eT T), fz, (cw_eN hs), be, va, (cw_eT bd), (cw_eT lo), se, hd, pl, sh) (nI v) v2) (nI v) (cw_eO y) (nI fn) fl fh (cw_pr lo) (nI tn) (nI hn) (nI en) (cw_eB B) (cw_eN U) (cw_eN F) (cw_eB R) (cw_eT T) fz va (cw_eN H) go pl em se tm mv := by
      intro y hy hO hY
      refine ⟨vp_in_nI hv (by decide), ?_⟩
      rw [show cw_eB R (nI v).toNatClampNeg = cw_eO (R v) from cw_rdB rfl (by omega)]
      obtain ⟨q', hx⟩ := cw_nx_ex B (R v) y (s := 0) (by omega)
      refine cw_w_nextD (s := 0) (cw_ty_R h.1.1 hv) hy (by omega) hx ⟨65, ?_⟩
      have hx2 := hx.2.1
      refine cw_ls_send (YW := fun post => wpY_send post ((nI tn), (nI hn), (nI en), (cw_eT T), fz, (cw_eN hs), be, va, (cw_eT bd), (cw_eT lo), se, hd, pl, sh) (nI v) v2) (K := k + 6) (be := be) (hd := hd) (y := y) hv tv hy hO 64 q' go bd hn 0 pl em se sh hx.2.1 (by omega) hx.2.2.2 (by omega) ⟨h.1, h.2.1, h.2.2.1, h.2.2.2.1, by omega, fun k hk => by omega⟩ (fun post hp => hY post ⟨65, ?_⟩)
      have sk := cw_y_sdskip (post := post) (T := T) (hs := hs) (bd := bd) (tn := tn) (hn := hn) (en := 0) (pl := pl) (sh := sh) (lo := lo) (fz := fz) (va := va) (se := se) (be := be) (hd := hd) (B := B) (R := R) (w' := v2) (y := y) hv tv (fun p hp => h.1.2.2.2.1 v p hv hp tv) (fun p post => hO hn 0 bd _ _ _ p post) q' 0 (64 - q' + 1) (by omega) (fun i h1 h2 => hx.2.2.1 i h1 (by omega)) (by rw [show 0 + q' = q' by omega]; exact hp)
      rw [show 64 - q' + 1 + q' = 65 by omega] at sk
      exact sk
    by_cases am1 : v2 = -1
    · refine br_t am1 ?_
      subst am1
      refine br_f (by decide) (main none cw_ty_n (fun hn en bd pl se sh p post hp hpost => ?_) (fun post hp => ?_))
      · refine cw_y_baF (fun z => ?_) hpost
        obtain ⟨j, hj, e, _⟩ := z.1
        exact nI_pos (n := j) (by omega) (by rw [← e]; decide)
      · unfold wpY_send
        exact cw_y_thT a1 (br_f (by decide) (br_t rfl hp))
    · refine br_f am1 ?_
      by_cases a2 : cw_ok T v2
      · obtain ⟨w, hw, rfl, tw⟩ := id a2
        refine cw_w_thT a2 (br_f (by decide) ?_)
        refine br_t (nI_pos' (by omega)) ⟨vp_in_nI hw (by decide), ?_⟩
        rw [show cw_eB R (nI w).toNatClampNeg = cw_eO (R w) from cw_rdB rfl (by omega)]
        refine main (R w) (cw_ty_R h.1.1 hw) (fun hn en bd pl se sh p post hp hpost => ?_) (fun post hp => ?_)
        · exact cw_y_baT hw tw hp (h.1.2.2.2.1 w p hw hp tw) hpost
        · unfold wpY_send
          refine cw_y_thT a1 (br_f (by decide) (br_f am1 ?_))
          exact cw_y_thT a2 (br_f (by decide) hp)
      · refine cw_w_thF a2 (br_t rfl ?_)
        show wpY_send _ _ _ _
        unfold wpY_send
        refine cw_y_thT a1 (br_f (by decide) (br_f am1 ?_))
        exact cw_y_thF a2 (br_t rfl ⟨rfl, cw_in h⟩)
  · refine cw_w_thF a1 (br_t rfl ?_)
    show wpY_send _ _ _ _
    unfold wpY_send
    exact cw_y_thF a1 (br_t rfl ⟨rfl, cw_in h⟩)
end
section
/-- at how many places of a tree a block is -/
def cw_cb (B : Nat → Option Nat) (x : Option Nat) (b : Nat) : Nat := cw_cn (fun p => decide (cw_f3 B x p = some b)) 64
theorem cw_cb_n {B : Nat → Option Nat} {b : Nat} : cw_cb B none b = 0 := cw_cn_zero (fun i _ => decide_eq_false (fun z => by cases z))
theorem cw_cb_le {B : Nat → Option Nat} {x : Option Nat} {b : Nat} : cw_cb B x b ≤ 64 := cw_cn_le 64
section
variable {fl fh : Int64} {pr ft he en : Int32} {fn : Nat} {B R : Nat → Option Nat} {U F H : Nat → Nat} {th fz va go pl em se tm mv : Nat → Int32}
theorem cw_w_inl {post : Int32 → Prop} {l b : Nat} (hl : l < 160) (hb : b < 80) (hB : ∀ e c, e < 4 → B (4 * l + e) = some c → c < 160) (hp : post (nI (cw_cn (fun e => decide (B (4 * l + e) = some b)) 4))) : ∀ d j, j + d = 4 → wX_inLowest_7 post (nI l) (nI b) (nI fn) fl fh pr ft he en (cw_eB B) (cw_eN U) (cw_eN F) (cw_eB R) th fz va (cw_eN H) go pl em se tm mv (d + 1) (nI (cw_cn (fun e => decide (B (4 * l + e) = some b)) j)) (nI (4 * l + j)) := by
  intro d
  induction d with
  | zero =>
    intro j hj
    have hj : j = 4 := by omega
    subst hj
    exact br_t (by rw [cw_44]; exact nI_le (by omega) (by omega)) hp
  | succ d ih =>
    intro j hj
    have nx := ih (j + 1) (by omega)
    refine br_f (by rw [cw_44]; exact nI_ge (by omega) (by omega)) ⟨vp_in_nI (by omega) (by decide), ?_⟩
    rw [show cw_eB B (nI (4 * l + j)).toNatClampNeg = cw_eO (B (4 * l + j)) from cw_rdB rfl (by omega)]
    have key : (cw_eO (B (4 * l + j)) = nI b) ↔ B (4 * l + j) = some b := cw_eO_inj (y := some b) (fun c e => by have := hB j c (by omega) e; omega) (fun c e => by cases e; omega)
    by_cases q : B (4 * l + j) = some b
    · rw [cw_cn_s, decide_eq_true q] at nx
      exact br_t (key.mpr q) (nm_r (nI_1 _) (nm_r (e' := nI (4 * l + (j + 1))) (nI_1 _) nx))
    · rw [cw_cn_s, decide_eq_false q] at nx
      exact br_f (fun z => q (key.mp z)) (nm_r (e' := nI (4 * l + (j + 1))) (nI_1 _) nx)
theorem cw_w_inLowest {post : Int32 → Prop} {l b : Nat} (hl : l < 160) (hb : b < 80) (hB : ∀ e c, e < 4 → B (4 * l + e) = some c → c < 160) (hp : post (nI (cw_cn (fun e => decide (B (4 * l + e) = some b)) 4))) : wpX_inLowest post ((nI fn), fl, fh, pr, ft, he, en, (cw_eB B), (cw_eN U), (cw_eN F), (cw_eB R), th, fz, va, (cw_eN H), go, pl, em, se, tm, mv) (nI l) (nI b) :=
  nm_r (cw_4 l) ⟨5, cw_w_inl hl hb hB hp 4 0 rfl⟩
theorem cw_sh2' {j : Nat} (hj : j < 16) : nI j >>> ((2 : Int32) &&& 31) = nI (j / 4) := pk_shrN (by omega) _ 2 (by decide)
theorem cw_w_bel {post : Int32 → Prop} {t b : Nat} (ht : cw_ty B (some t)) (hb : b < 80) (hp : post (nI (cw_cb B (some t) b))) : ∀ d j, j + d = 16 → wX_below_5 post (nI t) (nI b) (nI fn) fl fh pr ft he en (cw_eB B) (cw_eN U) (cw_eN F) (cw_eB R) th fz va (cw_eN H) go pl em se tm mv (d + 1) (nI (cw_cn (fun p => decide (cw_f3 B (some t) p = some b)) (4 * j))) (nI j) := by
  have ht1 := (ht t rfl).1
  intro d
  induction d with
  | zero =>
    intro j hj
    have hj : j = 16 := by omega
    subst hj
    exact br_t (by decide) hp
  | succ d ih =>
    intro j hj
    have nx := ih (j + 1) (by omega)
    have e4 := cw_cn_add (p := fun p => decide (cw_f3 B (some t) p = some b)) (4 * j) 4
    rw [show 4 * j + 4 = 4 * (j + 1) by omega] at e4
    have i1 : (4 : Int32) * nI t + (nI j >>> ((2 : Int32) &&& 31)) = nI (4 * t + j / 4) := by rw [cw_sh2' (by omega), cw_4j]
    have i2 : ∀ m, (4 : Int32) * nI m + (nI j &&& 3) = nI (4 * m + j % 4) := fun m => by rw [cw_sh0 (by omega), cw_4j]
    have fx : ∀ e, e < 4 → cw_f3 B (some t) (4 * j + e) = cw_ch B (cw_ch B (B (4 * t + j / 4)) (j % 4)) e := by
      intro e he
      unfold cw_f3 cw_f2 cw_f1
      rw [show (4 * j + e) / 16 = j / 4 by omega, show (4 * j + e) / 4 % 4 = j % 4 by omega, show (4 * j + e) % 4 = e by omega]
      rfl
    have zero : cw_ch B (B (4 * t + j / 4)) (j % 4) = none → wX_below_5 post (nI t) (nI b) (nI fn) fl fh pr ft he en (cw_eB B) (cw_eN U) (cw_eN F) (cw_eB R) th fz va (cw_eN H) go pl em se tm mv (d + 1) (nI (cw_cn (fun p => decide (cw_f3 B (some t) p = some b)) (4 * j))) (nI (j + 1)) := by
      intro z
      have e5 : cw_cn (fun e => decide (cw_f3 B (some t) (4 * j + e) = some b)) 4 = 0 := cw_cn_zero (fun e he => decide_eq_false (fun y => by rw [fx e he, z] at y; cases y))
      rw [e4, e5] at nx
      exact nx
    refine br_f (nI_ge (b := 16) (by omega) (by decide)) ⟨cw_in1 i1 (by omega) (by decide), nm_r (cw_rdB i1 (by omega)) ?_⟩
    refine cw_og rfl (fun m e => by have := ((ht t rfl).2 (j / 4) m (by omega) e).1; omega) (fun m e => ?_) (fun e => ?_)
    · obtain ⟨m1, m2⟩ := (ht t rfl).2 (j / 4) m (by omega) e
      rw [e] at fx zero ⊢
      refine ⟨cw_in1 (i2 m) (by omega) (by decide), ?_⟩
      rw [show cw_eB B ((4 : Int32) * cw_eO (some m) + (nI j &&& 3)).toNatClampNeg = cw_eO (B (4 * m + j % 4)) from cw_rdB (i2 m) (by omega)]
      refine cw_on rfl (fun l e2 => by have := (m2 (j % 4) l (by omega) e2).1; omega) (fun e2 => nm_r (nI_1 j) (zero e2)) (fun l e2 => ?_)
      obtain ⟨l1, l2⟩ := m2 (j % 4) l (by omega) e2
      rw [e2]
      refine cw_w_inLowest l1 hb (fun e c he => l2 e c he) ?_
      have e5 : cw_cn (fun e => decide (cw_f3 B (some t) (4 * j + e) = some b)) 4 = cw_cn (fun e => decide (B (4 * l + e) = some b)) 4 := cw_cn_congr (fun e he => by
        rw [fx e he, cw_ch_s, e2]; rfl)
      rw [e4, e5] at nx
      exact nm_r (nI_add _ _) (nm_r (nI_1 j) nx)
    · rw [e] at zero
      exact br_t (by decide) (nm_r (nI_1 j) (zero rfl))
theorem cw_w_below {post : Int32 → Prop} {t b : Nat} (ht : cw_ty B (some t)) (hb : b < 80) (hp : post (nI (cw_cb B (some t) b))) : wpX_below post ((nI fn), fl, fh, pr, ft, he, en, (cw_eB B), (cw_eN U), (cw_eN F), (cw_eB R), th, fz, va, (cw_eN H), go, pl, em, se, tm, mv) (nI t) (nI b) := ⟨17, cw_w_bel ht hb hp 16 0 rfl⟩
/-- how many of the volumes in M have the root n -/
def cw_rt (R : Nat → Option Nat) (M : Nat → Bool) (n v : Nat) : Bool := M v && decide (R v = some n)
theorem cw_w_sp2 {post : SX → Prop} {m : Int32} {M : Nat → Bool} (hM : ∀ v, v < 6 → ((m >>> (nI v &&& 31)) &&& 1 = 1 ↔ M v = true)) (hR : ∀ v n, v < 6 → R v = some n → n < 160) (hp : ∀ tm', (∀ n, n < 160 → tm' n = nI (cw_cn (cw_rt R M n) 6)) → post ((nI fn), fl, fh, pr, ft, he, en, (cw_eB B), (cw_eN U), (cw_eN F), (cw_eB R), th, fz, va, (cw_eN H), go, pl, em, se, tm', mv)) : ∀ (d i : Nat) (tm : Nat → Int32), i + d = 6 → (∀ n, n < 160 → tm n = nI (cw_cn (cw_rt R M n) i)) → wX_spread_24 post m (nI fn) fl fh pr ft he en (d + 1) (nI i) (cw_eB B) (cw_eN U) (cw_eN F) (cw_eB R) th fz va (cw_eN H) go pl em se tm mv := by
  intro d
  induction d with
  | zero =>
    intro i tm hi ht
    have hi : i = 6 := by omega
    subst hi
    exact br_t (by decide) (hp tm ht)
  | succ d ih =>
    intro i tm hi ht
    have same : (∀ n, n < 160 → cw_rt R M n i = false) → wX_spread_24 post m (nI fn) fl fh pr ft he en (d + 1) (nI (i + 1)) (cw_eB B) (cw_eN U) (cw_eN F) (cw_eB R) th fz va (cw_eN H) go pl em se tm mv := by
      intro h0
      refine ih (i + 1) tm (by omega) (fun n hn => ?_)
      rw [ht n hn, cw_cn_s, h0 n hn]; rfl
    refine br_f (nI_ge (b := 6) (by omega) (by decide)) ?_
    refine ⟨fun hb => ⟨vp_in_nI (by omega) (by decide), ?_⟩, fun hb => nm_r (nI_1 i) (same (fun n hn => ?_))⟩
    · have hMi := (hM i (by omega)).mp hb
      rw [show cw_eB R (nI i).toNatClampNeg = cw_eO (R i) from cw_rdB rfl (by omega)]
      refine cw_on rfl (fun n e => by have := hR i n (by omega) e; omega) (fun e => nm_r (nI_1 i) (same (fun n hn => ?_))) (fun n e => ?_)
      · unfold cw_rt
        rw [e, decide_eq_false (fun z => by cases z), Bool.and_false]
      · have hn := hR i n (by omega) e
        rw [e]
        have hcl : (cw_eO (some n)).toNatClampNeg = n := nI_clamp (by omega)
        refine ⟨vp_in_nI (by omega) (by decide), vp_in_nI hn (by decide), vp_in_nI hn (by decide), ?_⟩
        refine nm_r (e' := upd tm n (nI (cw_cn (cw_rt R M n) i + 1))) (by rw [hcl, ht n hn, nI_1]) (nm_r (nI_1 i) ?_)
        refine ih (i + 1) _ (by omega) (fun n' hn' => ?_)
        by_cases q : n' = n
        · rw [q, pk_us, cw_cn_s, show cw_rt R M n i = true by unfold cw_rt; rw [hMi, decide_eq_true e]; rfl]; rfl
        · rw [pk_un q, ht n' hn', cw_cn_s, show cw_rt R M n' i = false by unfold cw_rt; rw [e, decide_eq_false (fun z => q (Option.some.inj z).symm), Bool.and_false]]; rfl
    · unfold cw_rt
      rw [show M i = false by
        cases q : M i with
        | false => rfl
        | true => exact absurd ((hM i (by omega)).mpr q) hb]
      rfl
theorem cw_w_sp1 {post : SX → Prop} {m : Int32} {M : Nat → Bool} (hM : ∀ v, v < 6 → ((m >>> (nI v &&& 31)) &&& 1 = 1 ↔ M v = true)) (hR : ∀ v n, v < 6 → R v = some n → n < 160) (hp : ∀ tm', (∀ n, n < 160 → tm' n = nI (cw_cn (cw_rt R M n) 6)) → post ((nI fn), fl, fh, pr, ft, he, en, (cw_eB B), (cw_eN U), (cw_eN F), (cw_eB R), th, fz, va, (cw_eN H), go, pl, em, se, tm', mv)) : ∀ (d i : Nat) (tm : Nat → Int32), i + d = 160 → (∀ n, n < i → tm n = 0) → wX_spread_2 post m (nI fn) fl fh pr ft he en (d + 1) (nI i) (cw_eB B) (cw_eN U) (cw_eN F) (cw_eB R) th fz va (cw_eN H) go pl em se tm mv := by
  intro d
  induction d with
  | zero =>
    intro i tm hi ht
    have hi : i = 160 := by omega
    subst hi
    exact br_t (by decide) ⟨7, cw_w_sp2 hM hR hp 6 0 tm rfl (fun n hn => ht n hn)⟩
  | succ d ih =>
    intro i tm hi ht
    refine br_f (nI_ge (b := 160) (by omega) (by decide)) ⟨vp_in_nI (by omega) (by decide), nm_r (e' := upd tm i 0) (by rw [nI_clamp (by omega)]) (nm_r (nI_1 i) ?_)⟩
    refine ih (i + 1) _ (by omega) (fun n hn => ?_)
    by_cases q : n = i
    · rw [q, pk_us]
    · rw [pk_un q]; exact ht n (by omega)
theorem cw_w_spread {post : SX → Prop} {m : Int32} {M : Nat → Bool} (hM : ∀ v, v < 6 → ((m >>> (nI v &&& 31)) &&& 1 = 1 ↔ M v = true)) (hR : ∀ v n, v < 6 → R v = some n → n < 160) (hp : ∀ tm', (∀ n, n < 160 → tm' n = nI (cw_cn (cw_rt R M n) 6)) → post ((nI fn), fl, fh, pr, ft, he, en, (cw_eB B), (cw_eN U), (cw_eN F), (cw_eB R), th, fz, va, (cw_eN H), go, pl, em, se, tm', mv)) : wpX_spread post ((nI fn), fl, fh, pr, ft, he, en, (cw_eB B), (cw_eN U), (cw_eN F), (cw_eB R), th, fz, va, (cw_eN H), go, pl, em, se, tm, mv) m := ⟨161, cw_w_sp1 hM hR hp 160 0 tm rfl (fun n hn => by omega)⟩
/-- the root x has come up ahead of i -/
def cw_up (R : Nat → Option Nat) (i : Nat) (x : Option Nat) : Bool := decide (cw_cn (fun w => decide (R w = x)) i ≠ 0)
def cw_pf (B R : Nat → Option Nat) (M : Nat → Bool) (b i v : Nat) : Nat := if M v && cw_up R i (R v) then cw_cb B (R v) b else 0
theorem cw_up_s {i : Nat} {x : Option Nat} : cw_up R (i + 1) x = (cw_up R i x || decide (R i = x)) := by
  unfold cw_up
  rw [cw_cn_s]
  by_cases q : R i = x
  · rw [decide_eq_true q]
    simp
  · rw [decide_eq_false q]
    simp
theorem cw_w_pll {post : Int32 → SX → Prop} {M : Nat → Bool} {b : Nat} (hb : b < 80) (hR : ∀ v, v < 6 → cw_ty B (R v)) (hp : ∀ tm', post (nI (cw_sm (cw_pf B R M b 6) 6)) ((nI fn), fl, fh, pr, ft, he, en, (cw_eB B), (cw_eN U), (cw_eN F), (cw_eB R), th, fz, va, (cw_eN H), go, pl, em, se, tm', mv)) : ∀ (d i : Nat) (tm : Nat → Int32), i + d = 6 → (∀ n, n < 160 → tm n = if cw_up R i (some n) then 0 else nI (cw_cn (cw_rt R M n) 6)) → wX_places_10 post (nI b) (nI fn) fl fh pr ft he en (d + 1) (nI (cw_sm (cw_pf B R M b i) 6)) (nI i) (cw_eB B) (cw_eN U) (cw_eN F) (cw_eB R) th fz va (cw_eN H) go pl em se tm mv := by
  intro d
  induction d with
  | zero =>
    intro i tm hi ht
    have hi : i = 6 := by omega
    subst hi
    exact br_t (by decide) (hp tm)
  | succ d ih =>
    intro i tm hi ht
    have same : (∀ v, v < 6 → cw_pf B R M b (i + 1) v = cw_pf B R M b i v) → (∀ n, n < 160 → tm n = if cw_up R (i + 1) (some n) then 0 else nI (cw_cn (cw_rt R M n) 6)) → wX_places_10 post (nI b) (nI fn) fl fh pr ft he en (d + 1) (nI (cw_sm (cw_pf B R M b i) 6)) (nI (i + 1)) (cw_eB B) (cw_eN U) (cw_eN F) (cw_eB R) th fz va (cw_eN H) go pl em se tm mv := by
      intro h1 h2
      have nx := ih (i + 1) tm (by omega) h2
      rw [cw_sm_congr h1] at nx
      exact nx
    refine br_f (nI_ge (b := 6) (by omega) (by decide)) ⟨vp_in_nI (by omega) (by decide), nm_r (cw_rdB rfl (by omega)) ?_⟩
    refine cw_on rfl (fun n e => by have := (hR i (by omega) n e).1; omega) (fun e => nm_r (nI_1 i) (same (fun v hv => ?_) (fun n hn => ?_))) (fun n e => ?_)
    · unfold cw_pf
      rw [cw_up_s, e]
      cases q : R v with
      | none => rw [cw_cb_n, ite_self, ite_self]
      | some n => rw [decide_eq_false (fun z => by cases z), Bool.or_false]
    · rw [ht n hn, cw_up_s, e, decide_eq_false (fun z => by cases z), Bool.or_false]
    · have hn := (hR i (by omega) n e).1
      have hcl : (nI n).toNatClampNeg = n := nI_clamp (by omega)
      have hcn := cw_cn_le (p := cw_rt R M n) 6
      rw [e]
      show vp_in (nI n) 160 ∧ _
      refine ⟨vp_in_nI hn (by decide), ?_⟩
      have tmn : ∀ n', n' < 160 → n' ≠ n → cw_up R (i + 1) (some n') = cw_up R i (some n') := by
        intro n' _ q
        rw [cw_up_s, e, decide_eq_false (fun z => q (Option.some.inj z).symm), Bool.or_false]
      have tn1 : cw_up R (i + 1) (some n) = true := by rw [cw_up_s, e, decide_eq_true rfl, Bool.or_true]
      by_cases sn : cw_up R i (some n) = true
      · have h0 : tm n = 0 := by rw [ht n hn, if_pos sn]
        refine br_t (by show tm (nI n).toNatClampNeg = 0; rw [hcl]; exact h0) (nm_r (nI_1 i) (same (fun v hv => ?_) (fun n' hn' => ?_)))
        · unfold cw_pf
          rw [cw_up_s, e]
          by_cases q : R v = some n
          · rw [q, sn]; rfl
          · rw [decide_eq_false (fun z => q z.symm), Bool.or_false]
        · by_cases q : n' = n
          · rw [q, tn1, if_pos rfl]; exact h0
          · rw [tmn n' hn' q]; exact ht n' hn'
      · have h0 : tm n = nI (cw_cn (cw_rt R M n) 6) := by rw [ht n hn, if_neg sn]
        have sf : cw_up R i (some n) = false := by simpa using sn
        refine pk_eq (cw_cn (cw_rt R M n) 6) 0 (fun z => nm_r (nI_1 i) (same (fun v hv => ?_) (fun n' hn' => ?_))) (fun z => ?_) (by show tm (nI n).toNatClampNeg = _; rw [hcl]; exact h0)
        · unfold cw_pf
          rw [cw_up_s, e]
          by_cases q : R v = some n
          · have := cw_cn_no z v hv
            unfold cw_rt at this
            rw [decide_eq_true q, Bool.and_true] at this
            rw [this]; rfl
          · rw [decide_eq_false (fun z => q z.symm), Bool.or_false]
        · by_cases q : n' = n
          · rw [q, tn1, if_pos rfl, h0, z]; rfl
          · rw [tmn n' hn' q]; exact ht n' hn'
        · refine ⟨vp_in_nI hn (by decide), nm_r (e' := nI (cw_cn (cw_rt R M n) 6)) (by show tm (nI n).toNatClampNeg = _; rw [hcl]; exact h0) ⟨vp_in_nI hn (by decide), nm_r (e' := upd tm n 0) (by show upd tm (nI n).toNatClampNeg 0 = _; rw [hcl]) ?_⟩⟩
          refine cw_w_below (by rw [← e]; exact hR i (by omega)) hb ?_
          have nx := ih (i + 1) (upd tm n 0) (by omega) (fun n' hn' => by
            by_cases q : n' = n
            · rw [q, pk_us, tn1, if_pos rfl]
            · rw [pk_un q, tmn n' hn' q]; exact ht n' hn')
          have es : cw_sm (cw_pf B R M b (i + 1)) 6 = cw_sm (cw_pf B R M b i) 6 + cw_cn (cw_rt R M n) 6 * cw_cb B (some n) b := by
            rw [← cw_sm_cn, ← cw_sm_mul, ← cw_sm_add]
            refine cw_sm_congr (fun v hv => ?_)
            unfold cw_pf cw_rt
            rw [cw_up_s, e]
            by_cases q : R v = some n
            · rw [q, sf, decide_eq_true rfl, Bool.or_true, Bool.and_true, Bool.and_false]
              cases M v with
              | true => simp
              | false => simp
            · rw [decide_eq_false (fun z => q z.symm), Bool.or_false, decide_eq_false q, Bool.and_false]
              simp
          rw [es] at nx
          exact nm_r (e' := nI (cw_sm (cw_pf B R M b i) 6 + cw_cn (cw_rt R M n) 6 * cw_cb B (some n) b)) (by rw [pk_mul, nI_add]) (nm_r (nI_1 i) nx)
theorem cw_up_all {v : Nat} (hv : v < 6) : cw_up R 6 (R v) = true := by
  unfold cw_up
  refine decide_eq_true ?_
  have := cw_cn_one (p := fun w => decide (R w = R v)) (i := v) (N := 6) hv (decide_eq_true rfl)
  omega
theorem cw_w_places {post : Int32 → SX → Prop} {M : Nat → Bool} {m : Int32} {b : Nat} (hM : ∀ v, v < 6 → ((m >>> (nI v &&& 31)) &&& 1 = 1 ↔ M v = true)) (hb : b < 80) (hR : ∀ v, v < 6 → cw_ty B (R v)) (hp : ∀ tm', post (nI (cw_sm (fun v => if M v then cw_cb B (R v) b else 0) 6)) ((nI fn), fl, fh, pr, ft, he, en, (cw_eB B), (cw_eN U), (cw_eN F), (cw_eB R), th, fz, va, (cw_eN H), go, pl, em, se, tm', mv)) : wpX_places post ((nI fn), fl, fh, pr, ft, he, en, (cw_eB B), (cw_eN U), (cw_eN F), (cw_eB R), th, fz, va, (cw_eN H), go, pl, em, se, tm, mv) m (nI b) := by
  unfold wpX_places
  refine cw_w_spread hM (fun v n hv e => (hR v hv n e).1) (fun tm' ht => ⟨7, ?_⟩)
  have e6 : cw_sm (cw_pf B R M b 6) 6 = cw_sm (fun v => if M v then cw_cb B (R v) b else 0) 6 := cw_sm_congr (fun v hv => by
    unfold cw_pf
    rw [cw_up_all hv, Bool.and_true])
  have e0 : cw_sm (cw_pf B R M b 0) 6 = 0 := cw_sm_zero' (fun v hv => by
    unfold cw_pf
    rw [show cw_up R 0 (R v) = false from rfl, Bool.and_false]; rfl)
  have lX := cw_w_pll (post := post) (M := M) (fn := fn) (U := U) (F := F) (H := H) (fl := fl) (fh := fh) (pr := pr) (ft := ft) (he := he) (en := en) (th := th) (fz := fz) (va := va) (go := go) (pl := pl) (em := em) (se := se) (mv := mv) hb hR (fun t2 => by rw [e6]; exact hp t2) 6 0 tm' rfl (fun n hn => by rw [ht n hn]; rfl)
  rw [e0] at lX
  exact lX
end
theorem cw_mk63 : ∀ i, i < 6 → ((63 : Int32) >>> (nI i &&& 31)) &&& 1 = 1 := by decide +kernel
theorem cw_mkv : ∀ v, v < 6 → ∀ i, i < 6 → ((((1 : Int32) <<< (nI v &&& 31)) >>> (nI i &&& 31)) &&& 1 = 1 ↔ decide (i = v) = true) := by decide +kernel
theorem cw_mkn : ∀ v, v < 6 → ∀ i, i < 6 → ((((63 : Int32) &&& (((1 : Int32) <<< (nI v &&& 31)) ^^^ (-1))) >>> (nI i &&& 31)) &&& 1 = 1 ↔ decide (i ≠ v) = true) := by decide +kernel
end
section
/-- at how many places of all volumes, of all but v, a block is -/
def cw_sa (B R : Nat → Option Nat) (b : Nat) : Nat := cw_sm (fun v => cw_cb B (R v) b) 6
def cw_so (B R : Nat → Option Nat) (v b : Nat) : Nat := cw_sm (fun w => if decide (w ≠ v) then cw_cb B (R w) b else 0) 6
def cw_hr (hs : Nat → Nat) (v b p : Nat) : Bool := decide (hs (64 * v + p) = b + 1)
/-- block b is in v alone -/
def cw_ow (B R : Nat → Option Nat) (v b : Nat) : Bool := decide (cw_cb B (R v) b ≠ 0) && decide (cw_so B R v b = 0)
theorem cw_sa_le {B R : Nat → Option Nat} {b : Nat} : cw_sa B R b ≤ 384 := by
  have := cw_sm_le (f := fun v => cw_cb B (R v) b) (c := 64) (N := 6) (fun i _ => cw_cb_le)
  unfold cw_sa; omega
theorem cw_so_le {B R : Nat → Option Nat} {v b : Nat} : cw_so B R v b ≤ 384 := by
  have := cw_sm_le (f := fun w => if decide (w ≠ v) then cw_cb B (R w) b else 0) (c := 64) (N := 6) (fun i _ => by
    by_cases q : decide (i ≠ v) = true
    · rw [if_pos q]; exact cw_cb_le
    · rw [if_neg q]; omega)
  unfold cw_so; omega
theorem cw_sa_so {B R : Nat → Option Nat} {v b : Nat} (hv : v < 6) : cw_sa B R b = cw_cb B (R v) b + cw_so B R v b := by
  have e1 : cw_sm (fun w => if decide (w = v) then cw_cb B (R w) b else 0) 6 = cw_cb B (R v) b := by
    rw [cw_sm_one (k := v) hv (fun i _ hne => by rw [decide_eq_false hne]; rfl), decide_eq_true rfl]; rfl
  unfold cw_sa cw_so
  rw [← e1, ← cw_sm_add]
  refine cw_sm_congr (fun i _ => ?_)
  by_cases q : i = v
  · rw [decide_eq_true q, decide_eq_false (fun z => z q)]; simp
  · rw [decide_eq_false q, decide_eq_true q]; simp
section
variable {A L : Nat → Nat} {B R : Nat → Option Nat} {U H F : Nat → Nat} {fn : Nat} {fl fh : Int64} {T : Nat → Bool} {hs : Nat → Nat} {go : Nat → Int32} {bd : Nat → Bool} {tn hn en : Nat} {pl em sh : Nat → Int32} {lo : Nat → Bool} {fz va se tm mv be hd : Nat → Int32}
theorem cw_hr_cb (h : cw_RT A L B R U H F fn fl fh (fun _ => 0) T hs) {v b : Nat} (hv : v < 6) (tv : T v = true) : cw_cn (cw_hr hs v b) 64 = cw_cb B (R v) b := by
  refine cw_cn_congr (fun p hp => ?_)
  unfold cw_hr
  rw [h.2.2.2.1 v p hv hp tv]
  by_cases q : cw_f3 B (R v) p = some b
  · rw [decide_eq_true q, decide_eq_true (by rw [q]; rfl)]
  · rw [decide_eq_false q, decide_eq_false (show ¬ cw_oN (cw_f3 B (R v) p) = b + 1 from fun z => q (cw_oN_inj (y := some b) z))]
theorem cw_tc_sum (h : cw_RT A L B R U H F fn fl fh (fun _ => 0) T hs) {b : Nat} : cw_tc T hs (b + 1) = cw_sa B R b := by
  unfold cw_tc cw_sa
  rw [show (384 : Nat) = 6 * 64 from rfl, cw_cn_blk]
  refine cw_sm_congr (fun v hv => ?_)
  cases tv : T v with
  | true =>
    rw [← cw_hr_cb h hv tv]
    refine cw_cn_congr (fun p hp => ?_)
    unfold cw_tp cw_hr
    rw [show (v * 64 + p) / 64 = v by omega, tv, Bool.true_and, show v * 64 + p = 64 * v + p by omega]
  | false =>
    rw [h.2.2.1 v hv tv, cw_cb_n]
    refine cw_cn_zero (fun p hp => ?_)
    unfold cw_tp
    rw [show (v * 64 + p) / 64 = v by omega, tv, Bool.false_and]
theorem cw_y_owi {post : Int32 → SY → Prop} {J : Int32 → Int32 → Prop} {v b x2 : Nat} {z : Bool} {hd0 : Nat → Int32} (hv : v < 6) (hb : b < 80) (hhs : ∀ x, hs x ≤ 80) (hz : z = (decide (cw_cn (cw_hr hs v b) 64 ≠ 0) && decide (cw_cn (cw_hr hs v b) 64 = cw_tc T hs (b + 1)))) (hJ : J (nI (x2 + z.toNat)) (nI (b + 1))) : ∀ d j, j + d = 64 → wY_own_30 post J (nI v) (nI x2) (nI b) (nI tn) (nI hn) (nI en) (cw_eT T) fz (cw_eN hs) be va (cw_eT bd) (cw_eT lo) se (cw_hd T hs hd0) pl sh (d + 1) (nI (cw_cn (cw_hr hs v b) j)) (nI j) := by
  intro d
  induction d with
  | zero =>
    intro j hj
    have hj : j = 64 := by omega
    subst hj
    have hc := cw_cn_le (p := cw_hr hs v b) 64
    have ht := cw_tc_le (T := T) (hs := hs) (b + 1)
    refine br_t (by decide) ?_
    refine pk_le (cw_cn (cw_hr hs v b) 64) 0 (fun q => ?_) (fun q => ⟨cw_in1 (nI_1 b) (by omega) (by decide), ?_⟩)
    · rw [decide_eq_false (by omega), Bool.false_and] at hz
      rw [hz] at hJ
      exact nm_r (nI_1 b) hJ
    · rw [decide_eq_true (by omega), Bool.true_and] at hz
      refine pk_eq (cw_cn (cw_hr hs v b) 64) (cw_tc T hs (b + 1)) (fun e => ?_) (fun e => ?_) rfl (cw_hd_b (nI_1 b) (by omega))
      · rw [decide_eq_true e] at hz
        rw [hz] at hJ
        exact nm_r (nI_1 x2) (nm_r (nI_1 b) hJ)
      · rw [decide_eq_false e] at hz
        rw [hz] at hJ
        exact nm_r (nI_1 b) hJ
  | succ d ih =>
    intro j hj
    have nx := ih (j + 1) (by omega)
    have hh := hhs (64 * v + j)
    refine br_f (nI_ge (b := 64) (by omega) (by decide)) ⟨cw_in1 (cw_64 v j) (by omega) (by decide), ?_⟩
    refine pk_eq (hs (64 * v + j)) (b + 1) (fun e => ?_) (fun e => ?_) (cw_rdN (cw_64 v j) (by omega)) (nI_1 b)
    · rw [cw_cn_s, show cw_hr hs v b j = true from decide_eq_true e] at nx
      exact nm_r (nI_1 _) (nm_r (nI_1 j) nx)
    · rw [cw_cn_s, show cw_hr hs v b j = false from decide_eq_false e] at nx
      exact nm_r (nI_1 j) nx
theorem cw_y_owl {post : Int32 → SY → Prop} {v : Nat} {hd0 : Nat → Int32} {ow : Nat → Bool} (hv : v < 6) (hhs : ∀ x, hs x ≤ 80) (how : ∀ b, b < 80 → ow b = (decide (cw_cn (cw_hr hs v b) 64 ≠ 0) && decide (cw_cn (cw_hr hs v b) 64 = cw_tc T hs (b + 1)))) (hp : post (nI (cw_cn ow 80)) ((nI tn), (nI hn), (nI en), (cw_eT T), fz, (cw_eN hs), be, va, (cw_eT bd), (cw_eT lo), se, cw_hd T hs hd0, pl, sh)) : ∀ d b, b + d = 80 → wY_own_18 post (nI v) (nI tn) (nI hn) (nI en) (cw_eT T) fz (cw_eN hs) be va (cw_eT bd) (cw_eT lo) se (cw_hd T hs hd0) pl sh (d + 1) (nI (cw_cn ow b)) (nI b) := by
  intro d
  induction d with
  | zero =>
    intro b hb
    have hb : b = 80 := by omega
    subst hb
    exact br_t (by decide) hp
  | succ d ih =>
    intro b hb
    refine br_f (nI_ge (b := 80) (by omega) (by decide)) ⟨65, ?_⟩
    exact cw_y_owi hv (by omega) hhs (how b (by omega)) (ih (b + 1) (by omega)) 64 0 rfl
theorem cw_y_own {post : Int32 → SY → Prop} {v : Nat} {ow : Nat → Bool} (hv : v < 6) (tv : T v = true) (hhs : ∀ x, hs x ≤ 80) (how : ∀ b, b < 80 → ow b = (decide (cw_cn (cw_hr hs v b) 64 ≠ 0) && decide (cw_cn (cw_hr hs v b) 64 = cw_tc T hs (b + 1)))) (hp : post (nI (cw_cn ow 80)) ((nI tn), (nI hn), (nI en), (cw_eT T), fz, (cw_eN hs), be, va, (cw_eT bd), (cw_eT lo), se, cw_hd T hs hd, pl, sh)) : wpY_own post ((nI tn), (nI hn), (nI en), (cw_eT T), fz, (cw_eN hs), be, va, (cw_eT bd), (cw_eT lo), se, hd, pl, sh) (nI v) := by
  unfold wpY_own
  refine cw_y_thT ⟨v, hv, rfl, tv⟩ ?_
  refine br_f (by decide) ?_
  refine cw_y_tally hhs ⟨81, ?_⟩
  exact cw_y_owl hv hhs how hp 80 0 rfl
theorem cw_ow_y (h : cw_RT A L B R U H F fn fl fh (fun _ => 0) T hs) {v : Nat} (hv : v < 6) (tv : T v = true) : ∀ b, b < 80 → cw_ow B R v b = (decide (cw_cn (cw_hr hs v b) 64 ≠ 0) && decide (cw_cn (cw_hr hs v b) 64 = cw_tc T hs (b + 1))) := by
  intro b hb
  rw [cw_hr_cb h hv tv, cw_tc_sum h, cw_sa_so hv]
  unfold cw_ow
  congr 1
  by_cases q : cw_so B R v b = 0
  · rw [decide_eq_true q, decide_eq_true (by omega)]
  · rw [decide_eq_false q, decide_eq_false (by omega)]
theorem cw_w_owl {post : Int32 → SX → Prop} {v : Nat} {Q : Nat → Nat} (h : cw_Rq A L B R U H F fn Q) (hv : v < 6) (hH : ∀ b, b < 80 → H b < 2 ^ 31) (hH0 : ∀ b, b < 80 → H b = 0 → cw_ow B R v b = false) (hp : ∀ tm', post (nI (cw_cn (cw_ow B R v) 80)) ((nI fn), fl, fh, (cw_pr lo), (nI tn), (nI hn), (nI en), (cw_eB B), (cw_eN U), (cw_eN F), (cw_eB R), (cw_eT T), fz, va, (cw_eN H), go, pl, em, se, tm', mv)) : ∀ (d b : Nat) (tm : Nat → Int32), b + d = 80 → wX_own_14 post (nI v) (d + 1) (nI (cw_cn (cw_ow B R v) b)) (nI b) (nI fn) fl fh (cw_pr lo) (nI tn) (nI hn) (nI en) (cw_eB B) (cw_eN U) (cw_eN F) (cw_eB R) (cw_eT T) fz va (cw_eN H) go pl em se tm mv := by
  intro d
  induction d with
  | zero =>
    intro b tm hb
    have hb : b = 80 := by omega
    subst hb
    exact br_t (by decide) (hp tm)
  | succ d ih =>
    intro b tm hb
    have hb8 : b < 80 := by omega
    have hty : ∀ v, v < 6 → cw_ty B (R v) := fun v hv => cw_ty_R h hv
    have no : cw_ow B R v b = false → ∀ tm, wX_own_14 post (nI v) (d + 1) (nI (cw_cn (cw_ow B R v) b)) (nI (b + 1)) (nI fn) fl fh (cw_pr lo) (nI tn) (nI hn) (nI en) (cw_eB B) (cw_eN U) (cw_eN F) (cw_eB R) (cw_eT T) fz va (cw_eN H) go pl em se tm mv := by
      intro z tm
      have nx := ih (b + 1) tm (by omega)
      rw [cw_cn_s, z] at nx
      exact nx
    refine br_f (nI_ge (b := 80) hb8 (by decide)) ⟨vp_in_nI hb8 (by decide), ?_⟩
    refine pk_eq (H b) 0 (fun q => nm_r (nI_1 b) (no (hH0 b hb8 q) tm)) (fun q => ?_) (cw_rdN rfl (by omega)) rfl (hH b hb8)
    refine cw_w_places (M := fun i => decide (i = v)) (cw_mkv v hv) hb8 hty (fun tm1 => ?_)
    have e1 : cw_sm (fun w => if decide (w = v) = true then cw_cb B (R w) b else 0) 6 = cw_cb B (R v) b := by
      rw [cw_sm_one (k := v) hv (fun i _ hne => by rw [decide_eq_false hne]; rfl), decide_eq_true rfl]; rfl
    rw [e1]
    have hcb := cw_cb_le (B := B) (x := R v) (b := b)
    have hso := cw_so_le (B := B) (R := R) (v := v) (b := b)
    refine pk_le (cw_cb B (R v) b) 0 (fun q1 => nm_r (nI_1 b) (no ?_ tm1)) (fun q1 => ?_)
    · unfold cw_ow; rw [decide_eq_false (by omega)]; rfl
    · refine cw_w_places (M := fun i => decide (i ≠ v)) (cw_mkn v hv) hb8 hty (fun tm2 => ?_)
      show (nI (cw_so B R v b) = 0 → _) ∧ _
      refine pk_eq (cw_so B R v b) 0 (fun q2 => ?_) (fun q2 => nm_r (nI_1 b) (no ?_ tm2))
      · have nx := ih (b + 1) tm2 (by omega)
        rw [cw_cn_s, show cw_ow B R v b = true by unfold cw_ow; rw [decide_eq_true (by omega), decide_eq_true q2]; rfl] at nx
        exact nm_r (nI_1 _) (nm_r (nI_1 b) nx)
      · unfold cw_ow; rw [decide_eq_false q2, Bool.and_false]
/-- a block is had if it is at a place -/
theorem cw_had_sa {Q : Nat → Nat} (h : cw_Rq A L B R U H F fn Q) (hQ : ∀ b, Q b = 0) {b : Nat} (hb : b < 80) : H b ≠ 0 ↔ cw_sa B R b ≠ 0 := by
  constructor
  · intro hh
    obtain ⟨v, p, hv, hp, e⟩ := cw_had_to h hb (by rw [hQ b]; omega)
    have h1 := cw_cn_one (p := fun p => decide (cw_f3 B (R v) p = some b)) hp (decide_eq_true e)
    have h2 := cw_sm_ge (f := fun v => cw_cb B (R v) b) hv
    have h3 : 0 < cw_cb B (R v) b := h1
    unfold cw_sa
    omega
  · intro hh
    have : ∃ v, v < 6 ∧ cw_cb B (R v) b ≠ 0 := Classical.byContradiction fun z => hh (cw_sm_zero' (fun v hv => Classical.byContradiction fun y => z ⟨v, hv, y⟩))
    obtain ⟨v, hv, h1⟩ := this
    obtain ⟨p, hp, e⟩ := cw_cn_pos (p := fun p => decide (cw_f3 B (R v) p = some b)) (N := 64) (by unfold cw_cb at h1; omega)
    have := (cw_had_of h hv hp (of_decide_eq_true e)).2
    omega
end
theorem i_vc_holders {k : Nat} {u : SX} {v : SY} (I : i_Rel k u v) (hk : k + 6 ≤ 3072) (v1 : Int32) : wpX_holders (fun r u' => wpY_holders (fun r' v' => r' = r ∧ i_Rel (k + 6) u' v') v v1) u v1 := by
  refine cw_el (P := fun u v => wpX_holders (fun r u' => wpY_holders (fun r' v' => r' = r ∧ i_Rel (k + 6) u' v') v v1) u v1) ?_ I
  intro A L B R U H F fn fl fh T hs go bd tn hn en pl em sh lo fz va se tm mv be hd h
  unfold wpX_holders
  by_cases a1 : cw_am v1 80
  · obtain ⟨b, hb, rfl⟩ := cw_am_of (n := 80) (by decide) rfl a1
    have hH := cw_H_le h.1.1.1 hb
    have y : ∀ (c : Nat) tm', cw_tc T hs (b + 1) = c → wpY_holders (fun r' v' => r' = nI c ∧ i_Rel (k + 6) ((nI fn), fl, fh, (cw_pr lo), (nI tn), (nI hn), (nI en), (cw_eB B), (cw_eN U), (cw_eN F), (cw_eB R), (cw_eT T), fz, va, (cw_eN H), go, pl, em, se, tm', mv) v') ((nI tn), (nI hn), (nI en), (cw_eT T), fz, (cw_eN hs), be, va, (cw_eT bd), (cw_eT lo), se, hd, pl, sh) (nI b) := by
      intro c tm' e
      unfold wpY_holders
      refine cw_y_tally h.1.2.2.2.2 ?_
      refine cw_ouT a1 (br_t rfl ⟨cw_in1 (nI_1 b) (by omega) (by decide), ?_⟩)
      rw [cw_hd_b (nI_1 b) (by omega), e]
      exact ⟨rfl, cw_in h⟩
    refine cw_amT a1 (br_f (by decide) ⟨vp_in_nI hb (by decide), ?_⟩)
    refine pk_le (H b) 0 (fun q => ?_) (fun q => ?_) (cw_rdN rfl (by omega))
    · have := cw_held h.1 hb
      exact y 0 tm (by omega)
    · refine cw_w_places (M := fun _ => true) (fun i hi => ⟨fun _ => rfl, fun _ => cw_mk63 i hi⟩) hb (fun v hv => cw_ty_R h.1.1 hv) (fun tm' => ?_)
      exact y _ tm' (cw_tc_sum h.1)
  · refine cw_amF a1 (br_t rfl ?_)
    show wpY_holders _ _ _
    unfold wpY_holders
    refine cw_y_tally h.1.2.2.2.2 ?_
    exact cw_ouF a1 (br_f (by decide) ⟨rfl, cw_in h⟩)
theorem i_vc_own {k : Nat} {u : SX} {v : SY} (I : i_Rel k u v) (hk : k + 6 ≤ 3072) (v1 : Int32) : wpX_own (fun r u' => wpY_own (fun r' v' => r' = r ∧ i_Rel (k + 6) u' v') v v1) u v1 := by
  refine cw_el (P := fun u v => wpX_own (fun r u' => wpY_own (fun r' v' => r' = r ∧ i_Rel (k + 6) u' v') v v1) u v1) ?_ I
  intro A L B R U H F fn fl fh T hs go bd tn hn en pl em sh lo fz va se tm mv be hd h
  unfold wpX_own
  by_cases a1 : cw_ok T v1
  · obtain ⟨v, hv, rfl, tv⟩ := id a1
    refine cw_w_thT a1 (br_f (by decide) ⟨81, ?_⟩)
    refine cw_w_owl h.1.1 hv (fun b hb => by have := cw_H_le h.1.1.1 hb; omega) (fun b hb q => ?_) (fun tm' => ?_) 80 0 tm rfl
    · have e := cw_had_sa h.1.1 (fun _ => rfl) hb
      have e2 := cw_sa_so (B := B) (R := R) (b := b) hv
      unfold cw_ow
      rw [decide_eq_false (by omega), Bool.false_and]
    · exact cw_y_own hv tv h.1.2.2.2.2 (cw_ow_y h.1 hv tv) ⟨rfl, cw_in h⟩
  · refine cw_w_thF a1 (br_t rfl ?_)
    show wpY_own _ _ _
    unfold wpY_own
    exact cw_y_thF a1 (br_t rfl ⟨rfl, cw_in h⟩)
theorem cw_cn_split {p q r : Nat → Bool} : ∀ {N : Nat}, (∀ i, i < N → (p i).toNat = (q i).toNat + (r i).toNat) → cw_cn p N = cw_cn q N + cw_cn r N := by
  intro N
  induction N with
  | zero => intro _; rfl
  | succ n ih => intro h; rw [cw_cn_s, cw_cn_s, cw_cn_s, ih (fun i hi => h i (by omega)), h n (by omega)]; omega
theorem i_vc_destroy {k : Nat} {u : SX} {v : SY} (I : i_Rel k u v) (hk : k + 6 ≤ 3072) (v1 : Int32) : wpX_destroy (fun r u' => wpY_destroy (fun r' v' => r' = r ∧ i_Rel (k + 6) u' v') v v1) u v1 := by
  refine cw_el (P := fun u v => wpX_destroy (fun r u' => wpY_destroy (fun r' v' => r' = r ∧ i_Rel (k + 6) u' v') v v1) u v1) ?_ I
  intro A L B R U H F fn fl fh T hs go bd tn hn en pl em sh lo fz va se tm mv be hd h
  unfold wpX_destroy
  by_cases a1 : cw_ok T v1
  · obtain ⟨v, hv, rfl, tv⟩ := id a1
    -- both sides' end
    have fin : ∀ (r : Nat) (A' L' U' H' F' : Nat → Nat) (fn' : Nat) (fl' fh' : Int64), cw_Rq A' L' B (cw_un R v none) U' H' F' fn' (fun _ => 0) → cw_Fs H' fl' fh' → r + cw_nb H' = cw_nb H → wpY_destroy (fun r' v' => r' = nI r ∧ i_Rel (k + 6) ((nI fn'), fl', fh', (cw_pr lo), (nI tn), (nI hn), (nI en), (cw_eB B), (cw_eN U'), (cw_eN F'), (cw_eB (cw_un R v none)), (cw_eT (cw_un T v false)), fz, va, (cw_eN H'), go, pl, em, se, tm, mv) v') ((nI tn), (nI hn), (nI en), (cw_eT T), fz, (cw_eN hs), be, va, (cw_eT bd), (cw_eT lo), se, hd, pl, sh) (nI v) := by
      intro r A' L' U' H' F' fn' fl' fh' hq hf hr
      have eso : ∀ b, cw_sa B (cw_un R v none) b = cw_so B R v b := by
        intro b
        unfold cw_sa cw_so
        refine cw_sm_congr (fun w hw => ?_)
        by_cases q : w = v
        · rw [q, cw_us, cw_cb_n, decide_eq_false (fun z => z rfl)]; rfl
        · rw [cw_uo q, decide_eq_true q]; rfl
      have er : cw_cn (cw_ow B R v) 80 = r := by
        have e := cw_cn_split (p := fun b => decide (H b ≠ 0)) (q := cw_ow B R v) (r := fun b => decide (H' b ≠ 0)) (N := 80) (fun b hb => by
          have e1 := cw_had_sa h.1.1 (fun _ => rfl) hb
          have e2 := cw_had_sa hq (fun _ => rfl) hb
          rw [eso b] at e2
          rw [cw_sa_so hv] at e1
          unfold cw_ow
          by_cases q1 : cw_so B R v b = 0
          · have q2 : ¬ H' b ≠ 0 := fun z => (e2.mp z) q1
            rw [decide_eq_true q1, Bool.and_true, decide_eq_false q2]
            by_cases q3 : cw_cb B (R v) b = 0
            · rw [decide_eq_false (fun z => (e1.mp z) (by omega)), decide_eq_false (fun z => z q3)]; rfl
            · rw [decide_eq_true (e1.mpr (by omega)), decide_eq_true (show cw_cb B (R v) b ≠ 0 from q3)]; rfl
          · rw [decide_eq_false q1, Bool.and_false, decide_eq_true (e2.mpr q1), decide_eq_true (e1.mpr (by omega))]; rfl)
        have e3 : cw_nb H = cw_cn (cw_ow B R v) 80 + cw_nb H' := e
        omega
      unfold wpY_destroy
      refine cw_y_thT a1 (br_f (by decide) ?_)
      refine cw_y_own hv tv h.1.2.2.2.2 (cw_ow_y h.1 hv tv) ⟨vp_in_nI hv (by decide), nm_r (cw_wrT (x := false) rfl (by omega) rfl) ⟨by rw [er], cw_in ⟨⟨hq, hf, fun w hw tw => ?_, fun w p hw hp tw => ?_, h.1.2.2.2.2⟩, fun b hb hh => ?_, h.2.2⟩⟩⟩
      · by_cases q : w = v
        · rw [q, cw_us]
        · rw [cw_uo q] at tw ⊢; exact h.1.2.2.1 w hw tw
      · by_cases q : w = v
        · rw [q, cw_us] at tw; cases tw
        · rw [cw_uo q] at tw ⊢; exact h.1.2.2.2.1 w p hw hp tw
      · refine h.2.1 b hb ((cw_had_sa h.1.1 (fun _ => rfl) hb).mpr ?_)
        have e2 := (cw_had_sa hq (fun _ => rfl) hb).mp hh
        rw [eso b] at e2
        rw [cw_sa_so hv]
        omega
    refine cw_w_thT a1 (br_f (by decide) ⟨vp_in_nI hv (by decide), nm_r (cw_wrT (x := false) rfl (by omega) rfl) ⟨vp_in_nI hv (by decide), ?_⟩⟩)
    rw [show cw_eB R (nI v).toNatClampNeg = cw_eO (R v) from cw_rdB rfl (by omega)]
    cases e : R v with
    | none =>
      refine cw_w_leaveTopN ⟨vp_in_nI hv (by decide), nm_r (cw_wrB rfl (by omega) cw_nm1) ?_⟩
      refine fin 0 A L U H F fn fl fh ?_ h.1.2.1 (by omega)
      rw [cw_uself e]
      exact h.1.1
    | some n =>
      have hA := h.1.1.2 v hv
      obtain ⟨y1, y2, y3⟩ := cw_root h.1.1.1 hv hA e
      have d := cw_deN (k := 640 + v) h.1.1.1 (by omega) (by omega) (by omega) (fun z => by omega)
      rw [cw_E_r, e] at d
      refine cw_w_leaveTop d h.1.2.1 y1 y2 (fun j hj => by rw [cw_uo (by omega)]; exact y3 j hj) (fun _ => Nat.zero_le _) (fun _ => Nat.zero_le _) ?_
      intro r A' L' U' H' F' fn' fl' fh' i1 i2 i3 i4 _ _
      refine ⟨vp_in_nI hv (by decide), nm_r (cw_wrB rfl (by omega) cw_nm1) ?_⟩
      have hA0 : A' (640 + v) = 0 := by rw [i3.2 v hv, cw_us]
      have w := cw_wr (k := 640 + v) (x := none) i1 hA0
      rw [← cw_E_ur] at w
      have a := cw_acN2 (k := 640 + v) (a := 1) (x := none) (P := fun _ => 0) (by rw [cw_ad_0]; exact w) (by rw [cw_E_r, cw_us]) (by omega) hA0 (by omega) (by omega) (fun z => by omega) (fun _ => rfl) (fun n z => by cases z)
      refine fin r _ L' U' H' F' fn' fl' fh' ⟨a, fun w hw => ?_⟩ i2 i4
      by_cases q : w = v
      · rw [q, cw_us]
      · rw [cw_uo (by omega), i3.2 w hw, cw_uo (by omega)]
        exact h.1.1.2 w hw
  · refine cw_w_thF a1 (br_t rfl ?_)
    show wpY_destroy _ _ _
    unfold wpY_destroy
    exact cw_y_thF a1 (br_t rfl ⟨rfl, cw_in h⟩)
end
section
theorem cw_bit0 (x : Int64) : (x &&& 1) = 0 ↔ x.toBitVec.getLsbD 0 = false := by
  constructor
  · intro h
    have e := congrArg (fun y : Int64 => y.toBitVec.getLsbD 0) h
    rw [Int64.toBitVec_and, BitVec.getLsbD_and, show (1 : Int64).toBitVec.getLsbD 0 = true by decide, Bool.and_true, show (0 : Int64).toBitVec.getLsbD 0 = false by decide] at e
    exact e
  · intro h
    apply Int64.toBitVec_inj.mp
    apply BitVec.eq_of_getLsbD_eq
    intro i hi
    rw [Int64.toBitVec_and, BitVec.getLsbD_and, show (1 : Int64).toBitVec = 1#64 from rfl, show (0 : Int64).toBitVec = 0#64 from rfl, BitVec.getLsbD_one, BitVec.getLsbD_zero]
    by_cases q : i = 0
    · rw [q, h]; rfl
    · rw [decide_eq_false (p := i = 0) q, Bool.and_false, Bool.and_false]
theorem cw_shr1 (x : Int64) (t : Nat) : (x.toUInt64 >>> ((1 : Int32).toInt64.toUInt64 &&& Int64.toUInt64 63)).toInt64.toBitVec.getLsbD t = x.toBitVec.getLsbD (t + 1) := by
  have e : (x.toUInt64 >>> ((1 : Int32).toInt64.toUInt64 &&& Int64.toUInt64 63)).toInt64.toBitVec = x.toBitVec >>> 1 := by
    have hs : (((1 : Int32).toInt64.toUInt64 &&& Int64.toUInt64 63).toBitVec % 64).toNat = 1 := by decide
    rw [← hs]
    exact UInt64.toBitVec_shiftRight _ _
  rw [e, BitVec.getLsbD_ushiftRight, Nat.add_comm]
theorem cw_zero64 {x : Int64} (h : ∀ i, i < 64 → x.toBitVec.getLsbD i = false) : x = 0 := by
  apply Int64.toBitVec_inj.mp
  apply BitVec.eq_of_getLsbD_eq
  intro i hi
  rw [h i hi, show (0 : Int64).toBitVec = 0#64 from rfl, BitVec.getLsbD_zero]
theorem cw_nz64 {x : Int64} {i : Nat} (h : x.toBitVec.getLsbD i = true) : ¬ x = 0 := by
  intro z
  rw [z, show (0 : Int64).toBitVec = 0#64 from rfl, BitVec.getLsbD_zero] at h
  cases h
theorem cw_least (P : Nat → Prop) : (∃ b, b < 80 ∧ P b ∧ ∀ i, i < b → ¬ P i) ∨ (∀ b, b < 80 → ¬ P b) := by
  by_cases h : ∃ k, k < 80 ∧ P k
  · obtain ⟨k, hk, hl⟩ := pk_least (fun k => k < 80 ∧ P k) h
    exact Or.inl ⟨k, hk.1, hk.2, fun i hi z => hl i hi ⟨by omega, z⟩⟩
  · exact Or.inr (fun b hb z => h ⟨b, hb, z⟩)
theorem cw_Fs_clr {H : Nat → Nat} {fl fh fl' fh' : Int64} {b : Nat} (h : cw_Fs H fl fh) (hb : b < 80) (e : ∀ i, i < 128 → cw_FB fl' fh' i = (cw_FB fl fh i && !decide (b = i))) : cw_Fs (cw_ad H (some b)) fl' fh' := by
  refine ⟨fun i hi => ?_, fun i h1 h2 => ?_⟩
  · rw [e i (by omega), h.1 i hi]
    by_cases q : i = b
    · subst q
      rw [cw_ad_s, decide_eq_true (show i = i from rfl), decide_eq_false (p := H i + 1 = 0) (by omega), Bool.not_true, Bool.and_false]
    · rw [cw_ad_o q, decide_eq_false (p := b = i) (fun z => q z.symm), Bool.not_false, Bool.and_true]
  · rw [e i h2, h.2 i h1 h2]; rfl
section
variable {fl fh : Int64} {pr ft he en : Int32} {fn : Nat} {B R : Nat → Option Nat} {U F H : Nat → Nat} {th fz va go pl em se tm mv : Nat → Int32}
theorem cw_w_fbl {post : Int32 → Prop} : ∀ (d : Nat) (x : Int64) (o : Nat), x.toBitVec.getLsbD d = true → (∀ t, t < d → x.toBitVec.getLsbD t = false) → post (nI (o + d)) → wX_freeBlock_45 post (nI fn) fl fh pr ft he en (cw_eB B) (cw_eN U) (cw_eN F) (cw_eB R) th fz va (cw_eN H) go pl em se tm mv (d + 1) x (nI o) := by
  intro d
  induction d with
  | zero =>
    intro x o h1 h2 hp
    exact br_f (fun z => by rw [(cw_bit0 x).mp z] at h1; cases h1) hp
  | succ d ih =>
    intro x o h1 h2 hp
    refine br_t ((cw_bit0 x).mpr (h2 0 (by omega))) (nm_e (nm_r (nI_1 o) ?_))
    refine ih _ (o + 1) (by rw [cw_shr1]; exact h1) (fun t ht => by rw [cw_shr1]; exact h2 (t + 1) (by omega)) ?_
    rw [show o + 1 + d = o + (d + 1) by omega]
    exact hp
theorem cw_w_freeBlock {post : Int32 → Prop} (hFs : cw_Fs H fl fh) (hs : ∀ b, b < 80 → H b = 0 → (∀ i, i < b → H i ≠ 0) → post (nI b)) (hn : (∀ b, b < 80 → H b ≠ 0) → post (-1)) : wpX_freeBlock post ((nI fn), fl, fh, pr, ft, he, en, (cw_eB B), (cw_eN U), (cw_eN F), (cw_eB R), th, fz, va, (cw_eN H), go, pl, em, se, tm, mv) := by
  have lo : ∀ i, i < 64 → fl.toBitVec.getLsbD i = decide (H i = 0) := by
    intro i hi
    have := hFs.1 i (by omega)
    unfold cw_FB at this
    rw [if_pos hi] at this; exact this
  have hi1 : ∀ i, i < 16 → fh.toBitVec.getLsbD i = decide (H (64 + i) = 0) := by
    intro i hi
    have := hFs.1 (64 + i) (by omega)
    unfold cw_FB at this
    rw [if_neg (by omega), show 64 + i - 64 = i by omega] at this; exact this
  have hi2 : ∀ i, 16 ≤ i → i < 64 → fh.toBitVec.getLsbD i = false := by
    intro i h1 h2
    have := hFs.2 (64 + i) (by omega) (by omega)
    unfold cw_FB at this
    rw [if_neg (by omega), show 64 + i - 64 = i by omega] at this; exact this
  have f0 : (∀ i, i < 64 → H i ≠ 0) → fl = 0 := fun h => cw_zero64 (fun i hi => by rw [lo i hi]; exact decide_eq_false (h i hi))
  unfold wpX_freeBlock
  rcases cw_least (fun b => H b = 0) with ⟨b, hb, h0, hl⟩ | hall
  · by_cases q : b < 64
    · have nz : ¬ fl = 0 := cw_nz64 (i := b) (by rw [lo b q]; exact decide_eq_true h0)
      refine br_f nz (br_f nz (br_f nz ⟨b + 1, ?_⟩))
      refine cw_w_fbl b fl 0 (by rw [lo b q]; exact decide_eq_true h0) (fun t ht => by rw [lo t (by omega)]; exact decide_eq_false (hl t ht)) ?_
      rw [show 0 + b = b by omega]
      exact hs b hb h0 hl
    · have z := f0 (fun i hi => hl i (by omega))
      have bb : fh.toBitVec.getLsbD (b - 64) = true := by
        rw [hi1 (b - 64) (by omega), show 64 + (b - 64) = b by omega]; exact decide_eq_true h0
      refine br_t z (br_t z (br_f (cw_nz64 bb) ⟨b - 64 + 1, ?_⟩))
      refine cw_w_fbl (b - 64) fh 64 bb (fun t ht => by rw [hi1 t (by omega)]; exact decide_eq_false (hl (64 + t) (by omega))) ?_
      rw [show 64 + (b - 64) = b by omega]
      exact hs b hb h0 hl
  · have z := f0 (fun i hi => hall i (by omega))
    have z2 : fh = 0 := cw_zero64 (fun i hi => by
      by_cases q : i < 16
      · rw [hi1 i q]; exact decide_eq_false (hall _ (by omega))
      · exact hi2 i (by omega) hi)
    exact br_t z (br_t z (br_t z2 (hn hall)))
end
theorem cw_prn (lo : Nat → Bool) : vp_nar .byte (cw_pr lo).toInt8.toInt32 = cw_pr lo := by
  rw [vp_nar_byte]
  unfold cw_pr
  cases lo 0 <;> cases lo 1 <;> decide
section
variable {A L : Nat → Nat} {B R : Nat → Option Nat} {U H F : Nat → Nat} {fn : Nat} {fl fh : Int64} {T : Nat → Bool} {hs : Nat → Nat} {go : Nat → Int32} {bd : Nat → Bool} {tn hn en : Nat} {pl em sh : Nat → Int32} {lo : Nat → Bool} {fz va se tm mv be hd : Nat → Int32}
theorem cw_w_store {post : Int32 → SX → Prop} {v p : Nat} {x : Int32} {Q : Nat → Nat} (h : cw_Rq A L B R U H F fn Q) (hFs : cw_Fs H fl fh) (hQ : ∀ i, Q i ≤ 70) (hv : v < 6) (hp : p < 64) (hfull : (∀ b, b < 80 → H b ≠ 0) → post (-2) ((nI fn), fl, fh, (cw_pr lo), (nI tn), (nI hn), (nI en), (cw_eB B), (cw_eN U), (cw_eN F), (cw_eB R), (cw_eT T), fz, va, (cw_eN H), go, pl, em, se, tm, mv))
    (hpost : ∀ b, b < 80 → H b = 0 → (∀ i, i < b → H i ≠ 0) → ∀ (A' L' : Nat → Nat) (B' R' : Nat → Option Nat) (U' H' F' : Nat → Nat) (fn' : Nat) (fl' fh' : Int64), cw_Rq A' L' B' R' U' H' F' fn' Q → cw_Fs H' fl' fh' → (∀ v' p', v' < 6 → p' < 64 → cw_f3 B' (R' v') p' = if v' = v ∧ p' = p then some b else cw_f3 B (R v') p') → (∀ v', v' ≠ v → R' v' = R v') → post (nI b) ((nI fn'), fl', fh', (cw_pr lo), (nI tn), (nI hn), (nI en), (cw_eB B'), (cw_eN U'), (cw_eN F'), (cw_eB R'), (cw_eT T), fz, upd va b x, (cw_eN H'), upd go b (cw_pr lo), pl, em, se, tm, mv)) :
    wpX_store post ((nI fn), fl, fh, (cw_pr lo), (nI tn), (nI hn), (nI en), (cw_eB B), (cw_eN U), (cw_eN F), (cw_eB R), (cw_eT T), fz, va, (cw_eN H), go, pl, em, se, tm, mv) (nI v) (nI p) x := by
  unfold wpX_store
  refine cw_w_freeBlock hFs (fun b hb h0 hl => ?_) (fun hall => br_f (by decide) (hfull hall))
  refine br_t (nI_pos' (by omega)) ?_
  have hc : (nI b).toNatClampNeg = b := nI_clamp (by omega)
  have s61 : ∀ fl' fh', cw_Fs (cw_ad H (some b)) fl' fh' → wX_store_61 post (nI v) (nI p) x (nI b) (nI fn) fl' fh' (cw_pr lo) (nI tn) (nI hn) (nI en) (cw_eB B) (cw_eN U) (cw_eN F) (cw_eB R) (cw_eT T) fz va (cw_eN H) go pl em se tm mv := by
    intro fl' fh' hf
    refine ⟨vp_in_nI hb (by decide), nm_r (e' := upd va b x) (by rw [hc]) ⟨vp_in_nI hb (by decide), nm_r (e' := upd go b (cw_pr lo)) (by rw [hc, cw_prn]) ?_⟩⟩
    refine cw_w_put (b := some b) h hf hQ hv hp (fun c e => by cases e; exact hb) (fun e => ?_) (fun _ => ?_)
    · have := (cw_had_of h hv hp e).2
      omega
    · intro r A' L' B' R' U' H' F' fn' fl2 fh2 i1 i2 i3 i4 _ _ _
      exact hpost b hb h0 hl A' L' B' R' U' H' F' fn' fl2 fh2 i1 i2 i3 i4
  refine pk_le 64 b (fun q => nm_e ?_) (fun q => nm_e ?_)
  · exact s61 fl _ (cw_Fs_clr hFs hb (fun i hi => cw_FB_chi q (by omega) hi))
  · exact s61 _ fh (cw_Fs_clr hFs hb (fun i hi => cw_FB_clo q))
theorem cw_y_frl {post : Int32 → SY → Prop} {hd0 : Nat → Int32} {r : Int32} (e : Nat) (he : e ≤ 80) (hl : ∀ i, i < e → cw_tc T hs (i + 1) ≠ 0) (hr : (e = 80 ∧ r = -1) ∨ (e < 80 ∧ cw_tc T hs (e + 1) = 0 ∧ r = nI e)) (hp : post r ((nI tn), (nI hn), (nI en), (cw_eT T), fz, (cw_eN hs), be, va, (cw_eT bd), (cw_eT lo), se, cw_hd T hs hd0, pl, sh)) : ∀ d i, i + d = e → wY_free_6 post (nI tn) (nI hn) (nI en) (cw_eT T) fz (cw_eN hs) be va (cw_eT bd) (cw_eT lo) se (cw_hd T hs hd0) pl sh (d + 1) (nI i) := by
  intro d
  induction d with
  | zero =>
    intro i hi
    have hi : i = e := by omega
    subst hi
    have ht := cw_tc_le (T := T) (hs := hs) (i + 1)
    rcases hr with ⟨h1, h2⟩ | ⟨h1, h2, h3⟩
    · rw [h2] at hp
      exact br_t (nI_le (a := 80) (by omega) (by omega)) hp
    · rw [h3] at hp
      refine br_f (nI_ge (b := 80) h1 (by decide)) ⟨cw_in1 (nI_1 i) (by omega) (by decide), ?_⟩
      exact pk_eq (cw_tc T hs (i + 1)) 0 (fun _ => hp) (fun z => absurd h2 z) (cw_hd_b (nI_1 i) (by omega))
  | succ d ih =>
    intro i hi
    have ht := cw_tc_le (T := T) (hs := hs) (i + 1)
    refine br_f (nI_ge (b := 80) (by omega) (by decide)) ⟨cw_in1 (nI_1 i) (by omega) (by decide), ?_⟩
    exact pk_eq (cw_tc T hs (i + 1)) 0 (fun z => absurd z (hl i (by omega))) (fun _ => nm_r (nI_1 i) (ih (i + 1) (by omega))) (cw_hd_b (nI_1 i) (by omega))
theorem cw_y_free {post : Int32 → SY → Prop} {r : Int32} (hhs : ∀ x, hs x ≤ 80) (e : Nat) (he : e ≤ 80) (hl : ∀ i, i < e → cw_tc T hs (i + 1) ≠ 0) (hr : (e = 80 ∧ r = -1) ∨ (e < 80 ∧ cw_tc T hs (e + 1) = 0 ∧ r = nI e)) (hp : post r ((nI tn), (nI hn), (nI en), (cw_eT T), fz, (cw_eN hs), be, va, (cw_eT bd), (cw_eT lo), se, cw_hd T hs hd, pl, sh)) : wpY_free post ((nI tn), (nI hn), (nI en), (cw_eT T), fz, (cw_eN hs), be, va, (cw_eT bd), (cw_eT lo), se, hd, pl, sh) := by
  unfold wpY_free
  exact cw_y_tally hhs ⟨e + 1, cw_y_frl e he hl hr hp e 0 (by omega)⟩
theorem cw_y_writeF {post : Int32 → SY → Prop} {v p : Nat} {x : Int32} (ok : cw_okw T fz (nI v)) (hp : p < 64) (hhs : ∀ x, hs x ≤ 80) (hall : ∀ i, i < 80 → cw_tc T hs (i + 1) ≠ 0) (hpost : post (-2) ((nI tn), (nI hn), (nI en), (cw_eT T), fz, (cw_eN hs), be, va, (cw_eT bd), (cw_eT lo), se, cw_hd T hs hd, pl, sh)) : wpY_write post ((nI tn), (nI hn), (nI en), (cw_eT T), fz, (cw_eN hs), be, va, (cw_eT bd), (cw_eT lo), se, hd, pl, sh) (nI v) (nI p) x := by
  unfold wpY_write
  refine cw_y_wrT ok (br_f (by decide) ?_)
  refine cw_ouT (cw_am_nI (n := 64) hp (by decide)) (br_t rfl ?_)
  exact cw_y_free hhs 80 (by omega) hall (Or.inl ⟨rfl, rfl⟩) (br_f (by decide) hpost)
theorem cw_nbe (b : Bool) : vp_nar .boolean (cw_eb b) = cw_eb b := by
  cases b <;> rfl
theorem cw_y_writeT {post : Int32 → SY → Prop} {v p b : Nat} {x : Int32} (ok : cw_okw T fz (nI v)) (hv : v < 6) (hp : p < 64) (hhs : ∀ x, hs x ≤ 80) (hb : b < 80) (h0 : cw_tc T hs (b + 1) = 0) (hl : ∀ i, i < b → cw_tc T hs (i + 1) ≠ 0) (hpost : post (nI b) ((nI tn), (nI hn), (nI en), (cw_eT T), fz, (cw_eN (cw_un hs (64 * v + p) (b + 1))), be, upd va b x, (cw_eT (cw_un (cw_un bd b (lo 0)) (80 + b) (lo 1))), (cw_eT lo), se, cw_hd T hs hd, pl, sh)) : wpY_write post ((nI tn), (nI hn), (nI en), (cw_eT T), fz, (cw_eN hs), be, va, (cw_eT bd), (cw_eT lo), se, hd, pl, sh) (nI v) (nI p) x := by
  have e80 : (80 : Int32) + nI b = nI (80 + b) := nI_add 80 b
  unfold wpY_write
  refine cw_y_wrT ok (br_f (by decide) ?_)
  refine cw_ouT (cw_am_nI (n := 64) hp (by decide)) (br_t rfl ?_)
  refine cw_y_free hhs b (by omega) hl (Or.inr ⟨hb, h0, rfl⟩) ?_
  refine br_t (nI_pos' (by omega)) ⟨vp_in_nI hb (by decide), nm_r (e' := upd va b x) (by rw [nI_clamp (by omega)]) ⟨vp_in_nI (by omega) (by decide), nm_r (cw_wrT (x := lo 0) rfl (by omega) (cw_nbe _)) ⟨cw_in1 e80 (by omega) (by decide), nm_r (cw_wrT (x := lo 1) e80 (by omega) (cw_nbe _)) ⟨cw_in1 (cw_64 v p) (by omega) (by decide), nm_r (cw_wrN (x := b + 1) (cw_64 v p) (by omega) (by rw [nI_1]; exact cw_bns (by omega))) hpost⟩⟩⟩⟩
theorem cw_y_punch {post : Int32 → SY → Prop} {v p r : Nat} {old : Option Nat} (ok : cw_okw T fz (nI v)) (hv : v < 6) (hp : p < 64) (hhs : ∀ x, hs x ≤ 80) (eo : hs (64 * v + p) = cw_oN old) (hr0 : old = none → r = 0) (hr : ∀ o, old = some o → o < 80 ∧ r ≤ 1 ∧ (r = 1 ↔ cw_tc T (cw_un hs (64 * v + p) 0) (o + 1) = 0)) (hpost : post (nI r) ((nI tn), (nI hn), (nI en), (cw_eT T), fz, (cw_eN (cw_un hs (64 * v + p) 0)), be, va, (cw_eT bd), (cw_eT lo), se, cw_hd T (cw_un hs (64 * v + p) 0) hd, pl, sh)) : wpY_punch post ((nI tn), (nI hn), (nI en), (cw_eT T), fz, (cw_eN hs), be, va, (cw_eT bd), (cw_eT lo), se, hd, pl, sh) (nI v) (nI p) := by
  have hhs' : ∀ x, cw_un hs (64 * v + p) 0 x ≤ 80 := by
    intro x
    by_cases q : x = 64 * v + p
    · rw [q, cw_us]; omega
    · rw [cw_uo q]; exact hhs x
  unfold wpY_punch
  refine cw_y_wrT ok (br_f (by decide) ?_)
  refine cw_ouT (cw_am_nI (n := 64) hp (by decide)) (br_t rfl ?_)
  refine ⟨cw_in1 (cw_64 v p) (by omega) (by decide), nm_r (e' := cw_eO old) (by rw [cw_rdN (cw_64 v p) (by omega), eo, cw_oN_m1]) ⟨cw_in1 (cw_64 v p) (by omega) (by decide), nm_r (cw_wrN (x := 0) (cw_64 v p) (by omega) (cw_bn8 (n := 0) (by omega))) ?_⟩⟩
  refine cw_y_tally hhs' ?_
  refine cw_on rfl (fun o e => by have := (hr o e).1; omega) (fun e => ?_) (fun o e => ?_)
  · rw [hr0 e] at hpost; exact hpost
  · obtain ⟨o1, o2, o3⟩ := hr o e
    subst e
    have e1 : cw_eO (some o) + 1 = nI (o + 1) := nI_1 o
    have ht := cw_tc_le (T := T) (hs := cw_un hs (64 * v + p) 0) (o + 1)
    refine ⟨cw_in1 e1 (by omega) (by decide), ?_⟩
    refine pk_eq (cw_tc T (cw_un hs (64 * v + p) 0) (o + 1)) 0 (fun z => ?_) (fun z => ?_) (cw_hd_b e1 (by omega))
    · rw [o3.mpr z] at hpost; exact hpost
    · rw [show r = 0 from Classical.byContradiction fun y => z (o3.mp (by omega))] at hpost; exact hpost
/-- the trees against the rows behind a put -/
theorem cw_RT_put {Q : Nat → Nat} {v p : Nat} {b : Option Nat} {A' L' : Nat → Nat} {B' R' : Nat → Option Nat} {U' H' F' : Nat → Nat} {fn' : Nat} {fl' fh' : Int64} (h : cw_RT A L B R U H F fn fl fh Q T hs) (hv : v < 6) (tv : T v = true) (hp : p < 64) (hb : ∀ c, b = some c → c < 80) (hq : cw_Rq A' L' B' R' U' H' F' fn' Q) (hf : cw_Fs H' fl' fh') (hc : ∀ v' p', v' < 6 → p' < 64 → cw_f3 B' (R' v') p' = if v' = v ∧ p' = p then b else cw_f3 B (R v') p') (hR : ∀ v', v' ≠ v → R' v' = R v') : cw_RT A' L' B' R' U' H' F' fn' fl' fh' Q T (cw_un hs (64 * v + p) (cw_oN b)) := by
  refine ⟨hq, hf, fun w hw tw => ?_, fun w q hw hq' tw => ?_, fun x => ?_⟩
  · have hne : w ≠ v := by intro z; rw [z, tv] at tw; cases tw
    rw [hR w hne]; exact h.2.2.1 w hw tw
  · rw [hc w q hw hq']
    by_cases e : w = v ∧ q = p
    · rw [if_pos e, e.1, e.2, cw_us]
    · rw [if_neg e, cw_uo (by omega)]
      exact h.2.2.2.1 w q hw hq' tw
  · by_cases q : x = 64 * v + p
    · rw [q, cw_us]
      cases b with
      | none => exact Nat.zero_le _
      | some c => have := hb c rfl; show c + 1 ≤ 80; omega
    · rw [cw_uo q]; exact h.2.2.2.2 x
theorem cw_H_put {Q Q' : Nat → Nat} {v p : Nat} {b : Option Nat} {A' L' : Nat → Nat} {B' R' : Nat → Option Nat} {U' H' F' : Nat → Nat} {fn' : Nat} (h : cw_Rq A L B R U H F fn Q) (hq : cw_Rq A' L' B' R' U' H' F' fn' Q') (hc : ∀ v' p', v' < 6 → p' < 64 → cw_f3 B' (R' v') p' = if v' = v ∧ p' = p then b else cw_f3 B (R v') p') {c : Nat} (hc8 : c < 80) (hh : Q' c < H' c) : b = some c ∨ H c ≠ 0 := by
  obtain ⟨w, q, hw, hq', e⟩ := cw_had_to hq hc8 hh
  rw [hc w q hw hq'] at e
  by_cases z : w = v ∧ q = p
  · rw [if_pos z] at e; exact Or.inl e
  · rw [if_neg z] at e
    have := (cw_had_of h hw hq' e).2
    exact Or.inr (by omega)
/-- a block is stored: the relation behind it -/
theorem cw_RR_store {v p b : Nat} {A' L' : Nat → Nat} {B' R' : Nat → Option Nat} {U' H' F' : Nat → Nat} {fn' : Nat} {fl' fh' : Int64} (h : cw_RR A L B R U H F fn fl fh T hs go bd tn hn en pl em sh) (hv : v < 6) (tv : T v = true) (hp : p < 64) (hb : b < 80) (hq : cw_Rq A' L' B' R' U' H' F' fn' (fun _ => 0)) (hf : cw_Fs H' fl' fh') (hc : ∀ v' p', v' < 6 → p' < 64 → cw_f3 B' (R' v') p' = if v' = v ∧ p' = p then some b else cw_f3 B (R v') p') (hR : ∀ v', v' ≠ v → R' v' = R v') : cw_RR A' L' B' R' U' H' F' fn' fl' fh' T (cw_un hs (64 * v + p) (b + 1)) (upd go b (cw_pr lo)) (cw_un (cw_un bd b (lo 0)) (80 + b) (lo 1)) tn hn en pl em sh := by
  refine ⟨cw_RT_put (b := some b) h.1 hv tv hp (fun c e => by cases e; exact hb) hq hf hc hR, fun c hc8 hh => ?_, h.2.2⟩
  by_cases q : c = b
  · rw [q, pk_us, cw_us, cw_uo (by omega), cw_us]; rfl
  · rw [pk_un q, cw_uo (by omega), cw_uo q, cw_uo (by omega), cw_uo (by omega)]
    rcases cw_H_put h.1.1 hq hc hc8 (show 0 < H' c by omega) with e | e
    · cases e; exact absurd rfl q
    · exact h.2.1 c hc8 e
theorem cw_RR_punch {v p : Nat} {A' L' : Nat → Nat} {B' R' : Nat → Option Nat} {U' H' F' : Nat → Nat} {fn' : Nat} {fl' fh' : Int64} (h : cw_RR A L B R U H F fn fl fh T hs go bd tn hn en pl em sh) (hv : v < 6) (tv : T v = true) (hp : p < 64) (hq : cw_Rq A' L' B' R' U' H' F' fn' (fun _ => 0)) (hf : cw_Fs H' fl' fh') (hc : ∀ v' p', v' < 6 → p' < 64 → cw_f3 B' (R' v') p' = if v' = v ∧ p' = p then none else cw_f3 B (R v') p') (hR : ∀ v', v' ≠ v → R' v' = R v') : cw_RR A' L' B' R' U' H' F' fn' fl' fh' T (cw_un hs (64 * v + p) 0) go bd tn hn en pl em sh := by
  refine ⟨cw_RT_put (b := none) h.1 hv tv hp (fun c e => by cases e) hq hf hc hR, fun c hc8 hh => ?_, h.2.2⟩
  rcases cw_H_put h.1.1 hq hc hc8 (show 0 < H' c by omega) with e | e
  · cases e
  · exact h.2.1 c hc8 e
end
end
section
section
variable {A L : Nat → Nat} {B R : Nat → Option Nat} {U H F : Nat → Nat} {fn : Nat} {fl fh : Int64} {T : Nat → Bool} {hs : Nat → Nat} {go : Nat → Int32} {bd : Nat → Bool} {tn hn en : Nat} {pl em sh : Nat → Int32} {lo : Nat → Bool} {fz va se tm mv be hd : Nat → Int32}
theorem cw_lk_punch {Kx : Int32 → SX → Prop} {v p : Nat} (h : cw_RR A L B R U H F fn fl fh T hs go bd tn hn en pl em sh) (hv : v < 6) (tv : T v = true) (ok : cw_okw T fz (nI v)) (hp : p < 64)
    (hK : ∀ (r : Nat) (A' L' : Nat → Nat) (B' R' : Nat → Option Nat) (U' H' F' : Nat → Nat) (fn' : Nat) (fl' fh' : Int64), r ≤ 1 → cw_RR A' L' B' R' U' H' F' fn' fl' fh' T (cw_un hs (64 * v + p) 0) go bd tn hn en pl em sh → (∀ post, post (nI r) ((nI tn), (nI hn), (nI en), (cw_eT T), fz, (cw_eN (cw_un hs (64 * v + p) 0)), be, va, (cw_eT bd), (cw_eT lo), se, cw_hd T (cw_un hs (64 * v + p) 0) hd, pl, sh) → wpY_punch post ((nI tn), (nI hn), (nI en), (cw_eT T), fz, (cw_eN hs), be, va, (cw_eT bd), (cw_eT lo), se, hd, pl, sh) (nI v) (nI p)) → Kx (nI r) ((nI fn'), fl', fh', (cw_pr lo), (nI tn), (nI hn), (nI en), (cw_eB B'), (cw_eN U'), (cw_eN F'), (cw_eB R'), (cw_eT T), fz, va, (cw_eN H'), go, pl, em, se, tm, mv)) :
    wpX_put Kx ((nI fn), fl, fh, (cw_pr lo), (nI tn), (nI hn), (nI en), (cw_eB B), (cw_eN U), (cw_eN F), (cw_eB R), (cw_eT T), fz, va, (cw_eN H), go, pl, em, se, tm, mv) (nI v) (nI p) (-1) := by
  have eo := h.1.2.2.2.1 v p hv hp tv
  refine cw_w_put (b := none) (Q := fun _ => 0) h.1.1 (by rw [cw_ad_0]; exact h.1.2.1) (fun _ => Nat.zero_le _) hv hp (fun c e => by cases e) (fun e => ?_) (fun _ => ?_)
  · refine hK 0 A L B R U H F fn fl fh (by omega) ?_ (fun post hpost => ?_)
    · rw [cw_uself (show hs (64 * v + p) = 0 by rw [eo, e]; rfl)]; exact h
    · exact cw_y_punch (r := 0) ok hv hp h.1.2.2.2.2 eo (fun _ => rfl) (fun o z => by rw [e] at z; cases z) hpost
  · intro r A' L' B' R' U' H' F' fn' fl' fh' i1 i2 i3 i4 i5 i6 i7
    have h' := cw_RR_punch h hv tv hp i1 i2 i3 i4
    refine hK r A' L' B' R' U' H' F' fn' fl' fh' i5 h' (fun post hpost => ?_)
    refine cw_y_punch (r := r) ok hv hp h.1.2.2.2.2 eo i6 (fun o z => ?_) hpost
    have o8 := (cw_had_of h.1.1 hv hp z).1
    have e1 := i7 o z
    have e2 := cw_held h'.1 o8
    refine ⟨o8, i5, ?_⟩
    rw [e1]
    omega
theorem cw_lk_store {Kx : Int32 → SX → Prop} {v p : Nat} {x : Int32} (h : cw_RR A L B R U H F fn fl fh T hs go bd tn hn en pl em sh) (hv : v < 6) (tv : T v = true) (ok : cw_okw T fz (nI v)) (hp : p < 64)
    (hF : (∀ post, post (-2) ((nI tn), (nI hn), (nI en), (cw_eT T), fz, (cw_eN hs), be, va, (cw_eT bd), (cw_eT lo), se, cw_hd T hs hd, pl, sh) → wpY_write post ((nI tn), (nI hn), (nI en), (cw_eT T), fz, (cw_eN hs), be, va, (cw_eT bd), (cw_eT lo), se, hd, pl, sh) (nI v) (nI p) x) → Kx (-2) ((nI fn), fl, fh, (cw_pr lo), (nI tn), (nI hn), (nI en), (cw_eB B), (cw_eN U), (cw_eN F), (cw_eB R), (cw_eT T), fz, va, (cw_eN H), go, pl, em, se, tm, mv))
    (hK : ∀ (b : Nat) (A' L' : Nat → Nat) (B' R' : Nat → Option Nat) (U' H' F' : Nat → Nat) (fn' : Nat) (fl' fh' : Int64), b < 80 → cw_RR A' L' B' R' U' H' F' fn' fl' fh' T (cw_un hs (64 * v + p) (b + 1)) (upd go b (cw_pr lo)) (cw_un (cw_un bd b (lo 0)) (80 + b) (lo 1)) tn hn en pl em sh → (∀ post, post (nI b) ((nI tn), (nI hn), (nI en), (cw_eT T), fz, (cw_eN (cw_un hs (64 * v + p) (b + 1))), be, upd va b x, (cw_eT (cw_un (cw_un bd b (lo 0)) (80 + b) (lo 1))), (cw_eT lo), se, cw_hd T hs hd, pl, sh) → wpY_write post ((nI tn), (nI hn), (nI en), (cw_eT T), fz, (cw_eN hs), be, va, (cw_eT bd), (cw_eT lo), se, hd, pl, sh) (nI v) (nI p) x) → Kx (nI b) ((nI fn'), fl', fh', (cw_pr lo), (nI tn), (nI hn), (nI en), (cw_eB B'), (cw_eN U'), (cw_eN F'), (cw_eB R'), (cw_eT T), fz, upd va b x, (cw_eN H'), upd go b (cw_pr lo), pl, em, se, tm, mv)) :
    wpX_store Kx ((nI fn), fl, fh, (cw_pr lo), (nI tn), (nI hn), (nI en), (cw_eB B), (cw_eN U), (cw_eN F), (cw_eB R), (cw_eT T), fz, va, (cw_eN H), go, pl, em, se, tm, mv) (nI v) (nI p) x := by
  refine cw_w_store (Q := fun _ => 0) h.1.1 h.1.2.1 (fun _ => Nat.zero_le _) hv hp (fun hall => ?_) (fun b hb h0 hl => ?_)
  · exact hF (fun post hpost => cw_y_writeF ok hp h.1.2.2.2.2 (fun i hi => (cw_held h.1 hi).mp (hall i hi)) hpost)
  · intro A' L' B' R' U' H' F' fn' fl' fh' i1 i2 i3 i4
    refine hK b A' L' B' R' U' H' F' fn' fl' fh' hb (cw_RR_store h hv tv hp hb i1 i2 i3 i4) (fun post hpost => ?_)
    refine cw_y_writeT ok hv hp h.1.2.2.2.2 hb ?_ (fun i hi => (cw_held h.1 (by omega)).mp (hl i hi)) hpost
    have := cw_held h.1 hb
    omega
theorem cw_ls_receive {YW : (Int32 → SY → Prop) → Prop} {K v : Nat} (hv : v < 6) (tv : T v = true) (ok : cw_okw T fz (nI v)) :
    ∀ (d k : Nat) (A L : Nat → Nat) (B R : Nat → Option Nat) (U H F : Nat → Nat) (fn : Nat) (fl fh : Int64) (hs : Nat → Nat) (go : Nat → Int32) (bd : Nat → Bool) (va hd : Nat → Int32), k + d = en → cw_RR A L B R U H F fn fl fh T hs go bd tn hn en pl em sh → (∀ post, wY_receive_12 post (nI v) (d + 1) (nI k) (nI tn) (nI hn) (nI en) (cw_eT T) fz (cw_eN hs) be va (cw_eT bd) (cw_eT lo) se hd pl sh → YW post) →
    wX_receive_12 (fun r u' => YW (fun r' v' => r' = r ∧ i_Rel K u' v')) (nI v) (d + 1) (nI k) (nI fn) fl fh (cw_pr lo) (nI tn) (nI hn) (nI en) (cw_eB B) (cw_eN U) (cw_eN F) (cw_eB R) (cw_eT T) fz va (cw_eN H) go pl em se tm mv := by
  intro d
  induction d with
  | zero =>
    intro k A L B R U H F fn fl fh hs go bd va hd hk h hY
    have hk : k = en := by omega
    have hen := h.2.2.2.2.1
    subst hk
    exact br_t (nI_le (Nat.le_refl _) (by omega)) (hY _ (br_t (nI_le (Nat.le_refl _) (by omega)) ⟨rfl, cw_in h⟩))
  | succ d ih =>
    intro k A L B R U H F fn fl fh hs go bd va hd hk h hY
    have hen := h.2.2.2.2.1
    have hv64 : vp_in (nI k) 64 := vp_in_nI (by omega) (by decide)
    have hc : (nI k).toNatClampNeg = k := nI_clamp (by omega)
    obtain ⟨⟨p, hp, ep⟩, hcase⟩ := h.2.2.2.2.2 k (by omega)
    refine br_f (nI_ge (by omega) (by omega)) ⟨hv64, ?_⟩
    rw [hc]
    rcases hcase with ⟨q1, q2⟩ | ⟨q1, q2⟩
    · refine br_t q1 ⟨hv64, ?_⟩
      rw [ep]
      refine cw_lk_punch (be := be) (hd := hd) h hv tv ok hp ?_
      intro r A' L' B' R' U' H' F' fn' fl' fh' hr h' hpy
      refine nm_r (nI_1 k) ?_
      refine ih (k + 1) A' L' B' R' U' H' F' fn' fl' fh' _ go bd va (cw_hd T (cw_un hs (64 * v + p) 0) hd) (by omega) h' (fun post hp2 => hY post ?_)
      refine br_f (nI_ge (by omega) (by omega)) ⟨hv64, ?_⟩
      rw [hc]
      refine br_t q2 ⟨hv64, ?_⟩
      rw [ep]
      refine hpy _ (br_f ?_ (nm_r (nI_1 k) hp2))
      intro z
      exact nI_pos (n := r) (by omega) (by rw [z]; decide)
    · refine br_f q1 ⟨hv64, hv64, ?_⟩
      rw [ep]
      refine cw_lk_store (be := be) (hd := hd) h hv tv ok hp (fun hpy => ?_) ?_
      · refine br_f (by decide) (hY _ ?_)
        refine br_f (nI_ge (by omega) (by omega)) ⟨hv64, ?_⟩
        rw [hc]
        refine br_f q2 ⟨hv64, hv64, ?_⟩
        rw [ep]
        exact hpy _ (br_t rfl ⟨rfl, cw_in h⟩)
      · intro b A' L' B' R' U' H' F' fn' fl' fh' hb h' hpy
        refine br_t (nI_pos' (by omega)) (nm_r (nI_1 k) ?_)
        refine ih (k + 1) A' L' B' R' U' H' F' fn' fl' fh' _ _ _ _ (cw_hd T hs hd) (by omega) h' (fun post hp2 => hY post ?_)
        refine br_f (nI_ge (by omega) (by omega)) ⟨hv64, ?_⟩
        rw [hc]
        refine br_f q2 ⟨hv64, hv64, ?_⟩
        rw [ep]
        refine hpy _ (br_f ?_ (nm_r (nI_1 k) hp2))
        intro z
        exact nI_pos (n := b) (by omega) (by rw [z]; decide)
end
theorem i_vc_write {k : Nat} {u : SX} {v : SY} (I : i_Rel k u v) (hk : k + 6 ≤ 3072) (v1 : Int32) (v2 : Int32) (v3 : Int32) : wpX_write (fun r u' => wpY_write (fun r' v' => r' = r ∧ i_Rel (k + 6) u' v') v v1 v2 v3) u v1 v2 v3 := by
  refine cw_el (P := fun u v => wpX_write (fun r u' => wpY_write (fun r' v' => r' = r ∧ i_Rel (k + 6) u' v') v v1 v2 v3) u v1 v2 v3) ?_ I
  intro A L B R U H F fn fl fh T hs go bd tn hn en pl em sh lo fz va se tm mv be hd h
  unfold wpX_write
  by_cases a1 : cw_okw T fz v1
  · refine cw_w_wrT a1 (br_f (by decide) ?_)
    by_cases a2 : cw_am v2 64
    · obtain ⟨v, hv, rfl, tv, _⟩ := id a1
      obtain ⟨p, hp, rfl⟩ := cw_am_of (n := 64) (by decide) rfl a2
      refine cw_amT a2 (br_f (by decide) ?_)
      refine cw_lk_store (be := be) (hd := hd) h hv tv a1 hp (fun hpy => hpy _ ⟨rfl, cw_in h⟩) ?_
      intro b A' L' B' R' U' H' F' fn' fl' fh' hb h' hpy
      exact hpy _ ⟨rfl, cw_in h'⟩
    · refine cw_amF a2 (br_t rfl ?_)
      show wpY_write _ _ _ _ _
      unfold wpY_write
      refine cw_y_wrT a1 (br_f (by decide) ?_)
      exact cw_ouF a2 (br_f (by decide) ⟨rfl, cw_in h⟩)
  · refine cw_w_wrF a1 (br_t rfl ?_)
    show wpY_write _ _ _ _ _
    unfold wpY_write
    exact cw_y_wrF a1 (br_t rfl ⟨rfl, cw_in h⟩)
theorem i_vc_punch {k : Nat} {u : SX} {v : SY} (I : i_Rel k u v) (hk : k + 6 ≤ 3072) (v1 : Int32) (v2 : Int32) : wpX_punch (fun r u' => wpY_punch (fun r' v' => r' = r ∧ i_Rel (k + 6) u' v') v v1 v2) u v1 v2 := by
  refine cw_el (P := fun u v => wpX_punch (fun r u' => wpY_punch (fun r' v' => r' = r ∧ i_Rel (k + 6) u' v') v v1 v2) u v1 v2) ?_ I
  intro A L B R U H F fn fl fh T hs go bd tn hn en pl em sh lo fz va se tm mv be hd h
  unfold wpX_punch
  by_cases a1 : cw_okw T fz v1
  · refine cw_w_wrT a1 (br_f (by decide) ?_)
    by_cases a2 : cw_am v2 64
    · obtain ⟨v, hv, rfl, tv, _⟩ := id a1
      obtain ⟨p, hp, rfl⟩ := cw_am_of (n := 64) (by decide) rfl a2
      refine cw_amT a2 (br_f (by decide) ?_)
      refine cw_lk_punch (be := be) (hd := hd) h hv tv a1 hp ?_
      intro r A' L' B' R' U' H' F' fn' fl' fh' hr h' hpy
      refine pk_eq r 0 (fun z => ?_) (fun z => ?_)
      · rw [z] at hpy
        exact hpy _ ⟨rfl, cw_in h'⟩
      · rw [show r = 1 by omega] at hpy
        exact hpy _ ⟨rfl, cw_in h'⟩
    · refine cw_amF a2 (br_t rfl ?_)
      show wpY_punch _ _ _ _
      unfold wpY_punch
      refine cw_y_wrT a1 (br_f (by decide) ?_)
      exact cw_ouF a2 (br_f (by decide) ⟨rfl, cw_in h⟩)
  · refine cw_w_wrF a1 (br_t rfl ?_)
    show wpY_punch _ _ _ _
    unfold wpY_punch
    exact cw_y_wrF a1 (br_t rfl ⟨rfl, cw_in h⟩)
theorem i_vc_receive {k : Nat} {u : SX} {v : SY} (I : i_Rel k u v) (hk : k + 6 ≤ 3072) (v1 : Int32) : wpX_receive (fun r u' => wpY_receive (fun r' v' => r' = r ∧ i_Rel (k + 6) u' v') v v1) u v1 := by
  refine cw_el (P := fun u v => wpX_receive (fun r u' => wpY_receive (fun r' v' => r' = r ∧ i_Rel (k + 6) u' v') v v1) u v1) ?_ I
  intro A L B R U H F fn fl fh T hs go bd tn hn en pl em sh lo fz va se tm mv be hd h
  unfold wpX_receive
  by_cases a1 : cw_okw T fz v1
  · obtain ⟨v, hv, rfl, tv, _⟩ := id a1
    refine cw_w_wrT a1 (br_f (by decide) ⟨en + 1, ?_⟩)
    refine cw_ls_receive (be := be) (YW := fun post => wpY_receive post ((nI tn), (nI hn), (nI en), (cw_eT T), fz, (cw_eN hs), be, va, (cw_eT bd), (cw_eT lo), se, hd, pl, sh) (nI v)) (K := k + 6) hv tv a1 en 0 A L B R U H F fn fl fh hs go bd va hd (by omega) h (fun post hp => ?_)
    unfold wpY_receive
    exact cw_y_wrT a1 (br_f (by decide) ⟨en + 1, hp⟩)
  · refine cw_w_wrF a1 (br_t rfl ?_)
    show wpY_receive _ _ _
    unfold wpY_receive
    exact cw_y_wrF a1 (br_t rfl ⟨rfl, cw_in h⟩)
end
section
/-- how often a block is put aside, at the places in S -/
def cw_qw (g : Nat → Option Nat) (n : Nat) (S : Nat → Bool) : Nat → Nat := fun c => cw_cn (fun i => S i && decide (g i = some c)) n
theorem cw_qw_add {g : Nat → Option Nat} {n k : Nat} {S S' : Nat → Bool} (hk : k < n) (h0 : S k = false) (h1 : S' k = true) (he : ∀ i, i < n → i ≠ k → S' i = S i) : cw_qw g n S' = cw_ad (cw_qw g n S) (g k) := by
  funext c
  have e := cw_cn_upd (p := fun i => S' i && decide (g i = some c)) (q := fun i => S i && decide (g i = some c)) hk (fun i hi hne => by rw [he i hi hne])
  unfold cw_qw cw_ad
  simp only [h0, h1, Bool.false_and, Bool.true_and, Bool.toNat_false] at e
  by_cases q : g k = some c
  · rw [if_pos q]
    rw [decide_eq_true q] at e
    simp only [Bool.toNat_true] at e
    omega
  · rw [if_neg q]
    rw [decide_eq_false q] at e
    simp only [Bool.toNat_false] at e
    omega
theorem cw_qw_le {g : Nat → Option Nat} {n : Nat} {S : Nat → Bool} (c : Nat) : cw_qw g n S c ≤ n := cw_cn_le n
theorem cw_qw_0 {g : Nat → Option Nat} {n : Nat} {S : Nat → Bool} (h : ∀ i, i < n → S i = false) : cw_qw g n S = fun _ => 0 := by
  funext c
  exact cw_cn_zero (fun i hi => by rw [h i hi]; rfl)
theorem cw_qw_c {g : Nat → Option Nat} {n : Nat} {S S' : Nat → Bool} (h : ∀ i, i < n → S i = S' i) : cw_qw g n S = cw_qw g n S' := by
  funext c
  exact cw_cn_congr (fun i hi => by rw [h i hi])
theorem cw_qw_1 {g : Nat → Option Nat} {n k c : Nat} {S : Nat → Bool} (hk : k < n) (hS : S k = true) (e : g k = some c) : 1 ≤ cw_qw g n S c :=
  cw_cn_one (p := fun i => S i && decide (g i = some c)) hk (by rw [hS, decide_eq_true e]; rfl)
section
variable {A L : Nat → Nat} {B R : Nat → Option Nat} {U H F : Nat → Nat} {fn : Nat} {fl fh : Int64} {T : Nat → Bool} {hs : Nat → Nat} {go : Nat → Int32} {bd : Nat → Bool} {tn hn en : Nat} {pl em sh : Nat → Int32} {lo : Nat → Bool} {fz va se tm mv be hd : Nat → Int32}
/-- the third loop: what was put aside is let go -/
theorem cw_w_sh3 {post : Int32 → SX → Prop} {n : Nat} {x6 : Int32} {g : Nat → Option Nat} (hn6 : n ≤ 64) (hg : ∀ i c, i < n → g i = some c → c < 80) (hm : ∀ i, i < n → mv i = cw_eO (g i)) :
    ∀ (d k : Nat) (H : Nat → Nat) (fl fh : Int64), k + d = n → cw_Rq A L B R U H F fn (cw_qw g n (fun i => decide (k ≤ i))) → cw_Fs H fl fh → (∀ (H' : Nat → Nat) (fl' fh' : Int64), cw_Rq A L B R U H' F fn (fun _ => 0) → cw_Fs H' fl' fh' → (∀ c, c < 80 → H' c ≠ 0 → H c ≠ 0) → post x6 ((nI fn), fl', fh', (cw_pr lo), (nI tn), (nI hn), (nI en), (cw_eB B), (cw_eN U), (cw_eN F), (cw_eB R), (cw_eT T), fz, va, (cw_eN H'), go, pl, em, se, tm, mv)) → wX_share_180 post (nI n) x6 (d + 1) (nI k) (nI fn) fl fh (cw_pr lo) (nI tn) (nI hn) (nI en) (cw_eB B) (cw_eN U) (cw_eN F) (cw_eB R) (cw_eT T) fz va (cw_eN H) go pl em se tm mv := by
  intro d
  induction d with
  | zero =>
    intro k H fl fh hk hq hf hp
    have hk : k = n := by omega
    subst hk
    rw [cw_qw_0 (fun i hi => decide_eq_false (by omega))] at hq
    exact br_t (nI_le (Nat.le_refl _) (by omega)) (hp H fl fh hq hf (fun _ _ z => z))
  | succ d ih =>
    intro k H fl fh hk hq hf hp
    have e := cw_qw_add (g := g) (n := n) (k := k) (S := fun i => decide (k + 1 ≤ i)) (S' := fun i => decide (k ≤ i)) (by omega) (decide_eq_false (by omega)) (decide_eq_true (by omega)) (fun i hi hne => by
      by_cases q : k ≤ i
      · rw [decide_eq_true q, decide_eq_true (by omega)]
      · rw [decide_eq_false q, decide_eq_false (by omega)])
    rw [e] at hq
    refine br_f (nI_ge (by omega) (by omega)) ⟨vp_in_nI (by omega) (by decide), ?_⟩
    rw [show mv (nI k).toNatClampNeg = cw_eO (g k) by rw [nI_clamp (by omega)]; exact hm k (by omega)]
    refine cw_w_drop hq.1 hf (fun c z => hg k c (by omega) z) (fun c => by have := cw_qw_le (g := g) (n := n) (S := fun i => decide (k + 1 ≤ i)) c; omega) ?_
    intro r H1 fl1 fh1 i1 i2 i3 i4 i5 i6
    refine nm_r (nI_1 k) ?_
    refine ih (k + 1) H1 fl1 fh1 (by omega) ⟨i1, hq.2⟩ i2 (fun H' fl' fh' j1 j2 j3 => hp H' fl' fh' j1 j2 (fun c hc z => ?_))
    have z1 := j3 c hc z
    cases q : g k with
    | none => rw [(i5 q).2] at z1; exact z1
    | some o =>
      rw [(i6 o q).2] at z1
      by_cases qc : c = o
      · rw [qc, cw_us] at z1; rw [qc]; omega
      · rw [cw_uo qc] at z1; exact z1
/-- the first loop: blocks are put aside -/
theorem cw_w_sh1 {post : Int32 → SX → Prop} {v p n : Nat} {x3 x4 x6 : Int32} {g : Nat → Option Nat} {H0 : Nat → Nat} (hv : v < 6) (hpn : p + n ≤ 64) (hg : ∀ i, i < n → g i = cw_f3 B (R v) (p + i)) :
    ∀ (d k : Nat) (H : Nat → Nat) (mv : Nat → Int32), k + d = n → cw_Rq A L B R U H F fn (cw_qw g n (fun i => decide (i < k))) → cw_Fs H fl fh → (∀ c, c < 80 → (H c = 0 ↔ H0 c = 0)) → (∀ i, i < k → mv i = cw_eO (g i)) →
    (∀ (H' : Nat → Nat) (mv' : Nat → Int32), cw_Rq A L B R U H' F fn (cw_qw g n (fun i => decide (i < n))) → cw_Fs H' fl fh → (∀ c, c < 80 → (H' c = 0 ↔ H0 c = 0)) → (∀ i, i < n → mv' i = cw_eO (g i)) → ∃ n119, wX_share_119 post x3 x4 (nI n) n119 x6 0 (nI fn) fl fh (cw_pr lo) (nI tn) (nI hn) (nI en) (cw_eB B) (cw_eN U) (cw_eN F) (cw_eB R) (cw_eT T) fz va (cw_eN H') go pl em se tm mv') →
    wX_share_59 post (nI v) (nI p) x3 x4 (nI n) x6 (nI fn) fl fh (cw_pr lo) (nI tn) (nI hn) (nI en) (d + 1) (nI k) (cw_eB B) (cw_eN U) (cw_eN F) (cw_eB R) (cw_eT T) fz va (cw_eN H) go pl em se tm mv := by
  intro d
  induction d with
  | zero =>
    intro k H mv hk hq hf hz hm hnext
    have hk : k = n := by omega
    subst hk
    exact br_t (nI_le (Nat.le_refl _) (by omega)) (hnext H mv hq hf hz hm)
  | succ d ih =>
    intro k H mv hk hq hf hz hm hnext
    have hv64 : vp_in (nI k) 64 := vp_in_nI (by omega) (by decide)
    have hc : (nI k).toNatClampNeg = k := nI_clamp (by omega)
    have e := cw_qw_add (g := g) (n := n) (k := k) (S := fun i => decide (i < k)) (S' := fun i => decide (i < k + 1)) (by omega) (decide_eq_false (by omega)) (decide_eq_true (by omega)) (fun i hi hne => by
      by_cases q : i < k
      · rw [decide_eq_true q, decide_eq_true (by omega)]
      · rw [decide_eq_false q, decide_eq_false (by omega)])
    have hb : ∀ c, g k = some c → c < 80 ∧ cw_qw g n (fun i => decide (i < k)) c < H c := fun c z => cw_had_of hq hv (show p + k < 64 by omega) (by rw [← hg k (by omega)]; exact z)
    have hm' : ∀ i, i < k + 1 → upd mv k (cw_eO (g k)) i = cw_eO (g i) := by
      intro i hi
      by_cases q : i = k
      · rw [q, pk_us]
      · rw [pk_un q]; exact hm i (by omega)
    refine br_f (nI_ge (by omega) (by omega)) ?_
    rw [show nI p + nI k = nI (p + k) from nI_add p k]
    refine cw_w_find hq hv (by omega) ?_
    rw [← hg k (by omega)]
    refine ⟨hv64, nm_r (e' := upd mv k (cw_eO (g k))) (by rw [hc, cw_eO_sns (fun c z => by have := (hb c z).1; omega)]) ⟨hv64, ?_⟩⟩
    have er : upd mv k (cw_eO (g k)) (nI k).toNatClampNeg = cw_eO (g k) := by rw [hc, pk_us]
    rw [er]
    refine cw_on rfl (fun c z => by have := (hb c z).1; omega) (fun z => ?_) (fun c z => ?_)
    · refine nm_r (nI_1 k) ?_
      rw [z, cw_ad_0] at e
      exact ih (k + 1) H (upd mv k (cw_eO (g k))) (by omega) (by rw [e]; exact hq) hf hz hm' hnext
    · obtain ⟨c8, cH⟩ := hb c z
      have hHle := cw_H_le hq.1 c8
      have hQle := cw_qw_le (g := g) (n := n) (S := fun i => decide (i < k)) c
      have ez : cw_eO (g k) = nI c := by rw [z]; rfl
      have hcl : (cw_eO (g k)).toNatClampNeg = c := by rw [ez]; exact nI_clamp (by omega)
      refine ⟨hv64, cw_in1 ez c8 (by decide), cw_in1 ez c8 (by decide), nm_r (cw_wrN (x := H c + 1) ez (by omega) (by rw [cw_rdN ez (by omega)]; exact cw_incn (by omega))) (nm_r (nI_1 k) ?_)⟩
      have hi := cw_inB (b := c) hq.1
      rw [z] at e
      refine ih (k + 1) (cw_un H c (H c + 1)) (upd mv k (cw_eO (g k))) (by omega) (by rw [e]; exact ⟨hi, hq.2⟩) (cw_Fs_eq hf (fun c' h8 => ?_)) (fun c' h8 => ?_) hm' hnext
      · by_cases q : c' = c
        · rw [q, cw_us]; omega
        · rw [cw_uo q]
      · by_cases q : c' = c
        · rw [q, cw_us]
          have := hz c c8
          omega
        · rw [cw_uo q]; exact hz c' h8
/-- the second loop, both sides -/
theorem cw_ls_sh2 {YW : (Int32 → SY → Prop) → Prop} {K w q n : Nat} {g : Nat → Option Nat} (hw : w < 6) (tw : T w = true) (hqn : q + n ≤ 64) (hg : ∀ i c, i < n → g i = some c → c < 80) (hm : ∀ i, i < n → mv i = cw_eO (g i)) (hbe : ∀ i, i < n → be i = nI (cw_oN (g i))) (htl : tn < 80 ∧ hn ≤ 999999 ∧ en ≤ 64 ∧ cw_SD en pl em sh) :
    ∀ (d k many : Nat) (A L : Nat → Nat) (B R : Nat → Option Nat) (U H F : Nat → Nat) (fn : Nat) (fl fh : Int64) (hs : Nat → Nat), k + d = n → cw_RT A L B R U H F fn fl fh (cw_qw g n (fun i => decide (0 ≤ i))) T hs → cw_GD H go bd → (∀ post, wY_share_96 post (nI w) (nI q) (nI n) (nI tn) (nI hn) (nI en) (d + 1) (nI many) (nI k) (cw_eT T) fz (cw_eN hs) be va (cw_eT bd) (cw_eT lo) se hd pl sh → YW post) →
    wX_share_119 (fun r u' => YW (fun r' v' => r' = r ∧ i_Rel K u' v')) (nI w) (nI q) (nI n) (d + 1) (nI many) (nI k) (nI fn) fl fh (cw_pr lo) (nI tn) (nI hn) (nI en) (cw_eB B) (cw_eN U) (cw_eN F) (cw_eB R) (cw_eT T) fz va (cw_eN H) go pl em se tm mv := by
  have hQ70 : ∀ c, cw_qw g n (fun i => decide (0 ≤ i)) c ≤ 70 := fun c => by have := cw_qw_le (g := g) (n := n) (S := fun i => decide (0 ≤ i)) c; omega
  intro d
  induction d with
  | zero =>
    intro k many A L B R U H F fn fl fh hs hk h hG hY
    have hk : k = n := by omega
    subst hk
    refine br_t (nI_le (Nat.le_refl _) (by omega)) ⟨k + 1, ?_⟩
    refine cw_w_sh3 (by omega) hg hm k 0 H fl fh (by omega) h.1 h.2.1 (fun H' fl' fh' i1 i2 i3 => ?_)
    refine hY _ (br_t (nI_le (Nat.le_refl _) (by omega)) ⟨rfl, cw_in ⟨⟨i1, i2, h.2.2⟩, fun c hc z => hG c hc (i3 c hc z), htl⟩⟩)
  | succ d ih =>
    intro k many A L B R U H F fn fl fh hs hk h hG hY
    have hv64 : vp_in (nI k) 64 := vp_in_nI (by omega) (by decide)
    have hc : (nI k).toNatClampNeg = k := nI_clamp (by omega)
    have hqk : q + k < 64 := by omega
    have hgk : ∀ c, g k = some c → c < 80 := fun c z => hg k c (by omega) z
    have eo := h.2.2.2.1 w (q + k) hw hqk tw
    have hon : cw_oN (g k) ≤ 80 := by
      cases z : g k with
      | none => exact Nat.zero_le _
      | some c => have := hgk c z; show c + 1 ≤ 80; omega
    have hH1 : ∀ c, g k = some c → 1 ≤ H c := by
      intro c z
      have a := cw_qw_1 (g := g) (n := n) (S := fun i => decide (0 ≤ i)) (show k < n by omega) (decide_eq_true (Nat.zero_le _)) z
      have b := h.1.1.2.2.2.2.1 c (hgk c z)
      omega
    have idx : (64 : Int32) * nI w + nI q + nI k = nI (64 * w + (q + k)) := by
      rw [cw_64, nI_add, show 64 * w + q + k = 64 * w + (q + k) by omega]
    have hhs := h.2.2.2.2 (64 * w + (q + k))
    have bek := hbe k (by omega)
    -- one turn of the reference
    have ystep : ∀ (m' : Nat) (post : Int32 → SY → Prop), m' = many + (if cw_f3 B (R w) (q + k) = g k then 0 else 1) → wY_share_96 post (nI w) (nI q) (nI n) (nI tn) (nI hn) (nI en) (d + 1) (nI m') (nI (k + 1)) (cw_eT T) fz (cw_eN (cw_un hs (64 * w + (q + k)) (cw_oN (g k)))) be va (cw_eT bd) (cw_eT lo) se hd pl sh → YW post := by
      intro m' post em' hp
      refine hY post ?_
      have s131 : ∀ m, m = m' → wY_share_131 post (wY_share_96 post (nI w) (nI q) (nI n) (nI tn) (nI hn) (nI en) (d + 1)) (nI w) (nI q) (nI n) (nI m) (nI k) (nI tn) (nI hn) (nI en) (cw_eT T) fz (cw_eN hs) be va (cw_eT bd) (cw_eT lo) se hd pl sh := by
        intro m e
        subst e
        refine ⟨hv64, cw_in1 idx (by omega) (by decide), nm_r (cw_wrN (x := cw_oN (g k)) idx (by omega) (by rw [hc, bek]; exact cw_bn8 (by omega))) (nm_r (nI_1 k) hp)⟩
      refine br_f (nI_ge (by omega) (by omega)) ⟨cw_in1 idx (by omega) (by decide), hv64, ?_⟩
      refine pk_eq (hs (64 * w + (q + k))) (cw_oN (g k)) (fun z => s131 many ?_) (fun z => nm_r (nI_1 many) (s131 (many + 1) ?_)) (cw_rdN idx (by omega)) (by rw [hc]; exact bek)
      · rw [em', if_pos (cw_oN_inj (by rw [← eo]; exact z))]; rfl
      · rw [em', if_neg (fun y => z (by rw [eo, y]))]
    refine br_f (nI_ge (by omega) (by omega)) ?_
    rw [show nI q + nI k = nI (q + k) from nI_add q k]
    refine cw_w_find h.1 hw hqk ?_
    have hmk : mv (nI k).toNatClampNeg = cw_eO (g k) := by rw [hc]; exact hm k (by omega)
    refine ⟨hv64, ?_⟩
    rw [hmk]
    have key : (cw_eO (cw_f3 B (R w) (q + k)) = cw_eO (g k)) ↔ cw_f3 B (R w) (q + k) = g k := cw_eO_inj (fun c z => by have := (cw_had_of h.1 hw hqk z).1; omega) (fun c z => by have := hgk c z; omega)
    have s153 : ∀ m', m' = many + (if cw_f3 B (R w) (q + k) = g k then 0 else 1) → wX_share_153 (fun r u' => YW (fun r' v' => r' = r ∧ i_Rel K u' v')) (wX_share_119 (fun r u' => YW (fun r' v' => r' = r ∧ i_Rel K u' v')) (nI w) (nI q) (nI n) (d + 1)) (nI w) (nI q) (nI n) (nI m') (nI k) (nI fn) fl fh (cw_pr lo) (nI tn) (nI hn) (nI en) (cw_eB B) (cw_eN U) (cw_eN F) (cw_eB R) (cw_eT T) fz va (cw_eN H) go pl em se tm mv := by
      intro m' em'
      refine ⟨hv64, ?_⟩
      rw [hmk, show nI q + nI k = nI (q + k) from nI_add q k]
      refine cw_w_put (b := g k) h.1 (cw_Fs_eq h.2.1 (fun c c8 => ?_)) hQ70 hw hqk hgk (fun z => ?_) (fun z => ?_)
      · by_cases z : g k = some c
        · rw [z, cw_ad_s]
          have := hH1 c z
          omega
        · unfold cw_ad; rw [if_neg z]; omega
      · refine nm_r (nI_1 k) ?_
        refine ih (k + 1) m' A L B R U H F fn fl fh hs (by omega) h hG (fun post hp => ystep m' post em' ?_)
        rw [cw_uself (show hs (64 * w + (q + k)) = cw_oN (g k) by rw [eo, z])]
        exact hp
      · intro r A' L' B' R' U' H' F' fn' fl' fh' i1 i2 i3 i4 _ _ _
        refine nm_r (nI_1 k) ?_
        refine ih (k + 1) m' A' L' B' R' U' H' F' fn' fl' fh' _ (by omega) (cw_RT_put h hw tw hqk hgk i1 i2 i3 i4) (fun c c8 hh => hG c c8 ?_) (fun post hp => ystep m' post em' hp)
        by_cases y : cw_qw g n (fun i => decide (0 ≤ i)) c < H' c
        · rcases cw_H_put h.1 i1 i3 c8 y with y1 | y1
          · have := hH1 c y1; omega
          · exact y1
        · have b := h.1.1.2.2.2.2.1 c c8
          omega
    refine ⟨fun z => ?_, fun z => nm_r (nI_1 many) ?_⟩
    · exact s153 many (by rw [if_pos (key.mp z)]; rfl)
    · exact s153 (many + 1) (by rw [if_neg (fun y => z (key.mpr y))])
theorem cw_y_sh1 {post : Int32 → SY → Prop} {v p n : Nat} {x3 x4 : Int32} {be0 : Nat → Int32} (hv : v < 6) (hpn : p + n ≤ 64) (hhs : ∀ x, hs x ≤ 80) (hnext : ∃ n96, wY_share_96 post x3 x4 (nI n) (nI tn) (nI hn) (nI en) n96 0 0 (cw_eT T) fz (cw_eN hs) (fun j => if j < n then nI (hs (64 * v + (p + j))) else be0 j) va (cw_eT bd) (cw_eT lo) se hd pl sh) : ∀ d k, k + d = n → wY_share_56 post (nI v) (nI p) x3 x4 (nI n) (nI tn) (nI hn) (nI en) (d + 1) (nI k) (cw_eT T) fz (cw_eN hs) (fun j => if j < k then nI (hs (64 * v + (p + j))) else be0 j) va (cw_eT bd) (cw_eT lo) se hd pl sh := by
  intro d
  induction d with
  | zero =>
    intro k hk
    have hk : k = n := by omega
    subst hk
    exact br_t (nI_le (Nat.le_refl _) (by omega)) hnext
  | succ d ih =>
    intro k hk
    have hh := hhs (64 * v + (p + k))
    have idx : (64 : Int32) * nI v + nI p + nI k = nI (64 * v + (p + k)) := by
      rw [cw_64, nI_add, show 64 * v + p + k = 64 * v + (p + k) by omega]
    refine br_f (nI_ge (by omega) (by omega)) ⟨cw_in1 idx (by omega) (by decide), vp_in_nI (by omega) (by decide), nm_r ?_ (nm_r (nI_1 k) (ih (k + 1) (by omega)))⟩
    rw [nI_clamp (by omega), cw_rdN idx (by omega), cw_bn8 (by omega)]
    funext j
    by_cases q : j = k
    · rw [q, pk_us, if_pos (by omega)]
    · rw [pk_un q]
      by_cases q2 : j < k
      · rw [if_pos q2, if_pos (by omega)]
      · rw [if_neg q2, if_neg (by omega)]
end
theorem i_vc_share {k : Nat} {u : SX} {v : SY} (I : i_Rel k u v) (hk : k + 6 ≤ 3072) (v1 : Int32) (v2 : Int32) (v3 : Int32) (v4 : Int32) (v5 : Int32) : wpX_share (fun r u' => wpY_share (fun r' v' => r' = r ∧ i_Rel (k + 6) u' v') v v1 v2 v3 v4 v5) u v1 v2 v3 v4 v5 := by
  refine cw_el (P := fun u v => wpX_share (fun r u' => wpY_share (fun r' v' => r' = r ∧ i_Rel (k + 6) u' v') v v1 v2 v3 v4 v5) u v1 v2 v3 v4 v5) ?_ I
  intro A L B R U H F fn fl fh T hs go bd tn hn en pl em sh lo fz va se tm mv be hd h
  unfold wpX_share
  by_cases a1 : cw_ok T v1
  · refine cw_w_thT a1 (br_f (by decide) ?_)
    by_cases a2 : cw_okw T fz v3
    · refine cw_w_wrT a2 (br_f (by decide) ?_)
      by_cases a3 : cw_am v5 65
      · refine cw_amT a3 (br_f (by decide) ?_)
        by_cases a4 : cw_am v2 (65 - v5)
        · refine cw_amT a4 (br_f (by decide) ?_)
          by_cases a5 : cw_am v4 (65 - v5)
          · refine cw_amT a5 (br_f (by decide) ?_)
            obtain ⟨v, hv, rfl, tv⟩ := id a1
            obtain ⟨w, hw, rfl, tw, _⟩ := id a2
            obtain ⟨n, hn5, rfl⟩ := cw_am_of (n := 65) (by decide) rfl a3
            have e65 : (65 : Int32) - nI n = nI (65 - n) := pk_sub (a := 65) (b := n) (by omega)
            obtain ⟨p, hp, rfl⟩ := cw_am_of (n := 65 - n) (by omega) e65 a4
            obtain ⟨q, hq, rfl⟩ := cw_am_of (n := 65 - n) (by omega) e65 a5
            have yw : ∀ post, (∃ n96, wY_share_96 post (nI w) (nI q) (nI n) (nI tn) (nI hn) (nI en) n96 0 0 (cw_eT T) fz (cw_eN hs) (fun j => if j < n then nI (hs (64 * v + (p + j))) else be j) va (cw_eT bd) (cw_eT lo) se hd pl sh) → wpY_share post ((nI tn), (nI hn), (nI en), (cw_eT T), fz, (cw_eN hs), be, va, (cw_eT bd), (cw_eT lo), se, hd, pl, sh) (nI v) (nI p) (nI w) (nI q) (nI n) := by
              intro post hx
              unfold wpY_share
              refine cw_y_thT a1 (br_f (by decide) ?_)
              refine cw_y_wrT a2 (br_f (by decide) ?_)
              refine cw_ouT a3 (br_t rfl ?_)
              refine cw_ouT a4 (br_t rfl ?_)
              refine cw_ouT a5 (br_t rfl ⟨n + 1, ?_⟩)
              have s := cw_y_sh1 (post := post) (be0 := be) (x3 := nI w) (x4 := nI q) hv (show p + n ≤ 64 by omega) h.1.2.2.2.2 hx n 0 (by omega)
              exact s
            refine ⟨n + 1, ?_⟩
            have hgc : ∀ i c, i < n → cw_f3 B (R v) (p + i) = some c → c < 80 := fun i c hi z => (cw_had_of h.1.1 hv (show p + i < 64 by omega) z).1
            refine cw_w_sh1 (H0 := H) (g := fun i => cw_f3 B (R v) (p + i)) hv (by omega) (fun i hi => rfl) n 0 H mv (by omega) (by rw [cw_qw_0 (fun i hi => decide_eq_false (by omega))]; exact h.1.1) h.1.2.1 (fun _ _ => Iff.rfl) (fun i hi => by omega) ?_
            intro H' mv' j1 j2 j3 j4
            rw [cw_qw_c (S' := fun i => decide (0 ≤ i)) (fun i hi => by rw [decide_eq_true hi, decide_eq_true (Nat.zero_le i)])] at j1
            refine ⟨n + 1, ?_⟩
            refine cw_ls_sh2 (YW := fun post => wpY_share post ((nI tn), (nI hn), (nI en), (cw_eT T), fz, (cw_eN hs), be, va, (cw_eT bd), (cw_eT lo), se, hd, pl, sh) (nI v) (nI p) (nI w) (nI q) (nI n)) (K := k + 6) (g := fun i => cw_f3 B (R v) (p + i)) (be := fun j => if j < n then nI (hs (64 * v + (p + j))) else be j) (hd := hd) hw tw (by omega) hgc j4 (fun i hi => ?_) h.2.2 n 0 0 A L B R U H' F fn fl fh hs (by omega) ⟨j1, j2, h.1.2.2⟩ (fun c hc hh => h.2.1 c hc (fun z => hh ((j3 c hc).mpr z))) (fun post hx => yw post ⟨n + 1, hx⟩)
            rw [if_pos hi, h.1.2.2.2.1 v (p + i) hv (by omega) tv]
          · refine cw_amF a5 (br_t rfl ?_)
            show wpY_share _ _ _ _ _ _ _
            unfold wpY_share
            refine cw_y_thT a1 (br_f (by decide) ?_)
            refine cw_y_wrT a2 (br_f (by decide) ?_)
            refine cw_ouT a3 (br_t rfl ?_)
            refine cw_ouT a4 (br_t rfl ?_)
            exact cw_ouF a5 (br_f (by decide) ⟨rfl, cw_in h⟩)
        · refine cw_amF a4 (br_t rfl ?_)
          show wpY_share _ _ _ _ _ _ _
          unfold wpY_share
          refine cw_y_thT a1 (br_f (by decide) ?_)
          refine cw_y_wrT a2 (br_f (by decide) ?_)
          refine cw_ouT a3 (br_t rfl ?_)
          exact cw_ouF a4 (br_f (by decide) ⟨rfl, cw_in h⟩)
      · refine cw_amF a3 (br_t rfl ?_)
        show wpY_share _ _ _ _ _ _ _
        unfold wpY_share
        refine cw_y_thT a1 (br_f (by decide) ?_)
        refine cw_y_wrT a2 (br_f (by decide) ?_)
        exact cw_ouF a3 (br_f (by decide) ⟨rfl, cw_in h⟩)
    · refine cw_w_wrF a2 (br_t rfl ?_)
      show wpY_share _ _ _ _ _ _ _
      unfold wpY_share
      refine cw_y_thT a1 (br_f (by decide) ?_)
      exact cw_y_wrF a2 (br_t rfl ⟨rfl, cw_in h⟩)
  · refine cw_w_thF a1 (br_t rfl ?_)
    show wpY_share _ _ _ _ _ _ _
    unfold wpY_share
    exact cw_y_thF a1 (br_t rfl ⟨rfl, cw_in h⟩)
end
