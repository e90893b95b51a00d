section
/-! pure rows to paste: stores, nI and lN arithmetic, masks, shifts, narrowing, branches by naturals (pk_le, pk_lt, pk_eq), loops (lp1 .. lp16: the measure of the state; rp1 ..: recursion), negatives. Take what you need -/
theorem pk_us {f : Nat → Int32} {k : Nat} {x : Int32} : upd f k x k = x := if_pos rfl
theorem pk_un {f : Nat → Int32} {k j : Nat} {x : Int32} (h : j ≠ k) : upd f k x j = f j := if_neg h
theorem pk_uLs {f : Nat → Int64} {k : Nat} {x : Int64} : vp_updL f k x k = x := if_pos rfl
theorem pk_uLn {f : Nat → Int64} {k j : Nat} {x : Int64} (h : j ≠ k) : vp_updL f k x j = f j := if_neg h
theorem pk_sub {a b : Nat} (h : b ≤ a) : nI a - nI b = nI (a - b) := by
  obtain ⟨c, rfl⟩ : ∃ c, a = c + b := ⟨a - b, by omega⟩
  rw [← nI_add, Int32.add_sub_cancel, Nat.add_sub_cancel]
theorem pk_m1 (n : Nat) : nI (n + 1) + (-1) = nI n := by
  rw [← nI_1, Int32.add_assoc, show (1 : Int32) + (-1) = 0 from rfl, Int32.add_zero]
theorem pk_mul (a b : Nat) : nI a * nI b = nI (a * b) := (Int32.ofNat_mul a b).symm
theorem pk_div {a d : Nat} (ha : a < 2 ^ 31) (h0 : 0 < d) (hd : d < 2 ^ 31) : nI a / nI d = nI (a / d) := by
  apply Int32.toInt_inj.mp
  rw [lg_idiv_nonneg (by rw [nI_toInt ha]; omega) (by rw [nI_toInt hd]; omega), nI_toInt ha, nI_toInt hd, nI_toInt (Nat.lt_of_le_of_lt (Nat.div_le_self a d) ha)]
  first | rfl | exact (Int.natCast_ediv _ _).symm
theorem pk_rem {a d : Nat} (ha : a < 2 ^ 31) (h0 : 0 < d) (hd : d < 2 ^ 31) : nI a - nI a / nI d * nI d = nI (a % d) := by
  rw [pk_div ha h0 hd, pk_mul, pk_sub (Nat.div_mul_le_self a d)]
  exact congrArg nI (by have := Nat.div_add_mod' a d; omega)
theorem pk_sub_toInt {a b : Nat} (ha : a < 2 ^ 30) (hb : b < 2 ^ 30) : (nI a - nI b).toInt = (a : Int) - b := by
  rw [Int32.toInt_sub, nI_toInt (by omega), nI_toInt (by omega)]
  exact Int.bmod_eq_of_le (by omega) (by omega)
theorem pk_sneg {a b : Nat} (hb : b < 2 ^ 30) (h : a < b) : nI a - nI b < 0 := by
  rw [Int32.lt_iff_toInt_lt, pk_sub_toInt (by omega) hb, show (0 : Int32).toInt = 0 from by decide]
  omega
theorem pk_ix (x : Int32) {n : Nat} (hn : n < 2 ^ 31) : x < 0 ∨ nI n ≤ x ∨ ∃ j : Nat, j < n ∧ x = nI j := by
  by_cases h : x < 0
  · exact Or.inl h
  · obtain ⟨j, hj, rfl⟩ := nI_of h
    by_cases h2 : j < n
    · exact Or.inr (Or.inr ⟨j, h2, rfl⟩)
    · exact Or.inr (Or.inl (nI_le (by omega) hj))
theorem pk_le {x y : Int32} {A B : Prop} (a b : Nat) (f : a ≤ b → A) (g : b < a → B) (hx : x = nI a := by rfl) (hy : y = nI b := by rfl) (ha : a < 2 ^ 31 := by omega) (hb : b < 2 ^ 31 := by omega) : (x ≤ y → A) ∧ (¬ x ≤ y → B) := by
  subst hx hy
  rw [nI_leI ha hb]
  exact ⟨f, fun z => g (by omega)⟩
theorem pk_lt {x y : Int32} {A B : Prop} (a b : Nat) (f : a < b → A) (g : b ≤ a → B) (hx : x = nI a := by rfl) (hy : y = nI b := by rfl) (ha : a < 2 ^ 31 := by omega) (hb : b < 2 ^ 31 := by omega) : (x < y → A) ∧ (¬ x < y → B) := by
  subst hx hy
  rw [nI_ltI ha hb]
  exact ⟨f, fun z => g (by omega)⟩
theorem pk_eq {x y : Int32} {A B : Prop} (a b : Nat) (f : a = b → A) (g : a ≠ b → B) (hx : x = nI a := by rfl) (hy : y = nI b := by rfl) (ha : a < 2 ^ 31 := by omega) (hb : b < 2 ^ 31 := by omega) : (x = y → A) ∧ (¬ x = y → B) := by
  subst hx hy
  rw [nI_eq ha hb]
  exact ⟨f, g⟩
theorem pk_in {x : Int32} (n N : Nat) (h : n < N) (hx : x = nI n := by rfl) (hN : N < 2 ^ 31 := by omega) : vp_in x N := by
  subst hx
  exact vp_in_nI h hN
theorem pk_cl {x : Int32} (n : Nat) (hx : x = nI n := by rfl) (h : n < 2 ^ 31 := by omega) : x.toNatClampNeg = n := by
  subst hx
  exact nI_clamp h
theorem pk_tn {n : Nat} (h : n < 2 ^ 32) : (nI n).toBitVec.toNat = n := Nat.mod_eq_of_lt h
theorem pk_and (x : Int32) {m : Int32} (k : Nat) (hm : m.toBitVec.toNat = 2 ^ k - 1) : x &&& m = nI (x.toBitVec.toNat % 2 ^ k) := by
  apply Int32.toBitVec_inj.mp
  apply BitVec.eq_of_toNat_eq
  rw [Int32.toBitVec_and, BitVec.toNat_and, hm, Nat.and_two_pow_sub_one_eq_mod]
  show _ = (BitVec.ofNat 32 _).toNat
  rw [BitVec.toNat_ofNat]
  exact (Nat.mod_eq_of_lt (Nat.lt_of_le_of_lt (Nat.mod_le _ _) x.toBitVec.isLt)).symm
theorem pk_andN {n : Nat} (h : n < 2 ^ 32) {m : Int32} (k : Nat) (hm : m.toBitVec.toNat = 2 ^ k - 1) : nI n &&& m = nI (n % 2 ^ k) := by
  rw [pk_and _ k hm, pk_tn h]
theorem pk_andE (x : Int32) {m : Int32} (k : Nat) (hm : m.toBitVec.toNat = 2 ^ k - 1) : ∃ j : Nat, j < 2 ^ k ∧ x &&& m = nI j := ⟨_, Nat.mod_lt _ (Nat.two_pow_pos k), pk_and x k hm⟩
theorem pk_andIn (x : Int32) {m : Int32} (k : Nat) (hm : m.toBitVec.toNat = 2 ^ k - 1) (hk : k ≤ 30) : vp_in (x &&& m) (2 ^ k) := by
  obtain ⟨j, hj, e⟩ := pk_andE x k hm
  rw [e]
  exact vp_in_nI hj (Nat.lt_of_le_of_lt (Nat.pow_le_pow_right (by decide) hk) (by decide))
theorem pk_shl (a s : Int32) (k : Nat) (hs : (s.toBitVec.smod 32).toNat = k) : (a <<< s).toBitVec.toNat = a.toBitVec.toNat * 2 ^ k % 2 ^ 32 := by
  show (a.toBitVec <<< (s.toBitVec.smod 32).toNat).toNat = _
  rw [hs, BitVec.toNat_shiftLeft, Nat.shiftLeft_eq]
theorem pk_shlN {n : Nat} (s : Int32) (k : Nat) (hs : (s.toBitVec.smod 32).toNat = k) (h : n * 2 ^ k < 2 ^ 32) : nI n <<< s = nI (n * 2 ^ k) := by
  apply Int32.toBitVec_inj.mp
  apply BitVec.eq_of_toNat_eq
  have hn : n < 2 ^ 32 := Nat.lt_of_le_of_lt (Nat.le_mul_of_pos_right n (Nat.two_pow_pos k)) h
  rw [pk_shl _ _ k hs, pk_tn hn, pk_tn h, Nat.mod_eq_of_lt h]
theorem pk_shr (a s : Int32) (k : Nat) (hs : (s.toBitVec.smod 32).toNat = k) : (a >>> s).toInt = a.toInt >>> k := by
  show (a.toBitVec.sshiftRight (s.toBitVec.smod 32).toNat).toInt = _
  rw [hs, BitVec.toInt_sshiftRight]
  rfl
theorem pk_shrN {n : Nat} (h : n < 2 ^ 31) (s : Int32) (k : Nat) (hs : (s.toBitVec.smod 32).toNat = k) : nI n >>> s = nI (n / 2 ^ k) := by
  apply Int32.toInt_inj.mp
  have h2 : n / 2 ^ k ≤ n := Nat.div_le_self _ _
  rw [pk_shr _ _ k hs, nI_toInt h, nI_toInt (by omega), Int.shiftRight_eq_div_pow]
  rfl
theorem pk_ushr (x s : Int32) (k : Nat) (hs : ((s.toUInt32 &&& Int32.toUInt32 31).toBitVec % 32).toNat = k) : (x.toUInt32 >>> (s.toUInt32 &&& Int32.toUInt32 31)).toInt32.toBitVec.toNat = x.toBitVec.toNat / 2 ^ k := by
  have e : (x.toUInt32 >>> (s.toUInt32 &&& Int32.toUInt32 31)).toInt32.toBitVec = x.toBitVec >>> k := by
    rw [← hs]
    exact UInt32.toBitVec_shiftRight _ _
  rw [e, BitVec.toNat_ushiftRight, Nat.shiftRight_eq_div_pow]
theorem pk_ushrN {n : Nat} (hn : n < 2 ^ 32) (s : Int32) (k : Nat) (hs : ((s.toUInt32 &&& Int32.toUInt32 31).toBitVec % 32).toNat = k) : ((nI n).toUInt32 >>> (s.toUInt32 &&& Int32.toUInt32 31)).toInt32 = nI (n / 2 ^ k) := by
  apply Int32.toBitVec_inj.mp
  apply BitVec.eq_of_toNat_eq
  rw [pk_ushr _ s k hs, pk_tn hn, pk_tn (Nat.lt_of_le_of_lt (Nat.div_le_self _ _) hn)]
theorem pk_nb (z : Int32) : narrow .byte (.int z.toInt8.toInt32) = .int z.toInt8.toInt32 := congrArg Value.int (by simp)
theorem pk_ns (z : Int32) : narrow .short (.int z.toInt16.toInt32) = .int z.toInt16.toInt32 := congrArg Value.int (by simp)
theorem pk_fb (r : Int32) : fits .byte (.int r.toInt8.toInt32) = true := by
  have ⟨a, b⟩ := lg_i2b_range r
  have h1 : (-128 : Int32).toInt = -128 := by decide
  have h2 : (127 : Int32).toInt = 127 := by decide
  simp only [fits, Bool.and_eq_true, decide_eq_true_eq, Int32.le_iff_toInt_le, h1, h2]
  omega
theorem pk_fs (r : Int32) : fits .short (.int r.toInt16.toInt32) = true := by
  have ⟨a, b⟩ := lg_i2s_range r
  have h1 : (-32768 : Int32).toInt = -32768 := by decide
  have h2 : (32767 : Int32).toInt = 32767 := by decide
  simp only [fits, Bool.and_eq_true, decide_eq_true_eq, Int32.le_iff_toInt_le, h1, h2]
  omega
theorem pk_charN {q : Nat} (hq : q < 65536) : narrow .char (.int (nI q)) = .int (nI q) ∧ fits .char (.int (nI q)) = true := by
  constructor
  · have e : (nI q).toUInt32.toUInt16.toUInt32.toInt32 = nI q := by
      apply Int32.toBitVec_inj.mp
      apply BitVec.eq_of_toNat_eq
      show (nI q).toUInt32.toUInt16.toUInt32.toNat = q % 2 ^ 32
      rw [UInt16.toNat_toUInt32, UInt32.toNat_toUInt16, show (nI q).toUInt32.toNat = q % 2 ^ 32 from rfl]
      omega
    exact congrArg Value.int e
  · have a : (0 : Int32) ≤ nI q := nI_pos' (by omega)
    have b : nI q ≤ 65535 := nI_le (b := 65535) (by omega) (by decide)
    show (decide ((0 : Int32) ≤ nI q) && decide (nI q ≤ 65535)) = true
    rw [decide_eq_true a, decide_eq_true b]
    rfl
theorem pk_char (x : Int32) : (x.toUInt32 % 65536).toInt32 = nI (x.toBitVec.toNat % 65536) := by
  apply Int32.toBitVec_inj.mp
  apply BitVec.eq_of_toNat_eq
  rw [pk_tn (by omega)]
  show (x.toUInt32 % 65536).toNat = _
  rw [UInt32.toNat_mod]
  rfl
theorem pk_nc (x : Int32) : narrow .char (.int (x.toUInt32 % 65536).toInt32) = .int (x.toUInt32 % 65536).toInt32 := by
  rw [pk_char]
  exact (pk_charN (Nat.mod_lt _ (by decide))).1
theorem pk_fc (x : Int32) : fits .char (.int (x.toUInt32 % 65536).toInt32) = true := by
  rw [pk_char]
  exact (pk_charN (Nat.mod_lt _ (by decide))).2
theorem pk_vb (z : Int32) : vp_nar .byte z.toInt8.toInt32 = z.toInt8.toInt32 := by rw [vp_nar_byte]; simp
theorem pk_vs (z : Int32) : vp_nar .short z.toInt16.toInt32 = z.toInt16.toInt32 := by rw [vp_nar_short]; simp
theorem pk_vc (z : Int32) : vp_nar .char (z.toUInt32 % 65536).toInt32 = (z.toUInt32 % 65536).toInt32 := Value.int.inj (pk_nc z)
theorem pk_lT {n : Nat} (h : n < 2 ^ 63) : (lN n).toInt = (n : Int) := lg_ofNat_toInt h
theorem pk_lLT {a b : Nat} (ha : a < 2 ^ 63) (hb : b < 2 ^ 63) : lN a < lN b ↔ a < b := by
  rw [Int64.lt_iff_toInt_lt, pk_lT ha, pk_lT hb]; omega
theorem pk_lLE {a b : Nat} (ha : a < 2 ^ 63) (hb : b < 2 ^ 63) : lN a ≤ lN b ↔ a ≤ b := by
  rw [Int64.le_iff_toInt_le, pk_lT ha, pk_lT hb]; omega
theorem pk_lEQ {a b : Nat} (ha : a < 2 ^ 63) (hb : b < 2 ^ 63) : lN a = lN b ↔ a = b := by
  rw [← Int64.toInt_inj, pk_lT ha, pk_lT hb]; omega
theorem pk_lOf {x : Int64} (h : ¬ x < 0) : ∃ k : Nat, k < 2 ^ 63 ∧ x = lN k := by
  rw [Int64.lt_iff_toInt_lt] at h
  have h0 : (0 : Int64).toInt = 0 := by decide
  have hx := Int64.toInt_lt x
  refine ⟨x.toInt.toNat, by omega, Int64.toInt_inj.mp ?_⟩
  rw [pk_lT (by omega)]
  omega
theorem pk_lDiv {a b : Nat} (ha : a < 2 ^ 63) (h0 : 0 < b) (hb : b < 2 ^ 63) : lN a / lN b = lN (a / b) := by
  apply Int64.toInt_inj.mp
  rw [lg_ldiv_nonneg (by rw [pk_lT ha]; omega) (by rw [pk_lT hb]; omega), pk_lT ha, pk_lT hb, pk_lT (Nat.lt_of_le_of_lt (Nat.div_le_self a b) ha)]
  rfl
theorem pk_lRem {a b : Nat} (ha : a < 2 ^ 63) (h0 : 0 < b) (hb : b < 2 ^ 63) : lN a - lN a / lN b * lN b = lN (a % b) := by
  rw [pk_lDiv ha h0 hb, lN_mul, lN_sub (Nat.div_mul_le_self a b)]
  exact congrArg lN (by have := Nat.div_add_mod' a b; omega)
theorem pk_loop {σ : Type} (W : Nat → Nat → σ → Prop) (I : Nat → σ → Prop) (e i0 : Nat) (s : σ) (hi : i0 ≤ e) (h0 : I i0 s) (hx : ∀ n s, I e s → W (n + 1) e s)
    (hs : ∀ n i s, i < e → I i s → (∀ s', I (i + 1) s' → W n (i + 1) s') → W (n + 1) i s) : ∃ n, W n i0 s :=
  ⟨e + 1, loop_i W I e hx hs (e + 1) i0 s hi (by omega) h0⟩
theorem pk_loopD {σ : Type} (W : Nat → Nat → σ → Prop) (I : Nat → σ → Prop) (hx : ∀ n s, I 0 s → W (n + 1) 0 s)
    (hs : ∀ n i s, I (i + 1) s → (∀ s', I i s' → W n i s') → W (n + 1) (i + 1) s) : ∀ (e : Nat) (s : σ), I e s → W (e + 1) e s := by
  intro e
  induction e with
  | zero => exact fun s h => hx 0 s h
  | succ e ih => exact fun s h => hs (e + 1) e s h (fun s' h' => ih s' h')
theorem lp1 {A1 : Type} (W : Nat → A1 → Prop) (I : A1 → Prop) (μ : A1 → Nat) (hs : ∀ (n : Nat) (a1 : A1), I a1 → (∀ (b1 : A1), I b1 → μ b1 < μ a1 → W n b1) → W (n + 1) a1) (a1 : A1) (h : I a1) : ∃ n, W n a1 :=
  loop_m (σ := A1) (fun n s => W n s) (fun s => I s) (fun s => μ s) (fun n s hI hk => hs n s hI (fun b1 h9 hm => hk b1 h9 hm)) a1 h
theorem lp2 {A1 A2 : Type} (W : Nat → A1 → A2 → Prop) (I : A1 → A2 → Prop) (μ : A1 → A2 → Nat) (hs : ∀ (n : Nat) (a1 : A1) (a2 : A2), I a1 a2 → (∀ (b1 : A1) (b2 : A2), I b1 b2 → μ b1 b2 < μ a1 a2 → W n b1 b2) → W (n + 1) a1 a2) (a1 : A1) (a2 : A2) (h : I a1 a2) : ∃ n, W n a1 a2 :=
  loop_m (σ := A1 × A2) (fun n s => W n s.1 s.2) (fun s => I s.1 s.2) (fun s => μ s.1 s.2) (fun n s hI hk => hs n s.1 s.2 hI (fun b1 b2 h9 hm => hk (b1, b2) h9 hm)) (a1, a2) h
theorem lp3 {A1 A2 A3 : Type} (W : Nat → A1 → A2 → A3 → Prop) (I : A1 → A2 → A3 → Prop) (μ : A1 → A2 → A3 → Nat) (hs : ∀ (n : Nat) (a1 : A1) (a2 : A2) (a3 : A3), I a1 a2 a3 → (∀ (b1 : A1) (b2 : A2) (b3 : A3), I b1 b2 b3 → μ b1 b2 b3 < μ a1 a2 a3 → W n b1 b2 b3) → W (n + 1) a1 a2 a3) (a1 : A1) (a2 : A2) (a3 : A3) (h : I a1 a2 a3) : ∃ n, W n a1 a2 a3 :=
  loop_m (σ := A1 × A2 × A3) (fun n s => W n s.1 s.2.1 s.2.2) (fun s => I s.1 s.2.1 s.2.2) (fun s => μ s.1 s.2.1 s.2.2) (fun n s hI hk => hs n s.1 s.2.1 s.2.2 hI (fun b1 b2 b3 h9 hm => hk (b1, b2, b3) h9 hm)) (a1, a2, a3) h
theorem lp4 {A1 A2 A3 A4 : Type} (W : Nat → A1 → A2 → A3 → A4 → Prop) (I : A1 → A2 → A3 → A4 → Prop) (μ : A1 → A2 → A3 → A4 → Nat) (hs : ∀ (n : Nat) (a1 : A1) (a2 : A2) (a3 : A3) (a4 : A4), I a1 a2 a3 a4 → (∀ (b1 : A1) (b2 : A2) (b3 : A3) (b4 : A4), I b1 b2 b3 b4 → μ b1 b2 b3 b4 < μ a1 a2 a3 a4 → W n b1 b2 b3 b4) → W (n + 1) a1 a2 a3 a4) (a1 : A1) (a2 : A2) (a3 : A3) (a4 : A4) (h : I a1 a2 a3 a4) : ∃ n, W n a1 a2 a3 a4 :=
  loop_m (σ := A1 × A2 × A3 × A4) (fun n s => W n s.1 s.2.1 s.2.2.1 s.2.2.2) (fun s => I s.1 s.2.1 s.2.2.1 s.2.2.2) (fun s => μ s.1 s.2.1 s.2.2.1 s.2.2.2) (fun n s hI hk => hs n s.1 s.2.1 s.2.2.1 s.2.2.2 hI (fun b1 b2 b3 b4 h9 hm => hk (b1, b2, b3, b4) h9 hm)) (a1, a2, a3, a4) h
theorem lp5 {A1 A2 A3 A4 A5 : Type} (W : Nat → A1 → A2 → A3 → A4 → A5 → Prop) (I : A1 → A2 → A3 → A4 → A5 → Prop) (μ : A1 → A2 → A3 → A4 → A5 → Nat) (hs : ∀ (n : Nat) (a1 : A1) (a2 : A2) (a3 : A3) (a4 : A4) (a5 : A5), I a1 a2 a3 a4 a5 → (∀ (b1 : A1) (b2 : A2) (b3 : A3) (b4 : A4) (b5 : A5), I b1 b2 b3 b4 b5 → μ b1 b2 b3 b4 b5 < μ a1 a2 a3 a4 a5 → W n b1 b2 b3 b4 b5) → W (n + 1) a1 a2 a3 a4 a5) (a1 : A1) (a2 : A2) (a3 : A3) (a4 : A4) (a5 : A5) (h : I a1 a2 a3 a4 a5) : ∃ n, W n a1 a2 a3 a4 a5 :=
  loop_m (σ := A1 × A2 × A3 × A4 × A5) (fun n s => W n s.1 s.2.1 s.2.2.1 s.2.2.2.1 s.2.2.2.2) (fun s => I s.1 s.2.1 s.2.2.1 s.2.2.2.1 s.2.2.2.2) (fun s => μ s.1 s.2.1 s.2.2.1 s.2.2.2.1 s.2.2.2.2) (fun n s hI hk => hs n s.1 s.2.1 s.2.2.1 s.2.2.2.1 s.2.2.2.2 hI (fun b1 b2 b3 b4 b5 h9 hm => hk (b1, b2, b3, b4, b5) h9 hm)) (a1, a2, a3, a4, a5) h
theorem lp6 {A1 A2 A3 A4 A5 A6 : Type} (W : Nat → A1 → A2 → A3 → A4 → A5 → A6 → Prop) (I : A1 → A2 → A3 → A4 → A5 → A6 → Prop) (μ : A1 → A2 → A3 → A4 → A5 → A6 → Nat) (hs : ∀ (n : Nat) (a1 : A1) (a2 : A2) (a3 : A3) (a4 : A4) (a5 : A5) (a6 : A6), I a1 a2 a3 a4 a5 a6 → (∀ (b1 : A1) (b2 : A2) (b3 : A3) (b4 : A4) (b5 : A5) (b6 : A6), I b1 b2 b3 b4 b5 b6 → μ b1 b2 b3 b4 b5 b6 < μ a1 a2 a3 a4 a5 a6 → W n b1 b2 b3 b4 b5 b6) → W (n + 1) a1 a2 a3 a4 a5 a6) (a1 : A1) (a2 : A2) (a3 : A3) (a4 : A4) (a5 : A5) (a6 : A6) (h : I a1 a2 a3 a4 a5 a6) : ∃ n, W n a1 a2 a3 a4 a5 a6 :=
  loop_m (σ := A1 × A2 × A3 × A4 × A5 × A6) (fun n s => W n s.1 s.2.1 s.2.2.1 s.2.2.2.1 s.2.2.2.2.1 s.2.2.2.2.2) (fun s => I s.1 s.2.1 s.2.2.1 s.2.2.2.1 s.2.2.2.2.1 s.2.2.2.2.2) (fun s => μ s.1 s.2.1 s.2.2.1 s.2.2.2.1 s.2.2.2.2.1 s.2.2.2.2.2) (fun n s hI hk => hs n s.1 s.2.1 s.2.2.1 s.2.2.2.1 s.2.2.2.2.1 s.2.2.2.2.2 hI (fun b1 b2 b3 b4 b5 b6 h9 hm => hk (b1, b2, b3, b4, b5, b6) h9 hm)) (a1, a2, a3, a4, a5, a6) h
theorem lp7 {A1 A2 A3 A4 A5 A6 A7 : Type} (W : Nat → A1 → A2 → A3 → A4 → A5 → A6 → A7 → Prop) (I : A1 → A2 → A3 → A4 → A5 → A6 → A7 → Prop) (μ : A1 → A2 → A3 → A4 → A5 → A6 → A7 → Nat) (hs : ∀ (n : Nat) (a1 : A1) (a2 : A2) (a3 : A3) (a4 : A4) (a5 : A5) (a6 : A6) (a7 : A7), I a1 a2 a3 a4 a5 a6 a7 → (∀ (b1 : A1) (b2 : A2) (b3 : A3) (b4 : A4) (b5 : A5) (b6 : A6) (b7 : A7), I b1 b2 b3 b4 b5 b6 b7 → μ b1 b2 b3 b4 b5 b6 b7 < μ a1 a2 a3 a4 a5 a6 a7 → W n b1 b2 b3 b4 b5 b6 b7) → W (n + 1) a1 a2 a3 a4 a5 a6 a7) (a1 : A1) (a2 : A2) (a3 : A3) (a4 : A4) (a5 : A5) (a6 : A6) (a7 : A7) (h : I a1 a2 a3 a4 a5 a6 a7) : ∃ n, W n a1 a2 a3 a4 a5 a6 a7 :=
  loop_m (σ := A1 × A2 × A3 × A4 × A5 × A6 × A7) (fun n s => W n s.1 s.2.1 s.2.2.1 s.2.2.2.1 s.2.2.2.2.1 s.2.2.2.2.2.1 s.2.2.2.2.2.2) (fun s => I s.1 s.2.1 s.2.2.1 s.2.2.2.1 s.2.2.2.2.1 s.2.2.2.2.2.1 s.2.2.2.2.2.2) (fun s => μ s.1 s.2.1 s.2.2.1 s.2.2.2.1 s.2.2.2.2.1 s.2.2.2.2.2.1 s.2.2.2.2.2.2) (fun n s hI hk => hs n s.1 s.2.1 s.2.2.1 s.2.2.2.1 s.2.2.2.2.1 s.2.2.2.2.2.1 s.2.2.2.2.2.2 hI (fun b1 b2 b3 b4 b5 b6 b7 h9 hm => hk (b1, b2, b3, b4, b5, b6, b7) h9 hm)) (a1, a2, a3, a4, a5, a6, a7) h
theorem lp8 {A1 A2 A3 A4 A5 A6 A7 A8 : Type} (W : Nat → A1 → A2 → A3 → A4 → A5 → A6 → A7 → A8 → Prop) (I : A1 → A2 → A3 → A4 → A5 → A6 → A7 → A8 → Prop) (μ : A1 → A2 → A3 → A4 → A5 → A6 → A7 → A8 → Nat) (hs : ∀ (n : Nat) (a1 : A1) (a2 : A2) (a3 : A3) (a4 : A4) (a5 : A5) (a6 : A6) (a7 : A7) (a8 : A8), I a1 a2 a3 a4 a5 a6 a7 a8 → (∀ (b1 : A1) (b2 : A2) (b3 : A3) (b4 : A4) (b5 : A5) (b6 : A6) (b7 : A7) (b8 : A8), I b1 b2 b3 b4 b5 b6 b7 b8 → μ b1 b2 b3 b4 b5 b6 b7 b8 < μ a1 a2 a3 a4 a5 a6 a7 a8 → W n b1 b2 b3 b4 b5 b6 b7 b8) → W (n + 1) a1 a2 a3 a4 a5 a6 a7 a8) (a1 : A1) (a2 : A2) (a3 : A3) (a4 : A4) (a5 : A5) (a6 : A6) (a7 : A7) (a8 : A8) (h : I a1 a2 a3 a4 a5 a6 a7 a8) : ∃ n, W n a1 a2 a3 a4 a5 a6 a7 a8 :=
  loop_m (σ := A1 × A2 × A3 × A4 × A5 × A6 × A7 × A8) (fun n s => W n s.1 s.2.1 s.2.2.1 s.2.2.2.1 s.2.2.2.2.1 s.2.2.2.2.2.1 s.2.2.2.2.2.2.1 s.2.2.2.2.2.2.2) (fun s => I s.1 s.2.1 s.2.2.1 s.2.2.2.1 s.2.2.2.2.1 s.2.2.2.2.2.1 s.2.2.2.2.2.2.1 s.2.2.2.2.2.2.2) (fun s => μ s.1 s.2.1 s.2.2.1 s.2.2.2.1 s.2.2.2.2.1 s.2.2.2.2.2.1 s.2.2.2.2.2.2.1 s.2.2.2.2.2.2.2) (fun n s hI hk => hs n s.1 s.2.1 s.2.2.1 s.2.2.2.1 s.2.2.2.2.1 s.2.2.2.2.2.1 s.2.2.2.2.2.2.1 s.2.2.2.2.2.2.2 hI (fun b1 b2 b3 b4 b5 b6 b7 b8 h9 hm => hk (b1, b2, b3, b4, b5, b6, b7, b8) h9 hm)) (a1, a2, a3, a4, a5, a6, a7, a8) h
theorem lp9 {A1 A2 A3 A4 A5 A6 A7 A8 A9 : Type} (W : Nat → A1 → A2 → A3 → A4 → A5 → A6 → A7 → A8 → A9 → Prop) (I : A1 → A2 → A3 → A4 → A5 → A6 → A7 → A8 → A9 → Prop) (μ : A1 → A2 → A3 → A4 → A5 → A6 → A7 → A8 → A9 → Nat) (hs : ∀ (n : Nat) (a1 : A1) (a2 : A2) (a3 : A3) (a4 : A4) (a5 : A5) (a6 : A6) (a7 : A7) (a8 : A8) (a9 : A9), I a1 a2 a3 a4 a5 a6 a7 a8 a9 → (∀ (b1 : A1) (b2 : A2) (b3 : A3) (b4 : A4) (b5 : A5) (b6 : A6) (b7 : A7) (b8 : A8) (b9 : A9), I b1 b2 b3 b4 b5 b6 b7 b8 b9 → μ b1 b2 b3 b4 b5 b6 b7 b8 b9 < μ a1 a2 a3 a4 a5 a6 a7 a8 a9 → W n b1 b2 b3 b4 b5 b6 b7 b8 b9) → W (n + 1) a1 a2 a3 a4 a5 a6 a7 a8 a9) (a1 : A1) (a2 : A2) (a3 : A3) (a4 : A4) (a5 : A5) (a6 : A6) (a7 : A7) (a8 : A8) (a9 : A9) (h : I a1 a2 a3 a4 a5 a6 a7 a8 a9) : ∃ n, W n a1 a2 a3 a4 a5 a6 a7 a8 a9 :=
  loop_m (σ := A1 × A2 × A3 × A4 × A5 × A6 × A7 × A8 × A9) (fun n s => W n s.1 s.2.1 s.2.2.1 s.2.2.2.1 s.2.2.2.2.1 s.2.2.2.2.2.1 s.2.2.2.2.2.2.1 s.2.2.2.2.2.2.2.1 s.2.2.2.2.2.2.2.2) (fun s => I s.1 s.2.1 s.2.2.1 s.2.2.2.1 s.2.2.2.2.1 s.2.2.2.2.2.1 s.2.2.2.2.2.2.1 s.2.2.2.2.2.2.2.1 s.2.2.2.2.2.2.2.2) (fun s => μ s.1 s.2.1 s.2.2.1 s.2.2.2.1 s.2.2.2.2.1 s.2.2.2.2.2.1 s.2.2.2.2.2.2.1 s.2.2.2.2.2.2.2.1 s.2.2.2.2.2.2.2.2) (fun n s hI hk => hs n s.1 s.2.1 s.2.2.1 s.2.2.2.1 s.2.2.2.2.1 s.2.2.2.2.2.1 s.2.2.2.2.2.2.1 s.2.2.2.2.2.2.2.1 s.2.2.2.2.2.2.2.2 hI (fun b1 b2 b3 b4 b5 b6 b7 b8 b9 h9 hm => hk (b1, b2, b3, b4, b5, b6, b7, b8, b9) h9 hm)) (a1, a2, a3, a4, a5, a6, a7, a8, a9) h
theorem lp10 {A1 A2 A3 A4 A5 A6 A7 A8 A9 A10 : Type} (W : Nat → A1 → A2 → A3 → A4 → A5 → A6 → A7 → A8 → A9 → A10 → Prop) (I : A1 → A2 → A3 → A4 → A5 → A6 → A7 → A8 → A9 → A10 → Prop) (μ : A1 → A2 → A3 → A4 → A5 → A6 → A7 → A8 → A9 → A10 → Nat) (hs : ∀ (n : Nat) (a1 : A1) (a2 : A2) (a3 : A3) (a4 : A4) (a5 : A5) (a6 : A6) (a7 : A7) (a8 : A8) (a9 : A9) (a10 : A10), I a1 a2 a3 a4 a5 a6 a7 a8 a9 a10 → (∀ (b1 : A1) (b2 : A2) (b3 : A3) (b4 : A4) (b5 : A5) (b6 : A6) (b7 : A7) (b8 : A8) (b9 : A9) (b10 : A10), I b1 b2 b3 b4 b5 b6 b7 b8 b9 b10 → μ b1 b2 b3 b4 b5 b6 b7 b8 b9 b10 < μ a1 a2 a3 a4 a5 a6 a7 a8 a9 a10 → W n b1 b2 b3 b4 b5 b6 b7 b8 b9 b10) → W (n + 1) a1 a2 a3 a4 a5 a6 a7 a8 a9 a10) (a1 : A1) (a2 : A2) (a3 : A3) (a4 : A4) (a5 : A5) (a6 : A6) (a7 : A7) (a8 : A8) (a9 : A9) (a10 : A10) (h : I a1 a2 a3 a4 a5 a6 a7 a8 a9 a10) : ∃ n, W n a1 a2 a3 a4 a5 a6 a7 a8 a9 a10 :=
  loop_m (σ := A1 × A2 × A3 × A4 × A5 × A6 × A7 × A8 × A9 × A10) (fun n s => W n s.1 s.2.1 s.2.2.1 s.2.2.2.1 s.2.2.2.2.1 s.2.2.2.2.2.1 s.2.2.2.2.2.2.1 s.2.2.2.2.2.2.2.1 s.2.2.2.2.2.2.2.2.1 s.2.2.2.2.2.2.2.2.2) (fun s => I s.1 s.2.1 s.2.2.1 s.2.2.2.1 s.2.2.2.2.1 s.2.2.2.2.2.1 s.2.2.2.2.2.2.1 s.2.2.2.2.2.2.2.1 s.2.2.2.2.2.2.2.2.1 s.2.2.2.2.2.2.2.2.2) (fun s => μ s.1 s.2.1 s.2.2.1 s.2.2.2.1 s.2.2.2.2.1 s.2.2.2.2.2.1 s.2.2.2.2.2.2.1 s.2.2.2.2.2.2.2.1 s.2.2.2.2.2.2.2.2.1 s.2.2.2.2.2.2.2.2.2) (fun n s hI hk => hs n s.1 s.2.1 s.2.2.1 s.2.2.2.1 s.2.2.2.2.1 s.2.2.2.2.2.1 s.2.2.2.2.2.2.1 s.2.2.2.2.2.2.2.1 s.2.2.2.2.2.2.2.2.1 s.2.2.2.2.2.2.2.2.2 hI (fun b1 b2 b3 b4 b5 b6 b7 b8 b9 b10 h9 hm => hk (b1, b2, b3, b4, b5, b6, b7, b8, b9, b10) h9 hm)) (a1, a2, a3, a4, a5, a6, a7, a8, a9, a10) h
theorem lp11 {A1 A2 A3 A4 A5 A6 A7 A8 A9 A10 A11 : Type} (W : Nat → A1 → A2 → A3 → A4 → A5 → A6 → A7 → A8 → A9 → A10 → A11 → Prop) (I : A1 → A2 → A3 → A4 → A5 → A6 → A7 → A8 → A9 → A10 → A11 → Prop) (μ : A1 → A2 → A3 → A4 → A5 → A6 → A7 → A8 → A9 → A10 → A11 → Nat) (hs : ∀ (n : Nat) (a1 : A1) (a2 : A2) (a3 : A3) (a4 : A4) (a5 : A5) (a6 : A6) (a7 : A7) (a8 : A8) (a9 : A9) (a10 : A10) (a11 : A11), I a1 a2 a3 a4 a5 a6 a7 a8 a9 a10 a11 → (∀ (b1 : A1) (b2 : A2) (b3 : A3) (b4 : A4) (b5 : A5) (b6 : A6) (b7 : A7) (b8 : A8) (b9 : A9) (b10 : A10) (b11 : A11), I b1 b2 b3 b4 b5 b6 b7 b8 b9 b10 b11 → μ b1 b2 b3 b4 b5 b6 b7 b8 b9 b10 b11 < μ a1 a2 a3 a4 a5 a6 a7 a8 a9 a10 a11 → W n b1 b2 b3 b4 b5 b6 b7 b8 b9 b10 b11) → W (n + 1) a1 a2 a3 a4 a5 a6 a7 a8 a9 a10 a11) (a1 : A1) (a2 : A2) (a3 : A3) (a4 : A4) (a5 : A5) (a6 : A6) (a7 : A7) (a8 : A8) (a9 : A9) (a10 : A10) (a11 : A11) (h : I a1 a2 a3 a4 a5 a6 a7 a8 a9 a10 a11) : ∃ n, W n a1 a2 a3 a4 a5 a6 a7 a8 a9 a10 a11 :=
  loop_m (σ := A1 × A2 × A3 × A4 × A5 × A6 × A7 × A8 × A9 × A10 × A11) (fun n s => W n s.1 s.2.1 s.2.2.1 s.2.2.2.1 s.2.2.2.2.1 s.2.2.2.2.2.1 s.2.2.2.2.2.2.1 s.2.2.2.2.2.2.2.1 s.2.2.2.2.2.2.2.2.1 s.2.2.2.2.2.2.2.2.2.1 s.2.2.2.2.2.2.2.2.2.2) (fun s => I s.1 s.2.1 s.2.2.1 s.2.2.2.1 s.2.2.2.2.1 s.2.2.2.2.2.1 s.2.2.2.2.2.2.1 s.2.2.2.2.2.2.2.1 s.2.2.2.2.2.2.2.2.1 s.2.2.2.2.2.2.2.2.2.1 s.2.2.2.2.2.2.2.2.2.2) (fun s => μ s.1 s.2.1 s.2.2.1 s.2.2.2.1 s.2.2.2.2.1 s.2.2.2.2.2.1 s.2.2.2.2.2.2.1 s.2.2.2.2.2.2.2.1 s.2.2.2.2.2.2.2.2.1 s.2.2.2.2.2.2.2.2.2.1 s.2.2.2.2.2.2.2.2.2.2) (fun n s hI hk => hs n s.1 s.2.1 s.2.2.1 s.2.2.2.1 s.2.2.2.2.1 s.2.2.2.2.2.1 s.2.2.2.2.2.2.1 s.2.2.2.2.2.2.2.1 s.2.2.2.2.2.2.2.2.1 s.2.2.2.2.2.2.2.2.2.1 s.2.2.2.2.2.2.2.2.2.2 hI (fun b1 b2 b3 b4 b5 b6 b7 b8 b9 b10 b11 h9 hm => hk (b1, b2, b3, b4, b5, b6, b7, b8, b9, b10, b11) h9 hm)) (a1, a2, a3, a4, a5, a6, a7, a8, a9, a10, a11) h
theorem lp12 {A1 A2 A3 A4 A5 A6 A7 A8 A9 A10 A11 A12 : Type} (W : Nat → A1 → A2 → A3 → A4 → A5 → A6 → A7 → A8 → A9 → A10 → A11 → A12 → Prop) (I : A1 → A2 → A3 → A4 → A5 → A6 → A7 → A8 → A9 → A10 → A11 → A12 → Prop) (μ : A1 → A2 → A3 → A4 → A5 → A6 → A7 → A8 → A9 → A10 → A11 → A12 → Nat) (hs : ∀ (n : Nat) (a1 : A1) (a2 : A2) (a3 : A3) (a4 : A4) (a5 : A5) (a6 : A6) (a7 : A7) (a8 : A8) (a9 : A9) (a10 : A10) (a11 : A11) (a12 : A12), I a1 a2 a3 a4 a5 a6 a7 a8 a9 a10 a11 a12 → (∀ (b1 : A1) (b2 : A2) (b3 : A3) (b4 : A4) (b5 : A5) (b6 : A6) (b7 : A7) (b8 : A8) (b9 : A9) (b10 : A10) (b11 : A11) (b12 : A12), I b1 b2 b3 b4 b5 b6 b7 b8 b9 b10 b11 b12 → μ b1 b2 b3 b4 b5 b6 b7 b8 b9 b10 b11 b12 < μ a1 a2 a3 a4 a5 a6 a7 a8 a9 a10 a11 a12 → W n b1 b2 b3 b4 b5 b6 b7 b8 b9 b10 b11 b12) → W (n + 1) a1 a2 a3 a4 a5 a6 a7 a8 a9 a10 a11 a12) (a1 : A1) (a2 : A2) (a3 : A3) (a4 : A4) (a5 : A5) (a6 : A6) (a7 : A7) (a8 : A8) (a9 : A9) (a10 : A10) (a11 : A11) (a12 : A12) (h : I a1 a2 a3 a4 a5 a6 a7 a8 a9 a10 a11 a12) : ∃ n, W n a1 a2 a3 a4 a5 a6 a7 a8 a9 a10 a11 a12 :=
  loop_m (σ := A1 × A2 × A3 × A4 × A5 × A6 × A7 × A8 × A9 × A10 × A11 × A12) (fun n s => W n s.1 s.2.1 s.2.2.1 s.2.2.2.1 s.2.2.2.2.1 s.2.2.2.2.2.1 s.2.2.2.2.2.2.1 s.2.2.2.2.2.2.2.1 s.2.2.2.2.2.2.2.2.1 s.2.2.2.2.2.2.2.2.2.1 s.2.2.2.2.2.2.2.2.2.2.1 s.2.2.2.2.2.2.2.2.2.2.2) (fun s => I s.1 s.2.1 s.2.2.1 s.2.2.2.1 s.2.2.2.2.1 s.2.2.2.2.2.1 s.2.2.2.2.2.2.1 s.2.2.2.2.2.2.2.1 s.2.2.2.2.2.2.2.2.1 s.2.2.2.2.2.2.2.2.2.1 s.2.2.2.2.2.2.2.2.2.2.1 s.2.2.2.2.2.2.2.2.2.2.2) (fun s => μ s.1 s.2.1 s.2.2.1 s.2.2.2.1 s.2.2.2.2.1 s.2.2.2.2.2.1 s.2.2.2.2.2.2.1 s.2.2.2.2.2.2.2.1 s.2.2.2.2.2.2.2.2.1 s.2.2.2.2.2.2.2.2.2.1 s.2.2.2.2.2.2.2.2.2.2.1 s.2.2.2.2.2.2.2.2.2.2.2) (fun n s hI hk => hs n s.1 s.2.1 s.2.2.1 s.2.2.2.1 s.2.2.2.2.1 s.2.2.2.2.2.1 s.2.2.2.2.2.2.1 s.2.2.2.2.2.2.2.1 s.2.2.2.2.2.2.2.2.1 s.2.2.2.2.2.2.2.2.2.1 s.2.2.2.2.2.2.2.2.2.2.1 s.2.2.2.2.2.2.2.2.2.2.2 hI (fun b1 b2 b3 b4 b5 b6 b7 b8 b9 b10 b11 b12 h9 hm => hk (b1, b2, b3, b4, b5, b6, b7, b8, b9, b10, b11, b12) h9 hm)) (a1, a2, a3, a4, a5, a6, a7, a8, a9, a10, a11, a12) h
theorem lp13 {A1 A2 A3 A4 A5 A6 A7 A8 A9 A10 A11 A12 A13 : Type} (W : Nat → A1 → A2 → A3 → A4 → A5 → A6 → A7 → A8 → A9 → A10 → A11 → A12 → A13 → Prop) (I : A1 → A2 → A3 → A4 → A5 → A6 → A7 → A8 → A9 → A10 → A11 → A12 → A13 → Prop) (μ : A1 → A2 → A3 → A4 → A5 → A6 → A7 → A8 → A9 → A10 → A11 → A12 → A13 → Nat) (hs : ∀ (n : Nat) (a1 : A1) (a2 : A2) (a3 : A3) (a4 : A4) (a5 : A5) (a6 : A6) (a7 : A7) (a8 : A8) (a9 : A9) (a10 : A10) (a11 : A11) (a12 : A12) (a13 : A13), I a1 a2 a3 a4 a5 a6 a7 a8 a9 a10 a11 a12 a13 → (∀ (b1 : A1) (b2 : A2) (b3 : A3) (b4 : A4) (b5 : A5) (b6 : A6) (b7 : A7) (b8 : A8) (b9 : A9) (b10 : A10) (b11 : A11) (b12 : A12) (b13 : A13), I b1 b2 b3 b4 b5 b6 b7 b8 b9 b10 b11 b12 b13 → μ b1 b2 b3 b4 b5 b6 b7 b8 b9 b10 b11 b12 b13 < μ a1 a2 a3 a4 a5 a6 a7 a8 a9 a10 a11 a12 a13 → W n b1 b2 b3 b4 b5 b6 b7 b8 b9 b10 b11 b12 b13) → W (n + 1) a1 a2 a3 a4 a5 a6 a7 a8 a9 a10 a11 a12 a13) (a1 : A1) (a2 : A2) (a3 : A3) (a4 : A4) (a5 : A5) (a6 : A6) (a7 : A7) (a8 : A8) (a9 : A9) (a10 : A10) (a11 : A11) (a12 : A12) (a13 : A13) (h : I a1 a2 a3 a4 a5 a6 a7 a8 a9 a10 a11 a12 a13) : ∃ n, W n a1 a2 a3 a4 a5 a6 a7 a8 a9 a10 a11 a12 a13 :=
  loop_m (σ := A1 × A2 × A3 × A4 × A5 × A6 × A7 × A8 × A9 × A10 × A11 × A12 × A13) (fun n s => W n s.1 s.2.1 s.2.2.1 s.2.2.2.1 s.2.2.2.2.1 s.2.2.2.2.2.1 s.2.2.2.2.2.2.1 s.2.2.2.2.2.2.2.1 s.2.2.2.2.2.2.2.2.1 s.2.2.2.2.2.2.2.2.2.1 s.2.2.2.2.2.2.2.2.2.2.1 s.2.2.2.2.2.2.2.2.2.2.2.1 s.2.2.2.2.2.2.2.2.2.2.2.2) (fun s => I s.1 s.2.1 s.2.2.1 s.2.2.2.1 s.2.2.2.2.1 s.2.2.2.2.2.1 s.2.2.2.2.2.2.1 s.2.2.2.2.2.2.2.1 s.2.2.2.2.2.2.2.2.1 s.2.2.2.2.2.2.2.2.2.1 s.2.2.2.2.2.2.2.2.2.2.1 s.2.2.2.2.2.2.2.2.2.2.2.1 s.2.2.2.2.2.2.2.2.2.2.2.2) (fun s => μ s.1 s.2.1 s.2.2.1 s.2.2.2.1 s.2.2.2.2.1 s.2.2.2.2.2.1 s.2.2.2.2.2.2.1 s.2.2.2.2.2.2.2.1 s.2.2.2.2.2.2.2.2.1 s.2.2.2.2.2.2.2.2.2.1 s.2.2.2.2.2.2.2.2.2.2.1 s.2.2.2.2.2.2.2.2.2.2.2.1 s.2.2.2.2.2.2.2.2.2.2.2.2) (fun n s hI hk => hs n s.1 s.2.1 s.2.2.1 s.2.2.2.1 s.2.2.2.2.1 s.2.2.2.2.2.1 s.2.2.2.2.2.2.1 s.2.2.2.2.2.2.2.1 s.2.2.2.2.2.2.2.2.1 s.2.2.2.2.2.2.2.2.2.1 s.2.2.2.2.2.2.2.2.2.2.1 s.2.2.2.2.2.2.2.2.2.2.2.1 s.2.2.2.2.2.2.2.2.2.2.2.2 hI (fun b1 b2 b3 b4 b5 b6 b7 b8 b9 b10 b11 b12 b13 h9 hm => hk (b1, b2, b3, b4, b5, b6, b7, b8, b9, b10, b11, b12, b13) h9 hm)) (a1, a2, a3, a4, a5, a6, a7, a8, a9, a10, a11, a12, a13) h
theorem lp14 {A1 A2 A3 A4 A5 A6 A7 A8 A9 A10 A11 A12 A13 A14 : Type} (W : Nat → A1 → A2 → A3 → A4 → A5 → A6 → A7 → A8 → A9 → A10 → A11 → A12 → A13 → A14 → Prop) (I : A1 → A2 → A3 → A4 → A5 → A6 → A7 → A8 → A9 → A10 → A11 → A12 → A13 → A14 → Prop) (μ : A1 → A2 → A3 → A4 → A5 → A6 → A7 → A8 → A9 → A10 → A11 → A12 → A13 → A14 → Nat) (hs : ∀ (n : Nat) (a1 : A1) (a2 : A2) (a3 : A3) (a4 : A4) (a5 : A5) (a6 : A6) (a7 : A7) (a8 : A8) (a9 : A9) (a10 : A10) (a11 : A11) (a12 : A12) (a13 : A13) (a14 : A14), I a1 a2 a3 a4 a5 a6 a7 a8 a9 a10 a11 a12 a13 a14 → (∀ (b1 : A1) (b2 : A2) (b3 : A3) (b4 : A4) (b5 : A5) (b6 : A6) (b7 : A7) (b8 : A8) (b9 : A9) (b10 : A10) (b11 : A11) (b12 : A12) (b13 : A13) (b14 : A14), I b1 b2 b3 b4 b5 b6 b7 b8 b9 b10 b11 b12 b13 b14 → μ b1 b2 b3 b4 b5 b6 b7 b8 b9 b10 b11 b12 b13 b14 < μ a1 a2 a3 a4 a5 a6 a7 a8 a9 a10 a11 a12 a13 a14 → W n b1 b2 b3 b4 b5 b6 b7 b8 b9 b10 b11 b12 b13 b14) → W (n + 1) a1 a2 a3 a4 a5 a6 a7 a8 a9 a10 a11 a12 a13 a14) (a1 : A1) (a2 : A2) (a3 : A3) (a4 : A4) (a5 : A5) (a6 : A6) (a7 : A7) (a8 : A8) (a9 : A9) (a10 : A10) (a11 : A11) (a12 : A12) (a13 : A13) (a14 : A14) (h : I a1 a2 a3 a4 a5 a6 a7 a8 a9 a10 a11 a12 a13 a14) : ∃ n, W n a1 a2 a3 a4 a5 a6 a7 a8 a9 a10 a11 a12 a13 a14 :=
  loop_m (σ := A1 × A2 × A3 × A4 × A5 × A6 × A7 × A8 × A9 × A10 × A11 × A12 × A13 × A14) (fun n s => W n s.1 s.2.1 s.2.2.1 s.2.2.2.1 s.2.2.2.2.1 s.2.2.2.2.2.1 s.2.2.2.2.2.2.1 s.2.2.2.2.2.2.2.1 s.2.2.2.2.2.2.2.2.1 s.2.2.2.2.2.2.2.2.2.1 s.2.2.2.2.2.2.2.2.2.2.1 s.2.2.2.2.2.2.2.2.2.2.2.1 s.2.2.2.2.2.2.2.2.2.2.2.2.1 s.2.2.2.2.2.2.2.2.2.2.2.2.2) (fun s => I s.1 s.2.1 s.2.2.1 s.2.2.2.1 s.2.2.2.2.1 s.2.2.2.2.2.1 s.2.2.2.2.2.2.1 s.2.2.2.2.2.2.2.1 s.2.2.2.2.2.2.2.2.1 s.2.2.2.2.2.2.2.2.2.1 s.2.2.2.2.2.2.2.2.2.2.1 s.2.2.2.2.2.2.2.2.2.2.2.1 s.2.2.2.2.2.2.2.2.2.2.2.2.1 s.2.2.2.2.2.2.2.2.2.2.2.2.2) (fun s => μ s.1 s.2.1 s.2.2.1 s.2.2.2.1 s.2.2.2.2.1 s.2.2.2.2.2.1 s.2.2.2.2.2.2.1 s.2.2.2.2.2.2.2.1 s.2.2.2.2.2.2.2.2.1 s.2.2.2.2.2.2.2.2.2.1 s.2.2.2.2.2.2.2.2.2.2.1 s.2.2.2.2.2.2.2.2.2.2.2.1 s.2.2.2.2.2.2.2.2.2.2.2.2.1 s.2.2.2.2.2.2.2.2.2.2.2.2.2) (fun n s hI hk => hs n s.1 s.2.1 s.2.2.1 s.2.2.2.1 s.2.2.2.2.1 s.2.2.2.2.2.1 s.2.2.2.2.2.2.1 s.2.2.2.2.2.2.2.1 s.2.2.2.2.2.2.2.2.1 s.2.2.2.2.2.2.2.2.2.1 s.2.2.2.2.2.2.2.2.2.2.1 s.2.2.2.2.2.2.2.2.2.2.2.1 s.2.2.2.2.2.2.2.2.2.2.2.2.1 s.2.2.2.2.2.2.2.2.2.2.2.2.2 hI (fun b1 b2 b3 b4 b5 b6 b7 b8 b9 b10 b11 b12 b13 b14 h9 hm => hk (b1, b2, b3, b4, b5, b6, b7, b8, b9, b10, b11, b12, b13, b14) h9 hm)) (a1, a2, a3, a4, a5, a6, a7, a8, a9, a10, a11, a12, a13, a14) h
theorem lp15 {A1 A2 A3 A4 A5 A6 A7 A8 A9 A10 A11 A12 A13 A14 A15 : Type} (W : Nat → A1 → A2 → A3 → A4 → A5 → A6 → A7 → A8 → A9 → A10 → A11 → A12 → A13 → A14 → A15 → Prop) (I : A1 → A2 → A3 → A4 → A5 → A6 → A7 → A8 → A9 → A10 → A11 → A12 → A13 → A14 → A15 → Prop) (μ : A1 → A2 → A3 → A4 → A5 → A6 → A7 → A8 → A9 → A10 → A11 → A12 → A13 → A14 → A15 → Nat) (hs : ∀ (n : Nat) (a1 : A1) (a2 : A2) (a3 : A3) (a4 : A4) (a5 : A5) (a6 : A6) (a7 : A7) (a8 : A8) (a9 : A9) (a10 : A10) (a11 : A11) (a12 : A12) (a13 : A13) (a14 : A14) (a15 : A15), I a1 a2 a3 a4 a5 a6 a7 a8 a9 a10 a11 a12 a13 a14 a15 → (∀ (b1 : A1) (b2 : A2) (b3 : A3) (b4 : A4) (b5 : A5) (b6 : A6) (b7 : A7) (b8 : A8) (b9 : A9) (b10 : A10) (b11 : A11) (b12 : A12) (b13 : A13) (b14 : A14) (b15 : A15), I b1 b2 b3 b4 b5 b6 b7 b8 b9 b10 b11 b12 b13 b14 b15 → μ b1 b2 b3 b4 b5 b6 b7 b8 b9 b10 b11 b12 b13 b14 b15 < μ a1 a2 a3 a4 a5 a6 a7 a8 a9 a10 a11 a12 a13 a14 a15 → W n b1 b2 b3 b4 b5 b6 b7 b8 b9 b10 b11 b12 b13 b14 b15) → W (n + 1) a1 a2 a3 a4 a5 a6 a7 a8 a9 a10 a11 a12 a13 a14 a15) (a1 : A1) (a2 : A2) (a3 : A3) (a4 : A4) (a5 : A5) (a6 : A6) (a7 : A7) (a8 : A8) (a9 : A9) (a10 : A10) (a11 : A11) (a12 : A12) (a13 : A13) (a14 : A14) (a15 : A15) (h : I a1 a2 a3 a4 a5 a6 a7 a8 a9 a10 a11 a12 a13 a14 a15) : ∃ n, W n a1 a2 a3 a4 a5 a6 a7 a8 a9 a10 a11 a12 a13 a14 a15 :=
  loop_m (σ := A1 × A2 × A3 × A4 × A5 × A6 × A7 × A8 × A9 × A10 × A11 × A12 × A13 × A14 × A15) (fun n s => W n s.1 s.2.1 s.2.2.1 s.2.2.2.1 s.2.2.2.2.1 s.2.2.2.2.2.1 s.2.2.2.2.2.2.1 s.2.2.2.2.2.2.2.1 s.2.2.2.2.2.2.2.2.1 s.2.2.2.2.2.2.2.2.2.1 s.2.2.2.2.2.2.2.2.2.2.1 s.2.2.2.2.2.2.2.2.2.2.2.1 s.2.2.2.2.2.2.2.2.2.2.2.2.1 s.2.2.2.2.2.2.2.2.2.2.2.2.2.1 s.2.2.2.2.2.2.2.2.2.2.2.2.2.2) (fun s => I s.1 s.2.1 s.2.2.1 s.2.2.2.1 s.2.2.2.2.1 s.2.2.2.2.2.1 s.2.2.2.2.2.2.1 s.2.2.2.2.2.2.2.1 s.2.2.2.2.2.2.2.2.1 s.2.2.2.2.2.2.2.2.2.1 s.2.2.2.2.2.2.2.2.2.2.1 s.2.2.2.2.2.2.2.2.2.2.2.1 s.2.2.2.2.2.2.2.2.2.2.2.2.1 s.2.2.2.2.2.2.2.2.2.2.2.2.2.1 s.2.2.2.2.2.2.2.2.2.2.2.2.2.2) (fun s => μ s.1 s.2.1 s.2.2.1 s.2.2.2.1 s.2.2.2.2.1 s.2.2.2.2.2.1 s.2.2.2.2.2.2.1 s.2.2.2.2.2.2.2.1 s.2.2.2.2.2.2.2.2.1 s.2.2.2.2.2.2.2.2.2.1 s.2.2.2.2.2.2.2.2.2.2.1 s.2.2.2.2.2.2.2.2.2.2.2.1 s.2.2.2.2.2.2.2.2.2.2.2.2.1 s.2.2.2.2.2.2.2.2.2.2.2.2.2.1 s.2.2.2.2.2.2.2.2.2.2.2.2.2.2) (fun n s hI hk => hs n s.1 s.2.1 s.2.2.1 s.2.2.2.1 s.2.2.2.2.1 s.2.2.2.2.2.1 s.2.2.2.2.2.2.1 s.2.2.2.2.2.2.2.1 s.2.2.2.2.2.2.2.2.1 s.2.2.2.2.2.2.2.2.2.1 s.2.2.2.2.2.2.2.2.2.2.1 s.2.2.2.2.2.2.2.2.2.2.2.1 s.2.2.2.2.2.2.2.2.2.2.2.2.1 s.2.2.2.2.2.2.2.2.2.2.2.2.2.1 s.2.2.2.2.2.2.2.2.2.2.2.2.2.2 hI (fun b1 b2 b3 b4 b5 b6 b7 b8 b9 b10 b11 b12 b13 b14 b15 h9 hm => hk (b1, b2, b3, b4, b5, b6, b7, b8, b9, b10, b11, b12, b13, b14, b15) h9 hm)) (a1, a2, a3, a4, a5, a6, a7, a8, a9, a10, a11, a12, a13, a14, a15) h
theorem lp16 {A1 A2 A3 A4 A5 A6 A7 A8 A9 A10 A11 A12 A13 A14 A15 A16 : Type} (W : Nat → A1 → A2 → A3 → A4 → A5 → A6 → A7 → A8 → A9 → A10 → A11 → A12 → A13 → A14 → A15 → A16 → Prop) (I : A1 → A2 → A3 → A4 → A5 → A6 → A7 → A8 → A9 → A10 → A11 → A12 → A13 → A14 → A15 → A16 → Prop) (μ : A1 → A2 → A3 → A4 → A5 → A6 → A7 → A8 → A9 → A10 → A11 → A12 → A13 → A14 → A15 → A16 → Nat) (hs : ∀ (n : Nat) (a1 : A1) (a2 : A2) (a3 : A3) (a4 : A4) (a5 : A5) (a6 : A6) (a7 : A7) (a8 : A8) (a9 : A9) (a10 : A10) (a11 : A11) (a12 : A12) (a13 : A13) (a14 : A14) (a15 : A15) (a16 : A16), I a1 a2 a3 a4 a5 a6 a7 a8 a9 a10 a11 a12 a13 a14 a15 a16 → (∀ (b1 : A1) (b2 : A2) (b3 : A3) (b4 : A4) (b5 : A5) (b6 : A6) (b7 : A7) (b8 : A8) (b9 : A9) (b10 : A10) (b11 : A11) (b12 : A12) (b13 : A13) (b14 : A14) (b15 : A15) (b16 : A16), I b1 b2 b3 b4 b5 b6 b7 b8 b9 b10 b11 b12 b13 b14 b15 b16 → μ b1 b2 b3 b4 b5 b6 b7 b8 b9 b10 b11 b12 b13 b14 b15 b16 < μ a1 a2 a3 a4 a5 a6 a7 a8 a9 a10 a11 a12 a13 a14 a15 a16 → W n b1 b2 b3 b4 b5 b6 b7 b8 b9 b10 b11 b12 b13 b14 b15 b16) → W (n + 1) a1 a2 a3 a4 a5 a6 a7 a8 a9 a10 a11 a12 a13 a14 a15 a16) (a1 : A1) (a2 : A2) (a3 : A3) (a4 : A4) (a5 : A5) (a6 : A6) (a7 : A7) (a8 : A8) (a9 : A9) (a10 : A10) (a11 : A11) (a12 : A12) (a13 : A13) (a14 : A14) (a15 : A15) (a16 : A16) (h : I a1 a2 a3 a4 a5 a6 a7 a8 a9 a10 a11 a12 a13 a14 a15 a16) : ∃ n, W n a1 a2 a3 a4 a5 a6 a7 a8 a9 a10 a11 a12 a13 a14 a15 a16 :=
  loop_m (σ := A1 × A2 × A3 × A4 × A5 × A6 × A7 × A8 × A9 × A10 × A11 × A12 × A13 × A14 × A15 × A16) (fun n s => W n s.1 s.2.1 s.2.2.1 s.2.2.2.1 s.2.2.2.2.1 s.2.2.2.2.2.1 s.2.2.2.2.2.2.1 s.2.2.2.2.2.2.2.1 s.2.2.2.2.2.2.2.2.1 s.2.2.2.2.2.2.2.2.2.1 s.2.2.2.2.2.2.2.2.2.2.1 s.2.2.2.2.2.2.2.2.2.2.2.1 s.2.2.2.2.2.2.2.2.2.2.2.2.1 s.2.2.2.2.2.2.2.2.2.2.2.2.2.1 s.2.2.2.2.2.2.2.2.2.2.2.2.2.2.1 s.2.2.2.2.2.2.2.2.2.2.2.2.2.2.2) (fun s => I s.1 s.2.1 s.2.2.1 s.2.2.2.1 s.2.2.2.2.1 s.2.2.2.2.2.1 s.2.2.2.2.2.2.1 s.2.2.2.2.2.2.2.1 s.2.2.2.2.2.2.2.2.1 s.2.2.2.2.2.2.2.2.2.1 s.2.2.2.2.2.2.2.2.2.2.1 s.2.2.2.2.2.2.2.2.2.2.2.1 s.2.2.2.2.2.2.2.2.2.2.2.2.1 s.2.2.2.2.2.2.2.2.2.2.2.2.2.1 s.2.2.2.2.2.2.2.2.2.2.2.2.2.2.1 s.2.2.2.2.2.2.2.2.2.2.2.2.2.2.2) (fun s => μ s.1 s.2.1 s.2.2.1 s.2.2.2.1 s.2.2.2.2.1 s.2.2.2.2.2.1 s.2.2.2.2.2.2.1 s.2.2.2.2.2.2.2.1 s.2.2.2.2.2.2.2.2.1 s.2.2.2.2.2.2.2.2.2.1 s.2.2.2.2.2.2.2.2.2.2.1 s.2.2.2.2.2.2.2.2.2.2.2.1 s.2.2.2.2.2.2.2.2.2.2.2.2.1 s.2.2.2.2.2.2.2.2.2.2.2.2.2.1 s.2.2.2.2.2.2.2.2.2.2.2.2.2.2.1 s.2.2.2.2.2.2.2.2.2.2.2.2.2.2.2) (fun n s hI hk => hs n s.1 s.2.1 s.2.2.1 s.2.2.2.1 s.2.2.2.2.1 s.2.2.2.2.2.1 s.2.2.2.2.2.2.1 s.2.2.2.2.2.2.2.1 s.2.2.2.2.2.2.2.2.1 s.2.2.2.2.2.2.2.2.2.1 s.2.2.2.2.2.2.2.2.2.2.1 s.2.2.2.2.2.2.2.2.2.2.2.1 s.2.2.2.2.2.2.2.2.2.2.2.2.1 s.2.2.2.2.2.2.2.2.2.2.2.2.2.1 s.2.2.2.2.2.2.2.2.2.2.2.2.2.2.1 s.2.2.2.2.2.2.2.2.2.2.2.2.2.2.2 hI (fun b1 b2 b3 b4 b5 b6 b7 b8 b9 b10 b11 b12 b13 b14 b15 b16 h9 hm => hk (b1, b2, b3, b4, b5, b6, b7, b8, b9, b10, b11, b12, b13, b14, b15, b16) h9 hm)) (a1, a2, a3, a4, a5, a6, a7, a8, a9, a10, a11, a12, a13, a14, a15, a16) h
theorem pk_least (P : Nat → Prop) (h : ∃ k, P k) : ∃ k, P k ∧ ∀ j, j < k → ¬ P j := by
  obtain ⟨k, hk⟩ := h
  induction k using Nat.strongRecOn with
  | ind k ih =>
    by_cases e : ∃ j, j < k ∧ P j
    · obtain ⟨j, hj, pj⟩ := e
      exact ih j hj pj
    · exact ⟨k, hk, fun j hj pj => e ⟨j, hj, pj⟩⟩
theorem rp1 {ρ A1 : Type} (W : Nat → (ρ → Prop) → A1 → Prop) (ok : A1 → Prop) (μ : A1 → Nat) (val : A1 → ρ)
    (hs : ∀ (d : Nat) (post : ρ → Prop) (a1 : A1), ok a1 → post (val a1) → (∀ (post' : ρ → Prop) (b1 : A1), ok b1 → μ b1 < μ a1 → post' (val b1) → W d post' b1) → W (d + 1) post a1) :
    ∀ (d : Nat) (post : ρ → Prop) (a1 : A1), ok a1 → μ a1 < d → post (val a1) → W d post a1 := by
  intro d
  induction d with
  | zero => intro post a1 _ h; omega
  | succ d ih =>
    intro post a1 ho hm hp
    exact hs d post a1 ho hp (fun post' b1 ho' hm' hp' => ih post' b1 ho' (by omega) hp')
theorem rp2 {ρ A1 A2 : Type} (W : Nat → (ρ → Prop) → A1 → A2 → Prop) (ok : A1 → A2 → Prop) (μ : A1 → A2 → Nat) (val : A1 → A2 → ρ)
    (hs : ∀ (d : Nat) (post : ρ → Prop) (a1 : A1) (a2 : A2), ok a1 a2 → post (val a1 a2) → (∀ (post' : ρ → Prop) (b1 : A1) (b2 : A2), ok b1 b2 → μ b1 b2 < μ a1 a2 → post' (val b1 b2) → W d post' b1 b2) → W (d + 1) post a1 a2) :
    ∀ (d : Nat) (post : ρ → Prop) (a1 : A1) (a2 : A2), ok a1 a2 → μ a1 a2 < d → post (val a1 a2) → W d post a1 a2 := by
  intro d
  induction d with
  | zero => intro post a1 a2 _ h; omega
  | succ d ih =>
    intro post a1 a2 ho hm hp
    exact hs d post a1 a2 ho hp (fun post' b1 b2 ho' hm' hp' => ih post' b1 b2 ho' (by omega) hp')
theorem rp3 {ρ A1 A2 A3 : Type} (W : Nat → (ρ → Prop) → A1 → A2 → A3 → Prop) (ok : A1 → A2 → A3 → Prop) (μ : A1 → A2 → A3 → Nat) (val : A1 → A2 → A3 → ρ)
    (hs : ∀ (d : Nat) (post : ρ → Prop) (a1 : A1) (a2 : A2) (a3 : A3), ok a1 a2 a3 → post (val a1 a2 a3) → (∀ (post' : ρ → Prop) (b1 : A1) (b2 : A2) (b3 : A3), ok b1 b2 b3 → μ b1 b2 b3 < μ a1 a2 a3 → post' (val b1 b2 b3) → W d post' b1 b2 b3) → W (d + 1) post a1 a2 a3) :
    ∀ (d : Nat) (post : ρ → Prop) (a1 : A1) (a2 : A2) (a3 : A3), ok a1 a2 a3 → μ a1 a2 a3 < d → post (val a1 a2 a3) → W d post a1 a2 a3 := by
  intro d
  induction d with
  | zero => intro post a1 a2 a3 _ h; omega
  | succ d ih =>
    intro post a1 a2 a3 ho hm hp
    exact hs d post a1 a2 a3 ho hp (fun post' b1 b2 b3 ho' hm' hp' => ih post' b1 b2 b3 ho' (by omega) hp')
theorem rp4 {ρ A1 A2 A3 A4 : Type} (W : Nat → (ρ → Prop) → A1 → A2 → A3 → A4 → Prop) (ok : A1 → A2 → A3 → A4 → Prop) (μ : A1 → A2 → A3 → A4 → Nat) (val : A1 → A2 → A3 → A4 → ρ)
    (hs : ∀ (d : Nat) (post : ρ → Prop) (a1 : A1) (a2 : A2) (a3 : A3) (a4 : A4), ok a1 a2 a3 a4 → post (val a1 a2 a3 a4) → (∀ (post' : ρ → Prop) (b1 : A1) (b2 : A2) (b3 : A3) (b4 : A4), ok b1 b2 b3 b4 → μ b1 b2 b3 b4 < μ a1 a2 a3 a4 → post' (val b1 b2 b3 b4) → W d post' b1 b2 b3 b4) → W (d + 1) post a1 a2 a3 a4) :
    ∀ (d : Nat) (post : ρ → Prop) (a1 : A1) (a2 : A2) (a3 : A3) (a4 : A4), ok a1 a2 a3 a4 → μ a1 a2 a3 a4 < d → post (val a1 a2 a3 a4) → W d post a1 a2 a3 a4 := by
  intro d
  induction d with
  | zero => intro post a1 a2 a3 a4 _ h; omega
  | succ d ih =>
    intro post a1 a2 a3 a4 ho hm hp
    exact hs d post a1 a2 a3 a4 ho hp (fun post' b1 b2 b3 b4 ho' hm' hp' => ih post' b1 b2 b3 b4 ho' (by omega) hp')
theorem rp5 {ρ A1 A2 A3 A4 A5 : Type} (W : Nat → (ρ → Prop) → A1 → A2 → A3 → A4 → A5 → Prop) (ok : A1 → A2 → A3 → A4 → A5 → Prop) (μ : A1 → A2 → A3 → A4 → A5 → Nat) (val : A1 → A2 → A3 → A4 → A5 → ρ)
    (hs : ∀ (d : Nat) (post : ρ → Prop) (a1 : A1) (a2 : A2) (a3 : A3) (a4 : A4) (a5 : A5), ok a1 a2 a3 a4 a5 → post (val a1 a2 a3 a4 a5) → (∀ (post' : ρ → Prop) (b1 : A1) (b2 : A2) (b3 : A3) (b4 : A4) (b5 : A5), ok b1 b2 b3 b4 b5 → μ b1 b2 b3 b4 b5 < μ a1 a2 a3 a4 a5 → post' (val b1 b2 b3 b4 b5) → W d post' b1 b2 b3 b4 b5) → W (d + 1) post a1 a2 a3 a4 a5) :
    ∀ (d : Nat) (post : ρ → Prop) (a1 : A1) (a2 : A2) (a3 : A3) (a4 : A4) (a5 : A5), ok a1 a2 a3 a4 a5 → μ a1 a2 a3 a4 a5 < d → post (val a1 a2 a3 a4 a5) → W d post a1 a2 a3 a4 a5 := by
  intro d
  induction d with
  | zero => intro post a1 a2 a3 a4 a5 _ h; omega
  | succ d ih =>
    intro post a1 a2 a3 a4 a5 ho hm hp
    exact hs d post a1 a2 a3 a4 a5 ho hp (fun post' b1 b2 b3 b4 b5 ho' hm' hp' => ih post' b1 b2 b3 b4 b5 ho' (by omega) hp')
theorem rp6 {ρ A1 A2 A3 A4 A5 A6 : Type} (W : Nat → (ρ → Prop) → A1 → A2 → A3 → A4 → A5 → A6 → Prop) (ok : A1 → A2 → A3 → A4 → A5 → A6 → Prop) (μ : A1 → A2 → A3 → A4 → A5 → A6 → Nat) (val : A1 → A2 → A3 → A4 → A5 → A6 → ρ)
    (hs : ∀ (d : Nat) (post : ρ → Prop) (a1 : A1) (a2 : A2) (a3 : A3) (a4 : A4) (a5 : A5) (a6 : A6), ok a1 a2 a3 a4 a5 a6 → post (val a1 a2 a3 a4 a5 a6) → (∀ (post' : ρ → Prop) (b1 : A1) (b2 : A2) (b3 : A3) (b4 : A4) (b5 : A5) (b6 : A6), ok b1 b2 b3 b4 b5 b6 → μ b1 b2 b3 b4 b5 b6 < μ a1 a2 a3 a4 a5 a6 → post' (val b1 b2 b3 b4 b5 b6) → W d post' b1 b2 b3 b4 b5 b6) → W (d + 1) post a1 a2 a3 a4 a5 a6) :
    ∀ (d : Nat) (post : ρ → Prop) (a1 : A1) (a2 : A2) (a3 : A3) (a4 : A4) (a5 : A5) (a6 : A6), ok a1 a2 a3 a4 a5 a6 → μ a1 a2 a3 a4 a5 a6 < d → post (val a1 a2 a3 a4 a5 a6) → W d post a1 a2 a3 a4 a5 a6 := by
  intro d
  induction d with
  | zero => intro post a1 a2 a3 a4 a5 a6 _ h; omega
  | succ d ih =>
    intro post a1 a2 a3 a4 a5 a6 ho hm hp
    exact hs d post a1 a2 a3 a4 a5 a6 ho hp (fun post' b1 b2 b3 b4 b5 b6 ho' hm' hp' => ih post' b1 b2 b3 b4 b5 b6 ho' (by omega) hp')
theorem rec_p {σ ρ : Type} (W : Nat → (ρ → Prop) → σ → Prop) (ok : σ → Prop) (μ : σ → Nat) (val : σ → ρ)
    (hs : ∀ d s post, ok s → post (val s) → (∀ s' post', ok s' → μ s' < μ s → post' (val s') → W d post' s') → W (d + 1) post s) :
    ∀ d s post, ok s → μ s < d → post (val s) → W d post s := by
  intro d
  induction d with
  | zero => intro s post _ h; omega
  | succ d ih =>
    intro s post ho hm hp
    exact hs d s post ho hp (fun s' post' ho' hm' hp' => ih s' post' ho' (by omega) hp')
theorem rec_q {σ ρ : Type} (W : Nat → (ρ → Prop) → σ → Prop) (ok : σ → Prop) (μ : σ → Nat) (Q : σ → ρ → Prop)
    (hs : ∀ d s post, ok s → (∀ r, Q s r → post r) → (∀ s' post', ok s' → μ s' < μ s → (∀ r, Q s' r → post' r) → W d post' s') → W (d + 1) post s) :
    ∀ d s post, ok s → μ s < d → (∀ r, Q s r → post r) → W d post s := by
  intro d
  induction d with
  | zero => intro s post _ h; omega
  | succ d ih =>
    intro s post ho hm hp
    exact hs d s post ho hp (fun s' post' ho' hm' hp' => ih s' post' ho' (by omega) hp')
def bx_sum (f : Nat → Int32) : Nat → Int32
  | 0 => 0
  | n + 1 => bx_sum f n + f n
theorem ek_u {A : Prop} {B : Nat → Prop} {k N : Nat} (hk : k < N) (h : B k) : (some k = none → A) ∧ (∀ y : Nat, some k = some y → (y < N ∧ B y)) :=
  ⟨fun z => absurd z (Option.some_ne_none k), fun _ e => (by cases e; exact ⟨hk, h⟩)⟩
theorem ek_nu {A : Prop} {B : Nat → Prop} (h : A) : ((none : Option Nat) = none → A) ∧ (∀ y : Nat, (none : Option Nat) = some y → B y) :=
  ⟨fun _ => h, fun _ e => (by cases e)⟩
theorem ek_if {c d A B : Prop} (e : c ↔ d) (f : d → A) (g : ¬ d → B) : (c → A) ∧ (¬ c → B) :=
  ⟨fun z => f (e.mp z), fun z => g (fun y => z (e.mpr y))⟩
theorem ek_v {α : Sort _} {P : α → Prop} {a b : α} (e : a = b) (h : P b) : P a := e ▸ h
theorem co_some {x : Option Nat} {A : Prop} {B : Nat → Prop} (i : Nat) (h : B i) (hx : x = some i := by rfl) : (x = none → A) ∧ (∀ y : Nat, x = some y → B y) := by
  subst hx
  exact ⟨fun e => (nomatch e), fun y e => Option.some.inj e ▸ h⟩
theorem co_none {x : Option Nat} {A : Prop} {B : Nat → Prop} (h : A) (hx : x = none := by rfl) : (x = none → A) ∧ (∀ y : Nat, x = some y → B y) := by
  subst hx
  exact ⟨fun _ => h, fun y e => (nomatch e)⟩
theorem co_any {x : Option Nat} {A : Prop} {B : Nat → Prop} (hn : x = none → A) (hs : ∀ i : Nat, x = some i → B i) : (x = none → A) ∧ (∀ y : Nat, x = some y → B y) := ⟨hn, hs⟩
theorem co_2 {P : Nat → Prop} (h0 : P 0) (h1 : P 1) {i : Nat} (hi : i < 2) : P i :=
  match i, hi with
  | 0, _ => h0
  | 1, _ => h1
theorem co_3 {P : Nat → Prop} (h0 : P 0) (h1 : P 1) (h2 : P 2) {i : Nat} (hi : i < 3) : P i :=
  match i, hi with
  | 0, _ => h0
  | 1, _ => h1
  | 2, _ => h2
theorem co_4 {P : Nat → Prop} (h0 : P 0) (h1 : P 1) (h2 : P 2) (h3 : P 3) {i : Nat} (hi : i < 4) : P i :=
  match i, hi with
  | 0, _ => h0
  | 1, _ => h1
  | 2, _ => h2
  | 3, _ => h3
theorem co_dec {N : Nat} {P : Nat → Prop} [DecidablePred P] (h : (List.range N).all (fun i => decide (P i)) = true) {i : Nat} (hi : i < N) : P i := by
  have := List.all_eq_true.mp h i (List.mem_range.mpr hi)
  exact of_decide_eq_true this
theorem co_tab {α : Type} {l : List α} {d : α} {P : α → Prop} (h : ∀ a, a ∈ l → P a) {i : Nat} (hi : i < l.length) : P (l.getD i d) := by
  rw [List.getD_eq_getElem?_getD, List.getElem?_eq_getElem hi]
  exact h _ (List.getElem_mem hi)
theorem pk_mu {x : Int32} {L : Nat} (h0 : ¬ x < 0) (h : ¬ nI L ≤ x) (hL : L < 2 ^ 31) : ∃ j : Nat, j < L ∧ x = nI j ∧ x + 1 = nI (j + 1) ∧ x.toNatClampNeg = j ∧ L - (x + 1).toNatClampNeg < L - x.toNatClampNeg := by
  obtain ⟨j, hj, rfl⟩ := nI_of h0
  have hl : j < L := Nat.not_le.mp fun q => h (nI_le q hj)
  refine ⟨j, hl, rfl, nI_1 j, nI_clamp hj, ?_⟩
  rw [nI_1, nI_clamp (by omega), nI_clamp hj]
  omega
theorem op_s {α : Type} {r : Option α} {A : Prop} {B : α → Prop} {y : α} (h : r = some y) (b : B y) : (r = none → A) ∧ ∀ z, r = some z → B z :=
  ⟨fun e => (by rw [h] at e; cases e), fun z e => (by rw [h] at e; cases e; exact b)⟩
def l_holds {α : Type} (a : Nat → Option Nat) (LP : List Nat) (p : Nat → α) (c : Nat) (b : Nat → α) : Prop :=
  ∀ j, j < c → ∃ y, a j = some y ∧ y ∈ LP ∧ p y = b j
theorem l_holds_0 {α : Type} {a : Nat → Option Nat} {LP : List Nat} {p b : Nat → α} : l_holds a LP p 0 b := fun j h => absurd h (Nat.not_lt_zero j)
theorem l_in_new (LP : List Nat) (q : Nat) : q ∈ LP ++ [q] := List.mem_append.mpr (Or.inr (List.mem_singleton.mpr rfl))
def l_sum (b : Nat → Int32) : Nat → Int32
  | 0 => 0
  | k + 1 => l_sum b k + b k
theorem sb_shr0 (x : Int32) : x >>> ((0 : Int32) &&& 31) = x := by
  rw [show ((0 : Int32) &&& 31) = 0 by decide]
  simp
theorem sb_shl0 (x : Int32) : x <<< ((0 : Int32) &&& 31) = x := by
  rw [show ((0 : Int32) &&& 31) = 0 by decide]
  simp
theorem sb_cl0 : (0 : Int32).toNatClampNeg = 0 := by decide
theorem sb_m1 {p : Nat} (h : 0 < p) : nI p + (-1) = nI (p - 1) := by
  obtain ⟨q, rfl⟩ : ∃ q, p = q + 1 := ⟨p - 1, by omega⟩
  exact pk_m1 q
def sb_b (c : Nat) : Int32 := (nI c).toInt8.toInt32
theorem sb_byte : ∀ c, c < 256 → sb_b c &&& 255 = nI c ∧ ((nI c).toUInt32 % 65536).toInt32 = nI c ∧ nI c ≤ 255 := by decide +kernel
def sb_Fit (a : Nat → Int32) : Prop := ∀ j, fits .byte (.int (a j)) = true
def sb_Lat (t : Nat → Nat) (n : Nat) (a : Nat → Int32) : Prop := ∀ j, j < n → t j < 256 ∧ a j = sb_b (t j)
theorem sb_fitB (c : Nat) : fits .byte (.int (sb_b c)) = true := pk_fb _
theorem sb_fit0 : sb_Fit (fun _ => 0) := fun _ => by
  show fits .byte (.int 0) = true
  decide
theorem sb_fitU {a : Nat → Int32} {k : Nat} {x : Int32} (h : sb_Fit a) (hx : fits .byte (.int x) = true) : sb_Fit (upd a k x) := by
  intro j
  by_cases e : j = k
  · subst e
    rw [pk_us]
    exact hx
  · rw [pk_un e]
    exact h j
def sb_cat (t : Nat → Nat) (n : Nat) (s : Nat → Nat) : Nat → Nat := fun j => if j < n then t j else s (j - n)
theorem sb_cat_lo {t s : Nat → Nat} {n j : Nat} (h : j < n) : sb_cat t n s j = t j := if_pos h
theorem sb_cat_hi {t s : Nat → Nat} {n j : Nat} : sb_cat t n s (n + j) = s j := by
  show (if n + j < n then t (n + j) else s (n + j - n)) = s j
  rw [if_neg (by omega), Nat.add_sub_cancel_left]
theorem sb_latPut {t s : Nat → Nat} {n w : Nat} {a a' : Nat → Int32} (h : sb_Lat t n a) (hk : ∀ j, j < n → a' j = a j) (hs : ∀ i, i < w → s i < 256 ∧ a' (n + i) = sb_b (s i)) : sb_Lat (sb_cat t n s) (n + w) a' := by
  intro j hj
  by_cases e : j < n
  · rw [sb_cat_lo e, hk j e]
    exact h j e
  · obtain ⟨i, rfl⟩ : ∃ i, j = n + i := ⟨j - n, by omega⟩
    rw [sb_cat_hi]
    exact hs i (by omega)
theorem sb_latKeep {t : Nat → Nat} {n : Nat} {a a' : Nat → Int32} (h : sb_Lat t n a) (hk : ∀ j, j < n → a' j = a j) : sb_Lat t n a' := fun j hj => by
  rw [hk j hj]
  exact h j hj
def sb_cap (q m : Nat) : Nat := if q ≤ m then m else if 2 * m + 2 < q then q else 2 * m + 2
def sb_Room (q m mc ms : Nat) : Prop := q ≤ m ∨ (1 ≤ mc ∧ sb_cap q m ≤ ms ∧ sb_cap q m ≤ 65536)
theorem sb_cap_ge (q m : Nat) : q ≤ sb_cap q m := by
  unfold sb_cap
  split
  · omega
  · split <;> omega
theorem sb_cap_gem (q m : Nat) : m ≤ sb_cap q m := by
  unfold sb_cap
  split
  · omega
  · split <;> omega
theorem sb_cap_le {q m mc ms : Nat} (hm : m ≤ 65536) (hr : sb_Room q m mc ms) : sb_cap q m ≤ 65536 := by
  rcases hr with h | h
  · rw [sb_cap, if_pos h]
    exact hm
  · exact h.2.2
theorem sb_at {P : Int32 → Prop} {x y : Int32} (e : x = y) (h : P y) : P x := e ▸ h
def sb_dg (w : Nat) : Nat := if w < 10 then 1 else if w < 100 then 2 else if w < 1000 then 3 else if w < 10000 then 4 else if w < 100000 then 5 else if w < 1000000 then 6 else if w < 10000000 then 7 else if w < 100000000 then 8 else if w < 1000000000 then 9 else 10
def sb_dec (v : Nat) : Nat → Nat := fun i => 48 + v / 10 ^ (sb_dg v - 1 - i) % 10
theorem sb_dg_in (w : Nat) : 1 ≤ sb_dg w ∧ sb_dg w ≤ 10 := by
  unfold sb_dg
  constructor <;> (repeat' split) <;> omega
theorem sb_dg100 {w : Nat} (h : 100 ≤ w) (hw : w < 2 ^ 31) : sb_dg w = sb_dg (w / 100) + 2 := by
  rw [sb_dg, sb_dg, if_neg (show ¬ w < 10 by omega), if_neg (show ¬ w < 100 by omega)]
  by_cases h3 : w < 1000
  · rw [if_pos h3, if_pos (show w / 100 < 10 by omega)]
  rw [if_neg h3, if_neg (show ¬ w / 100 < 10 by omega)]
  by_cases h4 : w < 10000
  · rw [if_pos h4, if_pos (show w / 100 < 100 by omega)]
  rw [if_neg h4, if_neg (show ¬ w / 100 < 100 by omega)]
  by_cases h5 : w < 100000
  · rw [if_pos h5, if_pos (show w / 100 < 1000 by omega)]
  rw [if_neg h5, if_neg (show ¬ w / 100 < 1000 by omega)]
  by_cases h6 : w < 1000000
  · rw [if_pos h6, if_pos (show w / 100 < 10000 by omega)]
  rw [if_neg h6, if_neg (show ¬ w / 100 < 10000 by omega)]
  by_cases h7 : w < 10000000
  · rw [if_pos h7, if_pos (show w / 100 < 100000 by omega)]
  rw [if_neg h7, if_neg (show ¬ w / 100 < 100000 by omega)]
  by_cases h8 : w < 100000000
  · rw [if_pos h8, if_pos (show w / 100 < 1000000 by omega)]
  rw [if_neg h8, if_neg (show ¬ w / 100 < 1000000 by omega)]
  by_cases h9 : w < 1000000000
  · rw [if_pos h9, if_pos (show w / 100 < 10000000 by omega)]
  rw [if_neg h9, if_neg (show ¬ w / 100 < 10000000 by omega)]
  rw [if_pos (show w / 100 < 100000000 by omega)]
theorem sb_negT {w : Nat} (h : w < 2 ^ 31) : (-nI w).toInt = -(w : Int) := by
  rw [Int32.toInt_neg, nI_toInt h]
  exact Int.bmod_eq_of_le (by omega) (by omega)
theorem sb_nle {a b : Nat} (ha : a < 2 ^ 31) (hb : b < 2 ^ 31) : -nI a ≤ -nI b ↔ b ≤ a := by
  rw [Int32.le_iff_toInt_le, sb_negT ha, sb_negT hb]
  omega
theorem sb_nlt {a b : Nat} (ha : a < 2 ^ 31) (hb : b < 2 ^ 31) : -nI a < -nI b ↔ b < a := by
  rw [Int32.lt_iff_toInt_lt, sb_negT ha, sb_negT hb]
  omega
theorem sb_cmp {A B : Prop} {x : Int32} (v c : Nat) (f : c ≤ v → A) (g : v < c → B) (hv : v < 2 ^ 31) (hx : x = -nI c := by rfl) (hc : c < 2 ^ 31 := by omega) : (-nI v ≤ x → A) ∧ (¬ -nI v ≤ x → B) := by
  subst hx
  rw [sb_nle hv hc]
  exact ⟨f, fun z => g (by omega)⟩
theorem sb_ndiv {w : Nat} (hw : w < 2 ^ 31) : (-nI w) / 100 = -nI (w / 100) := by
  apply Int32.toInt_inj.mp
  have h100 : (100 : Int32).toInt = 100 := by decide
  rw [Int32.toInt_div, sb_negT hw, h100, sb_negT (by omega), Int.neg_tdiv, Int.tdiv_eq_ediv_of_nonneg (by omega), Int.bmod_eq_of_le (by omega) (by omega)]
  omega
theorem sb_nrem {w : Nat} (hw : w < 2 ^ 31) : (-nI (w / 100)) * 100 - (-nI w) = nI (w % 100) := by
  have h := pk_rem (a := w) (d := 100) hw (by decide) (by decide)
  rw [pk_div hw (by decide) (by decide)] at h
  rw [← h]
  show (-nI (w / 100)) * nI 100 - (-nI w) = nI w - nI (w / 100) * nI 100
  rw [Int32.neg_mul, Int32.sub_neg, Int32.add_comm, ← Int32.sub_eq_add_neg]
end
section
noncomputable def rl_i (P : Prop) (a b : Nat) : Nat := @ite Nat P (Classical.propDecidable P) a b
theorem rl_it {P : Prop} {a b : Nat} (h : P) : rl_i P a b = a := by unfold rl_i; rw [if_pos h]
theorem rl_if {P : Prop} {a b : Nat} (h : ¬ P) : rl_i P a b = b := by unfold rl_i; rw [if_neg h]
theorem rl_icg {P Q : Prop} {a b : Nat} (h : P ↔ Q) : rl_i P a b = rl_i Q a b := by rw [propext h]
noncomputable def rl_b (P : Prop) : Int32 := nI (rl_i P 1 0)
theorem rl_bt {P : Prop} (h : P) : rl_b P = 1 := by unfold rl_b; rw [rl_it h]; rfl
theorem rl_bf {P : Prop} (h : ¬ P) : rl_b P = 0 := by unfold rl_b; rw [rl_if h]; rfl
theorem rl_b0 {P : Prop} : rl_b P = 0 ↔ ¬ P := by
  constructor
  · intro h hp; rw [rl_bt hp] at h; exact absurd h (by decide)
  · exact rl_bf
theorem rl_bcg {P Q : Prop} (h : P ↔ Q) : rl_b P = rl_b Q := by rw [propext h]
theorem rl_bnar (P : Prop) : vp_nar .boolean (rl_b P) = rl_b P := by
  rcases Classical.em P with h | h
  · rw [rl_bt h]; rfl
  · rw [rl_bf h]; rfl
abbrev rl_ID : Type := Nat × Nat × Int32 × Nat × Int32 × Nat × Nat
def rl_B (x : rl_ID) : Nat := x.1
def rl_C (x : rl_ID) : Nat := x.2.1
def rl_S (x : rl_ID) : Int32 := x.2.2.1
def rl_K (x : rl_ID) : Nat := x.2.2.2.1
def rl_V (x : rl_ID) : Int32 := x.2.2.2.2.1
def rl_E (x : rl_ID) : Nat := x.2.2.2.2.2.1
def rl_T (x : rl_ID) : Nat := x.2.2.2.2.2.2
/-- a row is well formed -/
def rl_W (x : rl_ID) (now : Nat) : Prop := rl_B x < 4 ∧ (rl_C x = 0 ∨ rl_C x = 2 ∨ rl_C x = 3 ∨ rl_C x = 4) ∧ rl_K x < 8 ∧ rl_T x ≤ 1 ∧ rl_E x ≤ now
noncomputable def rl_kd (c : Nat) (P : Prop) : Nat := rl_i (c = 0) (rl_i P 1 0) c
theorem rl_kd1 {P : Prop} (h : P) : rl_kd 0 P = 1 := by unfold rl_kd; rw [rl_it rfl, rl_it h]
theorem rl_kd0 {P : Prop} (h : ¬ P) : rl_kd 0 P = 0 := by unfold rl_kd; rw [rl_it rfl, rl_if h]
theorem rl_kdc {P : Prop} {c : Nat} (h : c ≠ 0) : rl_kd c P = c := by unfold rl_kd; rw [rl_if h]
theorem rl_kd_lt {P : Prop} {c : Nat} (h : c = 0 ∨ c = 2 ∨ c = 3 ∨ c = 4) : rl_kd c P ≤ 4 ∧ (rl_kd c P < 2 ↔ c = 0) ∧ (rl_kd c P = 1 ↔ c = 0 ∧ P) ∧ (rl_kd c P = 4 ↔ c = 4) ∧ (rl_kd c P = 2 ↔ c = 2) := by
  rcases h with h | h | h | h
  · subst h
    rcases Classical.em P with hp | hp
    · rw [rl_kd1 hp]; simp [hp]
    · rw [rl_kd0 hp]; simp [hp]
  · rw [rl_kdc (by omega)]; subst h; simp
  · rw [rl_kdc (by omega)]; subst h; simp
  · rw [rl_kdc (by omega)]; subst h; simp
/-! rank -/
noncomputable def rl_rk (G : Nat → Prop) : Nat → Nat
  | 0 => 0
  | n + 1 => rl_i (G n) (rl_rk G n) (rl_rk G n + 1)
theorem rl_rk_t {G : Nat → Prop} {n : Nat} (h : G n) : rl_rk G (n + 1) = rl_rk G n := rl_it h
theorem rl_rk_f {G : Nat → Prop} {n : Nat} (h : ¬ G n) : rl_rk G (n + 1) = rl_rk G n + 1 := rl_if h
theorem rl_rk_s (G : Nat → Prop) (n : Nat) : rl_rk G n ≤ rl_rk G (n + 1) ∧ rl_rk G (n + 1) ≤ rl_rk G n + 1 := by
  rcases Classical.em (G n) with h | h
  · rw [rl_rk_t h]; omega
  · rw [rl_rk_f h]; omega
theorem rl_rk_mono {G : Nat → Prop} {a b : Nat} (h : a ≤ b) : rl_rk G a ≤ rl_rk G b := by
  induction b with
  | zero => have e : a = 0 := by omega
            rw [e]; exact Nat.le_refl _
  | succ b ih =>
    rcases Nat.lt_or_ge b a with z | z
    · have e : a = b + 1 := by omega
      rw [e]; exact Nat.le_refl _
    · have := ih z; have := rl_rk_s G b; omega
theorem rl_rk_lt {G : Nat → Prop} {a b : Nat} (h : a < b) (hg : ¬ G a) : rl_rk G a < rl_rk G b := by
  have := rl_rk_mono (G := G) (a := a + 1) (b := b) h
  rw [rl_rk_f hg] at this; omega
theorem rl_rk_le (G : Nat → Prop) (n : Nat) : rl_rk G n ≤ n := by
  induction n with
  | zero => exact Nat.le_refl _
  | succ n ih => have := rl_rk_s G n; omega
theorem rl_rk_dif {G : Nat → Prop} {a b : Nat} (h : a ≤ b) : rl_rk G b - rl_rk G a ≤ b - a := by
  induction b with
  | zero => have e : a = 0 := by omega
            rw [e]; omega
  | succ b ih =>
    rcases Nat.lt_or_ge b a with z | z
    · have e : a = b + 1 := by omega
      rw [e]; omega
    · have := ih z; have := rl_rk_s G b; omega
theorem rl_rk_cg {G G' : Nat → Prop} {n : Nat} (h : ∀ o, o < n → (G o ↔ G' o)) : rl_rk G n = rl_rk G' n := by
  induction n with
  | zero => rfl
  | succ n ih =>
    have e := ih (fun o ho => h o (by omega))
    show rl_i (G n) (rl_rk G n) (rl_rk G n + 1) = rl_i (G' n) (rl_rk G' n) (rl_rk G' n + 1)
    rw [e, rl_icg (h n (by omega))]
theorem rl_rk_ex {G : Nat → Prop} {i n : Nat} (h : i < rl_rk G n) : ∃ o, o < n ∧ ¬ G o ∧ rl_rk G o = i := by
  induction n with
  | zero => exact absurd h (Nat.not_lt_zero _)
  | succ n ih =>
    rcases Nat.lt_or_ge i (rl_rk G n) with z | z
    · obtain ⟨o, h1, h2, h3⟩ := ih z
      exact ⟨o, by omega, h2, h3⟩
    · rcases Classical.em (G n) with hg | hg
      · rw [rl_rk_t hg] at h; omega
      · rw [rl_rk_f hg] at h
        exact ⟨n, by omega, hg, by omega⟩
theorem rl_rk_inj {G : Nat → Prop} {a b : Nat} (ha : ¬ G a) (hb : ¬ G b) (h : rl_rk G a = rl_rk G b) : a = b := by
  rcases Nat.lt_trichotomy a b with z | z | z
  · have := rl_rk_lt z ha; omega
  · exact z
  · have := rl_rk_lt z hb; omega
theorem rl_rk_no {G : Nat → Prop} {a b : Nat} (h : a ≤ b) (hg : ∀ o, a ≤ o → o < b → G o) : rl_rk G b = rl_rk G a := by
  induction b with
  | zero => have e : a = 0 := by omega
            rw [e]
  | succ b ih =>
    rcases Nat.lt_or_ge b a with z | z
    · have e : a = b + 1 := by omega
      rw [e]
    · rw [rl_rk_t (hg b z (by omega))]; exact ih z (fun o h1 h2 => hg o h1 (by omega))
/-! the first below a bound -/
noncomputable def rl_fs (P : Nat → Prop) : Nat → Nat
  | 0 => 0
  | b + 1 => rl_i (rl_fs P b < b) (rl_fs P b) (rl_i (P b) b (b + 1))
theorem rl_fs_sp (P : Nat → Prop) (b : Nat) : rl_fs P b ≤ b ∧ (∀ d, d < rl_fs P b → ¬ P d) ∧ (rl_fs P b < b → P (rl_fs P b)) := by
  induction b with
  | zero => exact ⟨Nat.le_refl _, fun d h => absurd h (Nat.not_lt_zero _), fun h => absurd h (Nat.not_lt_zero _)⟩
  | succ b ih =>
    obtain ⟨h1, h2, h3⟩ := ih
    rcases Nat.lt_or_ge (rl_fs P b) b with z | z
    · have e : rl_fs P (b + 1) = rl_fs P b := rl_it z
      rw [e]; exact ⟨by omega, h2, fun _ => h3 z⟩
    · have e : rl_fs P (b + 1) = rl_i (P b) b (b + 1) := rl_if (by omega)
      have eb : rl_fs P b = b := by omega
      rw [eb] at h2
      rcases Classical.em (P b) with hp | hp
      · rw [e, rl_it hp]; exact ⟨by omega, h2, fun _ => hp⟩
      · rw [e, rl_if hp]
        refine ⟨Nat.le_refl _, fun d hd => ?_, fun h => absurd h (Nat.lt_irrefl _)⟩
        rcases Nat.lt_or_ge d b with y | y
        · exact h2 d y
        · have ed : d = b := by omega
          rw [ed]; exact hp
theorem rl_fs_eq {P : Nat → Prop} {r b : Nat} (h1 : r ≤ b) (h2 : ∀ d, d < r → ¬ P d) (h3 : r < b → P r) : rl_fs P b = r := by
  obtain ⟨s1, s2, s3⟩ := rl_fs_sp P b
  rcases Nat.lt_trichotomy (rl_fs P b) r with z | z | z
  · exact absurd (s3 (by omega)) (h2 _ z)
  · exact z
  · exact absurd (h3 (by omega)) (s2 _ z)
theorem rl_fs_cg {P Q : Nat → Prop} {b : Nat} (h : ∀ d, d < b → (P d ↔ Q d)) : rl_fs P b = rl_fs Q b := by
  obtain ⟨s1, s2, s3⟩ := rl_fs_sp Q b
  exact rl_fs_eq s1 (fun d hd hp => s2 d hd ((h d (by omega)).mp hp)) (fun hl => (h _ hl).mpr (s3 hl))
theorem rl_fs_cut {P : Nat → Prop} {a b : Nat} (h : a ≤ b) : rl_fs P a = min (rl_fs P b) a := by
  obtain ⟨s1, s2, s3⟩ := rl_fs_sp P b
  refine rl_fs_eq (by omega) (fun d hd => s2 d (by omega)) (fun hl => ?_)
  have e : min (rl_fs P b) a = rl_fs P b := by omega
  rw [e]; exact s3 (by omega)
/-! what decides a record -/
def rl_dp (I : Nat → rl_ID) (o d : Nat) : Prop := o < d ∧ rl_B (I d) = rl_B (I o) ∧ rl_C (I d) ≠ 0
noncomputable def rl_de (I : Nat → rl_ID) (t o : Nat) : Nat := rl_fs (rl_dp I o) t
theorem rl_de_sp (I : Nat → rl_ID) {t o : Nat} (ho : o < t) : o < rl_de I t o ∧ rl_de I t o ≤ t ∧ (∀ d, d < rl_de I t o → ¬ rl_dp I o d) ∧ (rl_de I t o < t → rl_dp I o (rl_de I t o)) := by
  obtain ⟨s1, s2, s3⟩ := rl_fs_sp (rl_dp I o) t
  refine ⟨?_, s1, s2, s3⟩
  rcases Nat.lt_or_ge o (rl_de I t o) with z | z
  · exact z
  · exact absurd (s3 (Nat.lt_of_le_of_lt z ho)).1 (by unfold rl_de at z; omega)
theorem rl_de_eq {I : Nat → rl_ID} {r t o : Nat} (h1 : r ≤ t) (h2 : ∀ d, d < r → ¬ rl_dp I o d) (h3 : r < t → rl_dp I o r) : rl_de I t o = r := rl_fs_eq h1 h2 h3
theorem rl_de_cut {I : Nat → rl_ID} {a b o : Nat} (h : a ≤ b) : rl_de I a o = min (rl_de I b o) a := rl_fs_cut h
theorem rl_de_cg {I J : Nat → rl_ID} {t o : Nat} (ho : o < t) (h : ∀ d, d < t → I d = J d) : rl_de I t o = rl_de J t o :=
  rl_fs_cg (fun d hd => by unfold rl_dp; rw [h d hd, h o ho])
noncomputable def rl_fa (I : Nat → rl_ID) (t o : Nat) : Nat := rl_i (rl_de I t o < t) (rl_C (I (rl_de I t o))) 0
noncomputable def rl_st (I : Nat → rl_ID) (O : Nat → Prop) (t o : Nat) : Nat :=
  rl_i (rl_C (I o) = 0 ∧ O o) (rl_i (rl_de I t o < t) (rl_i (rl_C (I (rl_de I t o)) = 2) 2 3) 1) 0
theorem rl_st_0 {I : Nat → rl_ID} {O : Nat → Prop} {t o : Nat} (h : ¬ (rl_C (I o) = 0 ∧ O o)) : rl_st I O t o = 0 := rl_if h
theorem rl_st_1 {I : Nat → rl_ID} {O : Nat → Prop} {t o : Nat} (h : rl_C (I o) = 0 ∧ O o) (hd : ¬ rl_de I t o < t) : rl_st I O t o = 1 := by
  unfold rl_st; rw [rl_it h, rl_if hd]
theorem rl_st_2 {I : Nat → rl_ID} {O : Nat → Prop} {t o : Nat} (h : rl_C (I o) = 0 ∧ O o) (hd : rl_de I t o < t) (hc : rl_C (I (rl_de I t o)) = 2) : rl_st I O t o = 2 := by
  unfold rl_st; rw [rl_it h, rl_it hd, rl_it hc]
theorem rl_st_3 {I : Nat → rl_ID} {O : Nat → Prop} {t o : Nat} (h : rl_C (I o) = 0 ∧ O o) (hd : rl_de I t o < t) (hc : ¬ rl_C (I (rl_de I t o)) = 2) : rl_st I O t o = 3 := by
  unfold rl_st; rw [rl_it h, rl_it hd, rl_if hc]
theorem rl_st_le (I : Nat → rl_ID) (O : Nat → Prop) (t o : Nat) : rl_st I O t o ≤ 3 := by
  rcases Classical.em (rl_C (I o) = 0 ∧ O o) with h | h
  · rcases Classical.em (rl_de I t o < t) with hd | hd
    · rcases Classical.em (rl_C (I (rl_de I t o)) = 2) with hc | hc
      · rw [rl_st_2 h hd hc]; omega
      · rw [rl_st_3 h hd hc]; omega
    · rw [rl_st_1 h hd]; omega
  · rw [rl_st_0 h]; omega
theorem rl_st_sp (I : Nat → rl_ID) (O : Nat → Prop) (t o : Nat) :
    (rl_st I O t o = 0 ↔ ¬ (rl_C (I o) = 0 ∧ O o)) ∧ (rl_st I O t o = 1 ↔ (rl_C (I o) = 0 ∧ O o) ∧ ¬ rl_de I t o < t) ∧
    (rl_st I O t o = 2 ↔ (rl_C (I o) = 0 ∧ O o) ∧ rl_de I t o < t ∧ rl_C (I (rl_de I t o)) = 2) ∧
    (rl_st I O t o = 3 ↔ (rl_C (I o) = 0 ∧ O o) ∧ rl_de I t o < t ∧ ¬ rl_C (I (rl_de I t o)) = 2) := by
  rcases Classical.em (rl_C (I o) = 0 ∧ O o) with h | h
  · rcases Classical.em (rl_de I t o < t) with hd | hd
    · rcases Classical.em (rl_C (I (rl_de I t o)) = 2) with hc | hc
      · rw [rl_st_2 h hd hc]; simp [h, hd, hc]
      · rw [rl_st_3 h hd hc]; simp [h, hd, hc]
    · rw [rl_st_1 h hd]; simp [h, hd]
  · rw [rl_st_0 h]; simp [h]
theorem rl_st_cg {I J : Nat → rl_ID} {O Q : Nat → Prop} {t o : Nat} (ho : o < t) (h : ∀ d, d < t → I d = J d) (hO : O o ↔ Q o) : rl_st I O t o = rl_st J Q t o := by
  unfold rl_st
  rw [rl_de_cg ho h, h o ho, propext hO]
  rcases Nat.lt_or_ge (rl_de J t o) t with z | z
  · rw [h _ z]
  · rw [rl_if (P := rl_de J t o < t) (by omega), rl_if (P := rl_de J t o < t) (by omega)]
/-! stable, undecided -/
def rl_sp (I : Nat → rl_ID) (O G : Nat → Prop) (t m o : Nat) : Prop := ¬ G o ∧ rl_C (I o) = 0 ∧ O o ∧ m ≤ rl_de I t o
noncomputable def rl_sb (I : Nat → rl_ID) (O G : Nat → Prop) (t m : Nat) : Nat := rl_fs (rl_sp I O G t m) m
def rl_up (I : Nat → rl_ID) (O G : Nat → Prop) (t p o : Nat) : Prop := ¬ G o ∧ rl_C (I o) = 0 ∧ O o ∧ rl_B (I o) = p ∧ ¬ rl_de I t o < t
noncomputable def rl_ud (I : Nat → rl_ID) (O G : Nat → Prop) (t p : Nat) : Nat := rl_fs (rl_up I O G t p) t
def rl_ab (I : Nat → rl_ID) (O : Nat → Prop) (t o : Nat) : Prop := (rl_C (I o) = 0 ∧ O o) ∧ rl_de I t o < t ∧ ¬ rl_C (I (rl_de I t o)) = 2
theorem rl_ab_st (I : Nat → rl_ID) (O : Nat → Prop) (t o : Nat) : rl_st I O t o = 3 ↔ rl_ab I O t o := (rl_st_sp I O t o).2.2.2
/-! producers -/
abbrev rl_PS : Type := Nat × Nat × Int32 × Nat × Nat × Nat
def rl_stp (p : Nat) (v : rl_PS) (x : rl_ID) (o : Nat) : rl_PS :=
  if rl_B x = p then (if rl_C x = 4 then (v.1 + 1, 0, v.2.2) else if rl_C x = 0 then (v.1, (if v.2.1 < 3 then v.2.1 + 1 else v.2.1), rl_S x, o, v.2.2.2.1, v.2.2.2.2.1) else v) else v
def rl_ps (I : Nat → rl_ID) (p : Nat) : Nat → rl_PS
  | 0 => (0, 0, 0, 0, 0, 0)
  | n + 1 => rl_stp p (rl_ps I p n) (I n) n
theorem rl_ps_cg {I J : Nat → rl_ID} {p : Nat} : ∀ {n : Nat}, (∀ o, o < n → I o = J o) → rl_ps I p n = rl_ps J p n
  | 0, _ => rfl
  | n + 1, h => by
    show rl_stp p (rl_ps I p n) (I n) n = rl_stp p (rl_ps J p n) (J n) n
    rw [rl_ps_cg (fun o ho => h o (by omega)), h n (by omega)]
def rl_pl (v : rl_PS) (k : Nat) : Nat := if k = 0 then v.2.2.2.1 else if k = 1 then v.2.2.2.2.1 else v.2.2.2.2.2
def rl_nx (v : rl_PS) : Int32 := if v.2.1 = 0 then 0 else v.2.2.1 + 1
/-- the last but k data record of p below n, behind its last fence -/
def rl_la (I : Nat → rl_ID) (p : Nat) : Nat → Nat → Option Nat
  | 0, _ => none
  | n + 1, k => if rl_B (I n) = p then (if rl_C (I n) = 4 then none else if rl_C (I n) = 0 then (if k = 0 then some n else rl_la I p n (k - 1)) else rl_la I p n k) else rl_la I p n k
theorem rl_ps_in (I : Nat → rl_ID) (p : Nat) : ∀ n, (rl_ps I p n).1 ≤ n ∧ (rl_ps I p n).2.1 ≤ 3 ∧ rl_pl (rl_ps I p n) 0 ≤ n ∧ rl_pl (rl_ps I p n) 1 ≤ n ∧ rl_pl (rl_ps I p n) 2 ≤ n
  | 0 => by simp [rl_ps, rl_pl]
  | n + 1 => by
    obtain ⟨h1, h2, h3, h4, h5⟩ := rl_ps_in I p n
    generalize hv : rl_ps I p n = v at h1 h2 h3 h4 h5
    obtain ⟨a, b, c, d, e, f⟩ := v
    show (rl_stp p (rl_ps I p n) (I n) n).1 ≤ n + 1 ∧ _
    simp only [rl_pl] at h1 h2 h3 h4 h5
    have E : rl_ps I p (n + 1) = rl_stp p (a, b, c, d, e, f) (I n) n := by rw [← hv]; rfl
    rw [← hv] at E
    rw [E, hv]
    simp only [rl_stp, rl_pl]
    simp at h1 h2 h3 h4 h5
    split
    · split
      · simp; omega
      · split
        · simp; split <;> omega
        · simp; omega
    · simp; omega
theorem rl_la_ps (I : Nat → rl_ID) (p : Nat) : ∀ n k, k < 3 → rl_la I p n k = if k < (rl_ps I p n).2.1 then some (rl_pl (rl_ps I p n) k) else none
  | 0, k, _ => by simp [rl_ps, rl_la]
  | n + 1, k, hk => by
    have ih := rl_la_ps I p n
    have E : rl_ps I p (n + 1) = rl_stp p (rl_ps I p n) (I n) n := rfl
    have h2 := (rl_ps_in I p n).2.1
    rw [E]
    generalize hv : rl_ps I p n = v at ih h2
    obtain ⟨a, b, c, d, e, f⟩ := v
    simp only [rl_la, rl_stp]
    simp only [rl_pl] at ih ⊢
    simp at ih h2
    by_cases hb : rl_B (I n) = p
    · rw [if_pos hb, if_pos hb]
      by_cases hc : rl_C (I n) = 4
      · rw [if_pos hc, if_pos hc]; simp
      · rw [if_neg hc, if_neg hc]
        by_cases hd : rl_C (I n) = 0
        · rw [if_pos hd, if_pos hd]
          by_cases k0 : k = 0
          · subst k0; simp
            split <;> omega
          · rw [if_neg k0, ih (k - 1) (by omega)]
            by_cases k1 : k = 1
            · subst k1; simp
              by_cases b0 : 0 < b
              · rw [if_pos b0, if_pos (by split <;> omega)]
              · rw [if_neg b0, if_neg (by split <;> omega)]
            · have k2 : k = 2 := by omega
              subst k2; simp
              by_cases b0 : 1 < b
              · rw [if_pos b0, if_pos (by split <;> omega)]
              · rw [if_neg b0, if_neg (by split <;> omega)]
        · rw [if_neg hd, if_neg hd]; exact ih k hk
    · rw [if_neg hb, if_neg hb]; exact ih k hk
/-- every data record carries its producer's next number -/
def rl_sq (I : Nat → rl_ID) (t : Nat) : Prop := ∀ o, o < t → rl_C (I o) = 0 → rl_S (I o) = rl_nx (rl_ps I (rl_B (I o)) o)
theorem rl_sq_sp {I : Nat → rl_ID} {p : Nat} : ∀ {n : Nat}, rl_sq I n → ∀ k, k < (rl_ps I p n).2.1 → rl_pl (rl_ps I p n) k < n ∧ rl_S (I (rl_pl (rl_ps I p n) k)) = (rl_ps I p n).2.2.1 - nI k
  | 0, _, k, hk => by simp [rl_ps] at hk
  | n + 1, h, k, hk => by
    have ih := rl_sq_sp (I := I) (p := p) (n := n) (fun o ho hc => h o (by omega) hc)
    have E : rl_ps I p (n + 1) = rl_stp p (rl_ps I p n) (I n) n := rfl
    have h2 := (rl_ps_in I p n).2.1
    have hn := h n (by omega)
    rw [E] at hk ⊢
    by_cases hb : rl_B (I n) = p
    · rw [hb] at hn
      generalize hv : rl_ps I p n = v at ih h2 hk hn
      obtain ⟨a, b, c, d, e, f⟩ := v
      simp only [rl_stp, if_pos hb] at hk ⊢
      by_cases hc : rl_C (I n) = 4
      · rw [if_pos hc] at hk; simp at hk
      · rw [if_neg hc] at hk ⊢
        by_cases hd : rl_C (I n) = 0
        · rw [if_pos hd] at hk ⊢
          simp only [rl_pl, rl_nx] at ih hn hk ⊢
          simp at ih h2 hk hn
          have hk3 : k < 3 := by split at hk <;> omega
          by_cases k0 : k = 0
          · subst k0; simp
            exact (Int32.sub_zero _).symm
          · have hbk : k - 1 < b := by split at hk <;> omega
            have i1 := ih (k - 1) hbk
            have hs : rl_S (I n) = c + 1 := by
              rw [hn hd, if_neg (by omega)]
            have hkk : nI k = nI (k - 1) + 1 := by rw [nI_1]; exact congrArg nI (by omega)
            rw [hs, hkk]
            have a1 : c + 1 - (nI (k - 1) + 1) = c - nI (k - 1) := by grind
            rw [a1]
            by_cases k1 : k = 1
            · subst k1; simp at i1 ⊢
              exact ⟨by omega, i1.2⟩
            · have k2 : k = 2 := by omega
              subst k2; simp at i1 ⊢
              exact ⟨by omega, i1.2⟩
        · rw [if_neg hd] at hk ⊢
          obtain ⟨x, y⟩ := ih k hk
          exact ⟨by omega, y⟩
    · have e2 : rl_stp p (rl_ps I p n) (I n) n = rl_ps I p n := by unfold rl_stp; rw [if_neg hb]
      rw [e2] at hk ⊢
      obtain ⟨x, y⟩ := ih k hk
      exact ⟨by omega, y⟩
/-! marks, advance, common -/
def rl_ls (mark : Nat → Nat) : Nat := min (mark 0) (min (mark 1) (mark 2))
theorem rl_ls_le {mark : Nat → Nat} {r : Nat} (h : r < 3) : rl_ls mark ≤ mark r := by
  unfold rl_ls
  have : r = 0 ∨ r = 1 ∨ r = 2 := by omega
  rcases this with e | e | e <;> subst e <;> omega
noncomputable def rl_a1 (fet : Nat → Nat) (mem : Nat → Prop) (L m f : Nat) : Nat := rl_i (f ≠ L ∧ mem f ∧ fet f < m) (fet f) m
noncomputable def rl_am (top fet : Nat → Nat) (mem : Nat → Prop) (L : Nat) : Nat := rl_a1 fet mem L (rl_a1 fet mem L (rl_a1 fet mem L (top L) 0) 1) 2
theorem rl_a1_le (fet : Nat → Nat) (mem : Nat → Prop) (L m f : Nat) : rl_a1 fet mem L m f ≤ m ∧ (f ≠ L → mem f → rl_a1 fet mem L m f ≤ fet f) := by
  rcases Classical.em (f ≠ L ∧ mem f ∧ fet f < m) with h | h
  · unfold rl_a1; rw [rl_it h]; exact ⟨by omega, fun _ _ => Nat.le_refl _⟩
  · unfold rl_a1; rw [rl_if h]
    refine ⟨Nat.le_refl _, fun h1 h2 => ?_⟩
    rcases Nat.lt_or_ge (fet f) m with z | z
    · exact absurd ⟨h1, h2, z⟩ h
    · exact z
theorem rl_am_sp (top fet : Nat → Nat) (mem : Nat → Prop) (L : Nat) : rl_am top fet mem L ≤ top L ∧ ∀ f, f < 3 → f ≠ L → mem f → rl_am top fet mem L ≤ fet f := by
  have h0 := rl_a1_le fet mem L (top L) 0
  have h1 := rl_a1_le fet mem L (rl_a1 fet mem L (top L) 0) 1
  have h2 := rl_a1_le fet mem L (rl_a1 fet mem L (rl_a1 fet mem L (top L) 0) 1) 2
  unfold rl_am
  refine ⟨by omega, fun f hf hl hm => ?_⟩
  have : f = 0 ∨ f = 1 ∨ f = 2 := by omega
  rcases this with e | e | e
  · subst e; have := h0.2 hl hm; omega
  · subst e; have := h1.2 hl hm; omega
  · subst e; exact h2.2 hl hm
/-- a function changed at one place -/
noncomputable def rl_u {α : Type} (f : Nat → α) (k : Nat) (x : α) : Nat → α := fun j => if j = k then x else f j
theorem rl_us {α : Type} {f : Nat → α} {k : Nat} {x : α} : rl_u f k x k = x := if_pos rfl
theorem rl_un {α : Type} {f : Nat → α} {k j : Nat} {x : α} (h : j ≠ k) : rl_u f k x j = f j := if_neg h
/-! numbers -/
theorem rl_620 (r : Nat) : (620 : Int32) * nI r = nI (620 * r) := pk_mul 620 r
theorem rl_40 (r : Nat) : (40 : Int32) * nI r = nI (40 * r) := pk_mul 40 r
theorem rl_64 (r : Nat) : (64 : Int32) * nI r = nI (64 * r) := pk_mul 64 r
theorem rl_4 (r : Nat) : (4 : Int32) * nI r = nI (4 * r) := pk_mul 4 r
theorem rl_3 (r : Nat) : (3 : Int32) * nI r = nI (3 * r) := pk_mul 3 r
theorem rl_s1 {n : Nat} (h : 0 < n) : nI n - 1 = nI (n - 1) := by
  obtain ⟨m, rfl⟩ : ∃ m, n = m + 1 := ⟨n - 1, by omega⟩
  rw [nI_pred]; rfl
theorem rl_m1 {n : Nat} (h : 0 < n) : nI n + (-1) = nI (n - 1) := by
  obtain ⟨m, rfl⟩ : ∃ m, n = m + 1 := ⟨n - 1, by omega⟩
  rw [pk_m1]; rfl
theorem rl_nar : ∀ n, n < 128 → vp_nar .byte (nI n) = nI n ∧ (nI n).toInt8.toInt32 = nI n := by
  intro n hn
  have h : (nI n).toInt8.toInt32 = nI n := lg_i2b_small (by rw [nI_toInt (by omega)]; omega) (by rw [nI_toInt (by omega)]; omega)
  exact ⟨by rw [vp_nar_byte]; exact h, h⟩
theorem rl_nar1 {n : Nat} (h : n < 128) : vp_nar .byte (nI n) = nI n := (rl_nar n h).1
theorem rl_nar2 {n : Nat} (h : n < 128) : vp_nar .byte (nI n).toInt8.toInt32 = nI n := by rw [(rl_nar n h).2]; exact (rl_nar n h).1
end
section
/-! branches -/
theorem rl_br {x : Int32} {P A B : Prop} (hx : x = rl_b P) (f : ¬ P → A) (g : P → B) : (x = 0 → A) ∧ (¬ x = 0 → B) := by
  subst hx
  exact ⟨fun h => f (rl_b0.mp h), fun h => g (Classical.byContradiction fun hn => h (rl_b0.mpr hn))⟩
theorem rl_k1 {x : Int32} {c : Nat} {P A B : Prop} (hc : c = 0 ∨ c = 2 ∨ c = 3 ∨ c = 4) (hx : x = nI (rl_kd c P)) (f : c = 0 ∧ P → A) (g : ¬ (c = 0 ∧ P) → B) : (x = 1 → A) ∧ (¬ x = 1 → B) := by
  have h := rl_kd_lt (P := P) hc
  exact pk_eq (rl_kd c P) 1 (fun z => f (h.2.2.1.mp z)) (fun z => g (fun y => z (h.2.2.1.mpr y))) hx
theorem rl_k2le {x : Int32} {c : Nat} {P A B : Prop} (hc : c = 0 ∨ c = 2 ∨ c = 3 ∨ c = 4) (hx : x = nI (rl_kd c P)) (f : c ≠ 0 → A) (g : c = 0 → B) : (2 ≤ x → A) ∧ (¬ 2 ≤ x → B) := by
  have h := rl_kd_lt (P := P) hc
  exact pk_le 2 (rl_kd c P) (fun z => f (fun y => by have := h.2.1.mpr y; omega)) (fun z => g (h.2.1.mp z)) rfl hx
theorem rl_kle1 {x : Int32} {c : Nat} {P A B : Prop} (hc : c = 0 ∨ c = 2 ∨ c = 3 ∨ c = 4) (hx : x = nI (rl_kd c P)) (f : c = 0 → A) (g : c ≠ 0 → B) : (x ≤ 1 → A) ∧ (¬ x ≤ 1 → B) := by
  have h := rl_kd_lt (P := P) hc
  exact pk_le (rl_kd c P) 1 (fun z => f (h.2.1.mp (by omega))) (fun z => g (fun y => by have := h.2.1.mpr y; omega)) hx rfl
theorem rl_k1lt {x : Int32} {c : Nat} {P A B : Prop} (hc : c = 0 ∨ c = 2 ∨ c = 3 ∨ c = 4) (hx : x = nI (rl_kd c P)) (f : c ≠ 0 → A) (g : c = 0 → B) : (1 < x → A) ∧ (¬ 1 < x → B) := by
  have h := rl_kd_lt (P := P) hc
  exact pk_lt 1 (rl_kd c P) (fun z => f (fun y => by have := h.2.1.mpr y; omega)) (fun z => g (h.2.1.mp (by omega))) rfl hx
theorem rl_k4 {x : Int32} {c : Nat} {P A B : Prop} (hc : c = 0 ∨ c = 2 ∨ c = 3 ∨ c = 4) (hx : x = nI (rl_kd c P)) (f : c = 4 → A) (g : c ≠ 4 → B) : (x = 4 → A) ∧ (¬ x = 4 → B) := by
  have h := rl_kd_lt (P := P) hc
  exact pk_eq (rl_kd c P) 4 (fun z => f (h.2.2.2.1.mp z)) (fun z => g (fun y => z (h.2.2.2.1.mpr y))) hx
/-! the reference's rows -/
def rl_YR (b_by b_kind b_seq b_key b_val b_era b_tomb b_gone : Nat → Int32) (I : Nat → Nat → rl_ID) (O G : Nat → Nat → Prop) (r o : Nat) : Prop :=
  b_by (620 * r + o) = nI (rl_B (I r o)) ∧ b_kind (620 * r + o) = nI (rl_kd (rl_C (I r o)) (O r o)) ∧ b_seq (620 * r + o) = rl_S (I r o) ∧ b_key (620 * r + o) = nI (rl_K (I r o)) ∧
  b_val (620 * r + o) = rl_V (I r o) ∧ b_era (620 * r + o) = nI (rl_E (I r o)) ∧ b_tomb (620 * r + o) = nI (rl_T (I r o)) ∧ b_gone (620 * r + o) = rl_b (G r o)
def rl_YL (b_by b_kind b_seq b_key b_val b_era b_tomb b_gone b_top : Nat → Int32) (I : Nat → Nat → rl_ID) (O G : Nat → Nat → Prop) (top : Nat → Nat) (now : Nat) : Prop :=
  now ≤ 4000 ∧ ∀ r, r < 3 → top r ≤ 600 ∧ b_top r = nI (top r) ∧ ∀ o, o < top r → rl_YR b_by b_kind b_seq b_key b_val b_era b_tomb b_gone I O G r o ∧ rl_W (I r o) now
theorem rl_p1 {n : Nat} (h : n < 2 ^ 31) : nI n - 1 < nI n := by
  rcases Nat.eq_zero_or_pos n with z | z
  · subst z; decide
  · rw [rl_s1 z]; exact nI_lt (by omega) h
section
variable {g_leader g_now : Int32} {b_by b_kind b_seq b_key b_val b_era b_tomb b_gone b_top b_mark b_cleaned b_fetched b_works b_member b_shown : Nat → Int32} {I : Nat → Nat → rl_ID} {O G : Nat → Nat → Prop} {top mark : Nat → Nat} {now : Nat}
theorem rl_yr (h : rl_YL b_by b_kind b_seq b_key b_val b_era b_tomb b_gone b_top I O G top now) {r o : Nat} (hr : r < 3) (ho : o < top r) :
    vp_in (nI (620 * r + o)) 1860 ∧ b_by (nI (620 * r + o)).toNatClampNeg = nI (rl_B (I r o)) ∧ b_kind (nI (620 * r + o)).toNatClampNeg = nI (rl_kd (rl_C (I r o)) (O r o)) ∧
    b_seq (nI (620 * r + o)).toNatClampNeg = rl_S (I r o) ∧ b_key (nI (620 * r + o)).toNatClampNeg = nI (rl_K (I r o)) ∧ b_val (nI (620 * r + o)).toNatClampNeg = rl_V (I r o) ∧
    b_era (nI (620 * r + o)).toNatClampNeg = nI (rl_E (I r o)) ∧ b_tomb (nI (620 * r + o)).toNatClampNeg = nI (rl_T (I r o)) ∧ b_gone (nI (620 * r + o)).toNatClampNeg = rl_b (G r o) := by
  obtain ⟨ht, et, hrow⟩ := h.2 r hr
  rw [nI_clamp (by omega)]
  exact ⟨vp_in_nI (by omega) (by omega), (hrow o ho).1⟩
theorem rl_yw (h : rl_YL b_by b_kind b_seq b_key b_val b_era b_tomb b_gone b_top I O G top now) {r o : Nat} (hr : r < 3) (ho : o < top r) : rl_W (I r o) now := (((h.2 r hr).2.2) o ho).2
theorem rl_yt (h : rl_YL b_by b_kind b_seq b_key b_val b_era b_tomb b_gone b_top I O G top now) {r : Nat} (hr : r < 3) :
    vp_in (nI r) 3 ∧ top r ≤ 600 ∧ b_top (nI r).toNatClampNeg = nI (top r) ∧ (620 : Int32) * nI r + b_top (nI r).toNatClampNeg = nI (620 * r + top r) := by
  obtain ⟨ht, et, hrow⟩ := h.2 r hr
  rw [nI_clamp (by omega), et, rl_620, nI_add]
  exact ⟨vp_in_nI (by omega) (by omega), ht, rfl, rfl⟩
/-! epoch -/
theorem rl_y_ep9 (h : rl_YL b_by b_kind b_seq b_key b_val b_era b_tomb b_gone b_top I O G top now) {r p : Nat} (hr : r < 3) (hp : p < 4) {post : Int32 → Prop}
    (hq : post (nI (rl_ps (I r) p (top r)).1)) : ∀ n o, o ≤ top r → top r - o < n → wY_epoch_9 post (nI r) (nI p) g_leader g_now b_by b_kind b_seq b_key b_val b_era b_tomb b_gone b_top b_mark b_cleaned b_fetched b_works b_member b_shown n (nI (rl_ps (I r) p o).1) (nI (620 * r + o)) := by
  intro n
  induction n with
  | zero => intro o h1 h2; omega
  | succ n ih =>
    intro o ho hn
    obtain ⟨t1, t2, t3, t4⟩ := rl_yt h hr
    refine ⟨t1, pk_le (620 * r + top r) (620 * r + o) (fun z => ?_) (fun z => ?_) t4 rfl⟩
    · have e : o = top r := by omega
      rw [e]; exact hq
    · have hot : o < top r := by omega
      obtain ⟨v0, vB, vK, -⟩ := rl_yr h hr hot
      obtain ⟨w1, w2, -⟩ := rl_yw h hr hot
      have E : rl_ps (I r) p (o + 1) = rl_stp p (rl_ps (I r) p o) (I r o) o := rfl
      have ih1 := ih (o + 1) (by omega) (by omega)
      rw [E] at ih1
      unfold rl_stp at ih1
      refine ⟨v0, pk_eq (rl_B (I r o)) p (fun hb => ⟨v0, ?_⟩) (fun hb => nm_r (nI_1 _) ?_) vB⟩
      · rw [if_pos hb] at ih1
        refine rl_k4 w2 vK (fun hc => nm_r (nI_1 _) (nm_r (nI_1 _) ?_)) (fun hc => nm_r (nI_1 _) ?_)
        · rw [if_pos hc] at ih1; exact ih1
        · rw [if_neg hc] at ih1
          split at ih1 <;> exact ih1
      · rw [if_neg hb] at ih1; exact ih1
theorem rl_y_epoch (h : rl_YL b_by b_kind b_seq b_key b_val b_era b_tomb b_gone b_top I O G top now) {r p : Nat} (hr : r < 3) (hp : p < 4) {post : Int32 → Prop}
    (hq : post (nI (rl_ps (I r) p (top r)).1)) : wpY_epoch post (g_leader, g_now, b_by, b_kind, b_seq, b_key, b_val, b_era, b_tomb, b_gone, b_top, b_mark, b_cleaned, b_fetched, b_works, b_member, b_shown) (nI r) (nI p) := by
  unfold wpY_epoch
  exact nm_r (rl_620 r) ⟨top r + 1, rl_y_ep9 h hr hp hq (top r + 1) 0 (by omega) (by omega)⟩
/-! latest -/
def rl_lv (r : Nat) (x : Option Nat) : Int32 := match x with
  | none => -1
  | some o => nI (620 * r + o)
theorem rl_y_la19 (h : rl_YL b_by b_kind b_seq b_key b_val b_era b_tomb b_gone b_top I O G top now) {r p : Nat} (hr : r < 3) (hp : p < 4) {post : Int32 → Prop} :
    ∀ o n k, o ≤ top r → o < n → k < 100 → post (rl_lv r (rl_la (I r) p o k)) → wY_latest_19 post (nI r) (nI p) g_leader g_now b_by b_kind b_seq b_key b_val b_era b_tomb b_gone b_top b_mark b_cleaned b_fetched b_works b_member b_shown n (nI k) (nI (620 * r + o) - 1) := by
  intro o
  have ht := (rl_yt h hr).2.1
  induction o with
  | zero =>
    intro n k _ hn hk hq
    obtain ⟨m, rfl⟩ : ∃ m, n = m + 1 := ⟨n - 1, by omega⟩
    refine br_t ?_ hq
    rw [rl_620]; exact rl_p1 (by omega)
  | succ o ih =>
    intro n k ho hn hk hq
    obtain ⟨m, rfl⟩ : ∃ m, n = m + 1 := ⟨n - 1, by omega⟩
    have e1 : nI (620 * r + (o + 1)) - 1 = nI (620 * r + o) := rl_s1 (by omega)
    rw [e1]
    obtain ⟨v0, vB, vK, -⟩ := rl_yr h hr (o := o) (by omega)
    obtain ⟨w1, w2, -⟩ := rl_yw h hr (o := o) (by omega)
    have e2 : nI (620 * r + o) + (-1) = nI (620 * r + o) - 1 := (Int32.sub_eq_add_neg _ _).symm
    simp only [rl_la] at hq
    refine br_f ?_ ⟨v0, pk_eq (rl_B (I r o)) p (fun hb => ⟨v0, rl_k4 w2 vK (fun hc => ?_) (fun hc => ⟨v0, rl_k2le w2 vK (fun hd => nm_r e2 ?_) (fun hd => pk_eq k 0 (fun k0 => ?_) (fun k0 => nm_r (rl_m1 (by omega)) (nm_r e2 ?_)))⟩)⟩) (fun hb => nm_r e2 ?_) vB⟩
    · rw [rl_620]; exact nI_nlt (by omega) (by omega)
    · rw [if_pos hb, if_pos hc] at hq; exact hq
    · rw [if_pos hb, if_neg hc, if_neg hd] at hq
      exact ih m k (by omega) (by omega) hk hq
    · rw [if_pos hb, if_neg hc, if_pos hd, if_pos k0] at hq; exact hq
    · rw [if_pos hb, if_neg hc, if_pos hd, if_neg k0] at hq
      exact ih m (k - 1) (by omega) (by omega) (by omega) hq
    · rw [if_neg hb] at hq
      exact ih m k (by omega) (by omega) hk hq
theorem rl_y_latest (h : rl_YL b_by b_kind b_seq b_key b_val b_era b_tomb b_gone b_top I O G top now) {r p k : Nat} (hr : r < 3) (hp : p < 4) (hk : k < 100) {post : Int32 → Prop}
    (hq : post (rl_lv r (rl_la (I r) p (top r) k))) : wpY_latest post (g_leader, g_now, b_by, b_kind, b_seq, b_key, b_val, b_era, b_tomb, b_gone, b_top, b_mark, b_cleaned, b_fetched, b_works, b_member, b_shown) (nI r) (nI p) (nI k) := by
  unfold wpY_latest
  obtain ⟨t1, t2, t3, t4⟩ := rl_yt h hr
  refine ⟨t1, nm_r (e' := nI (620 * r + top r) - 1) (by rw [t4]) ⟨top r + 1, rl_y_la19 h hr hp (top r) (top r + 1) k (by omega) (by omega) hk hq⟩⟩
theorem rl_y_nextSeq (h : rl_YL b_by b_kind b_seq b_key b_val b_era b_tomb b_gone b_top I O G top now) {r p : Nat} (hr : r < 3) (hp : p < 4) (hs : rl_sq (I r) (top r)) {post : Int32 → Prop}
    (hq : post (rl_nx (rl_ps (I r) p (top r)))) : wpY_nextSeq post (g_leader, g_now, b_by, b_kind, b_seq, b_key, b_val, b_era, b_tomb, b_gone, b_top, b_mark, b_cleaned, b_fetched, b_works, b_member, b_shown) (nI r) (nI p) := by
  unfold wpY_nextSeq
  refine rl_y_latest (k := 0) h hr hp (by omega) ?_
  have ht := (rl_yt h hr).2.1
  have hl := rl_la_ps (I r) p (top r) 0 (by omega)
  by_cases z : 0 < (rl_ps (I r) p (top r)).2.1
  · rw [if_pos z] at hl
    obtain ⟨q1, q2⟩ := rl_sq_sp hs 0 z
    obtain ⟨v0, -, -, vS, -⟩ := rl_yr h hr q1
    have e0 : rl_nx (rl_ps (I r) p (top r)) = (rl_ps (I r) p (top r)).2.2.1 + 1 := if_neg (by omega)
    rw [hl]
    refine br_t (nI_pos' (by omega)) ⟨v0, ?_⟩
    show post (b_seq (nI (620 * r + rl_pl (rl_ps (I r) p (top r)) 0)).toNatClampNeg + 1)
    rw [vS, q2, nI_0, Int32.sub_zero, ← e0]; exact hq
  · rw [if_neg z] at hl
    rw [hl]
    have e0 : rl_nx (rl_ps (I r) p (top r)) = 0 := if_pos (by omega)
    rw [e0] at hq
    exact br_f (show ¬ (0 : Int32) ≤ -1 by decide) hq
/-! fate, decided, aborted -/
theorem rl_y_fa4 (h : rl_YL b_by b_kind b_seq b_key b_val b_era b_tomb b_gone b_top I O G top now) {r o : Nat} (hr : r < 3) (ho : o < top r) {post : Int32 → Prop}
    (hq : post (nI (rl_fa (I r) (top r) o))) : ∀ n d, d ≤ top r → top r - d < n → (∀ j, j < d → ¬ rl_dp (I r) o j) → o < d → wY_fate_4 post (nI r) (nI (620 * r + o)) g_leader g_now b_by b_kind b_seq b_key b_val b_era b_tomb b_gone b_top b_mark b_cleaned b_fetched b_works b_member b_shown n (nI (620 * r + d)) := by
  intro n
  induction n with
  | zero => intro d h1 h2; omega
  | succ n ih =>
    intro d hd hn hj hod
    obtain ⟨t1, t2, t3, t4⟩ := rl_yt h hr
    obtain ⟨u0, uB, -⟩ := rl_yr h hr ho
    obtain ⟨x1, -⟩ := rl_yw h hr ho
    refine ⟨t1, pk_le (620 * r + top r) (620 * r + d) (fun z => ?_) (fun z => ?_) t4 rfl⟩
    · have e : rl_de (I r) (top r) o = d := rl_de_eq hd hj (fun y => by omega)
      have e2 : rl_fa (I r) (top r) o = 0 := rl_if (by omega)
      rw [e2] at hq; exact hq
    · have hot : d < top r := by omega
      obtain ⟨v0, vB, vK, -⟩ := rl_yr h hr hot
      obtain ⟨w1, w2, -⟩ := rl_yw h hr hot
      have nx : ¬ rl_dp (I r) o d → wY_fate_4 post (nI r) (nI (620 * r + o)) g_leader g_now b_by b_kind b_seq b_key b_val b_era b_tomb b_gone b_top b_mark b_cleaned b_fetched b_works b_member b_shown n (nI (620 * r + d + 1)) := fun hno =>
        ih (d + 1) (by omega) (by omega) (fun j hjd => by
          rcases Nat.lt_or_ge j d with y | y
          · exact hj j y
          · have e : j = d := by omega
            rw [e]; exact hno) (by omega)
      refine ⟨v0, u0, pk_eq (rl_B (I r d)) (rl_B (I r o)) (fun hb => ⟨v0, rl_kle1 w2 vK (fun hc => nm_r (nI_1 _) (nx (fun y => y.2.2 hc))) (fun hc => ⟨v0, ?_⟩)⟩) (fun hb => nm_r (nI_1 _) (nx (fun y => hb y.2.1))) vB uB⟩
      have e : rl_de (I r) (top r) o = d := rl_de_eq hd hj (fun y => ⟨hod, hb, hc⟩)
      have e2 : rl_fa (I r) (top r) o = rl_C (I r d) := by unfold rl_fa; rw [e]; exact rl_it hot
      rw [vK, rl_kdc hc, ← e2]; exact hq
theorem rl_y_fate (h : rl_YL b_by b_kind b_seq b_key b_val b_era b_tomb b_gone b_top I O G top now) {r o : Nat} (hr : r < 3) (ho : o < top r) {post : Int32 → Prop}
    (hq : post (nI (rl_fa (I r) (top r) o))) : wpY_fate post (g_leader, g_now, b_by, b_kind, b_seq, b_key, b_val, b_era, b_tomb, b_gone, b_top, b_mark, b_cleaned, b_fetched, b_works, b_member, b_shown) (nI r) (nI (620 * r + o)) := by
  unfold wpY_fate
  exact nm_r (nI_1 _) ⟨top r + 1, rl_y_fa4 h hr ho hq (top r + 1) (o + 1) (by omega) (by omega) (fun j hj y => by have := y.1; omega) (by omega)⟩
theorem rl_y_de4 (h : rl_YL b_by b_kind b_seq b_key b_val b_era b_tomb b_gone b_top I O G top now) {r o : Nat} (hr : r < 3) (ho : o < top r) {post : Int32 → Prop}
    (hq : post (nI (rl_de (I r) (top r) o))) : ∀ n d, d ≤ top r → top r - d < n → (∀ j, j < d → ¬ rl_dp (I r) o j) → o < d → wY_decided_4 post (nI r) (nI (620 * r + o)) g_leader g_now b_by b_kind b_seq b_key b_val b_era b_tomb b_gone b_top b_mark b_cleaned b_fetched b_works b_member b_shown n (nI (620 * r + d)) := by
  intro n
  induction n with
  | zero => intro d h1 h2; omega
  | succ n ih =>
    intro d hd hn hj hod
    obtain ⟨t1, t2, t3, t4⟩ := rl_yt h hr
    obtain ⟨u0, uB, -⟩ := rl_yr h hr ho
    obtain ⟨x1, -⟩ := rl_yw h hr ho
    refine ⟨t1, pk_le (620 * r + top r) (620 * r + d) (fun z => ⟨t1, ?_⟩) (fun z => ?_) t4 rfl⟩
    · have e : rl_de (I r) (top r) o = d := rl_de_eq hd hj (fun y => by omega)
      have e2 : d = top r := by omega
      rw [e, e2] at hq
      rw [t3]; exact hq
    · have hot : d < top r := by omega
      obtain ⟨v0, vB, vK, -⟩ := rl_yr h hr hot
      obtain ⟨w1, w2, -⟩ := rl_yw h hr hot
      have nx : ¬ rl_dp (I r) o d → wY_decided_4 post (nI r) (nI (620 * r + o)) g_leader g_now b_by b_kind b_seq b_key b_val b_era b_tomb b_gone b_top b_mark b_cleaned b_fetched b_works b_member b_shown n (nI (620 * r + d + 1)) := fun hno =>
        ih (d + 1) (by omega) (by omega) (fun j hjd => by
          rcases Nat.lt_or_ge j d with y | y
          · exact hj j y
          · have e : j = d := by omega
            rw [e]; exact hno) (by omega)
      refine ⟨v0, u0, pk_eq (rl_B (I r d)) (rl_B (I r o)) (fun hb => ⟨v0, rl_kle1 w2 vK (fun hc => nm_r (nI_1 _) (nx (fun y => y.2.2 hc))) (fun hc => ?_)⟩) (fun hb => nm_r (nI_1 _) (nx (fun y => hb y.2.1))) vB uB⟩
      have e : rl_de (I r) (top r) o = d := rl_de_eq hd hj (fun y => ⟨hod, hb, hc⟩)
      have e2 : nI (620 * r + d) - 620 * nI r = nI (rl_de (I r) (top r) o) := by
        rw [rl_620, pk_sub (by omega), e]; exact congrArg nI (by omega)
      rw [e2]; exact hq
theorem rl_y_decided (h : rl_YL b_by b_kind b_seq b_key b_val b_era b_tomb b_gone b_top I O G top now) {r o : Nat} (hr : r < 3) (ho : o < top r) {post : Int32 → Prop}
    (hq : post (nI (rl_de (I r) (top r) o))) : wpY_decided post (g_leader, g_now, b_by, b_kind, b_seq, b_key, b_val, b_era, b_tomb, b_gone, b_top, b_mark, b_cleaned, b_fetched, b_works, b_member, b_shown) (nI r) (nI (620 * r + o)) := by
  unfold wpY_decided
  exact nm_r (nI_1 _) ⟨top r + 1, rl_y_de4 h hr ho hq (top r + 1) (o + 1) (by omega) (by omega) (fun j hj y => by have := y.1; omega) (by omega)⟩
theorem rl_fa_sp (h : rl_YL b_by b_kind b_seq b_key b_val b_era b_tomb b_gone b_top I O G top now) {r o : Nat} (hr : r < 3) (ho : o < top r) :
    (rl_de (I r) (top r) o < top r ∧ rl_fa (I r) (top r) o = rl_C (I r (rl_de (I r) (top r) o)) ∧ 2 ≤ rl_fa (I r) (top r) o ∧ rl_fa (I r) (top r) o ≤ 4) ∨ (¬ rl_de (I r) (top r) o < top r ∧ rl_fa (I r) (top r) o = 0) := by
  obtain ⟨d1, d2, d3, d4⟩ := rl_de_sp (I r) ho
  rcases Nat.lt_or_ge (rl_de (I r) (top r) o) (top r) with z | z
  · have e : rl_fa (I r) (top r) o = rl_C (I r (rl_de (I r) (top r) o)) := rl_it z
    obtain ⟨w1, w2, -⟩ := rl_yw h hr z
    have := (d4 z).2.2
    exact Or.inl ⟨z, e, by omega, by omega⟩
  · exact Or.inr ⟨by omega, rl_if (by omega)⟩
theorem rl_y_aborted (h : rl_YL b_by b_kind b_seq b_key b_val b_era b_tomb b_gone b_top I O G top now) {r o : Nat} (hr : r < 3) (ho : o < top r) {post : Int32 → Prop}
    (hq : post (rl_b (rl_ab (I r) (O r) (top r) o))) : wpY_aborted post (g_leader, g_now, b_by, b_kind, b_seq, b_key, b_val, b_era, b_tomb, b_gone, b_top, b_mark, b_cleaned, b_fetched, b_works, b_member, b_shown) (nI r) (nI (620 * r + o)) := by
  unfold wpY_aborted
  obtain ⟨v0, vB, vK, -⟩ := rl_yr h hr ho
  obtain ⟨w1, w2, -⟩ := rl_yw h hr ho
  have hf := rl_fa_sp h hr ho
  refine ⟨v0, rl_k1 w2 vK (fun hc => rl_y_fate h hr ho (pk_le (rl_fa (I r) (top r) o) 2 (fun z => ?_) (fun z => ?_) rfl rfl (by omega))) (fun hc => ?_)⟩
  · rw [rl_bf] at hq
    · exact hq
    · intro y
      have := y.2.1; have := y.2.2
      omega
  · rw [rl_bt] at hq
    · exact hq
    · refine ⟨hc, ?_, ?_⟩ <;> omega
  · rw [rl_bf (fun y => hc y.1)] at hq; exact hq
/-! held -/
theorem rl_y_he8 (h : rl_YL b_by b_kind b_seq b_key b_val b_era b_tomb b_gone b_top I O G top now) {r : Nat} (hr : r < 3) {post : Int32 → Prop}
    (hq : post (nI (rl_rk (G r) (top r)))) : ∀ n o, o ≤ top r → top r - o < n → wY_held_8 post (nI r) g_leader g_now b_by b_kind b_seq b_key b_val b_era b_tomb b_gone b_top b_mark b_cleaned b_fetched b_works b_member b_shown n (nI (rl_rk (G r) o)) (nI (620 * r + o)) := by
  intro n
  induction n with
  | zero => intro o h1 h2; omega
  | succ n ih =>
    intro o ho hn
    obtain ⟨t1, t2, t3, t4⟩ := rl_yt h hr
    refine ⟨t1, pk_le (620 * r + top r) (620 * r + o) (fun z => ?_) (fun z => ?_) t4 rfl⟩
    · have e : o = top r := by omega
      rw [e]; exact hq
    · have hot : o < top r := by omega
      obtain ⟨v0, -, -, -, -, -, -, -, vG⟩ := rl_yr h hr hot
      have ih1 := ih (o + 1) (by omega) (by omega)
      refine ⟨v0, rl_br vG (fun hg => nm_r (nI_1 _) (nm_r (nI_1 _) ?_)) (fun hg => nm_r (nI_1 _) ?_)⟩
      · rw [rl_rk_f hg] at ih1; exact ih1
      · rw [rl_rk_t hg] at ih1; exact ih1
theorem rl_y_held (h : rl_YL b_by b_kind b_seq b_key b_val b_era b_tomb b_gone b_top I O G top now) {r : Nat} (hr : r < 3) {post : Int32 → Prop}
    (hq : post (nI (rl_rk (G r) (top r)))) : wpY_held post (g_leader, g_now, b_by, b_kind, b_seq, b_key, b_val, b_era, b_tomb, b_gone, b_top, b_mark, b_cleaned, b_fetched, b_works, b_member, b_shown) (nI r) := by
  unfold wpY_held
  exact nm_r (rl_620 r) ⟨top r + 1, rl_y_he8 h hr hq (top r + 1) 0 (by omega) (by omega)⟩
/-! undecided -/
theorem rl_y_ud6 (h : rl_YL b_by b_kind b_seq b_key b_val b_era b_tomb b_gone b_top I O G top now) {r p : Nat} (hr : r < 3) (hp : p < 4) {post : Int32 → Prop}
    (hq : post (nI (rl_ud (I r) (O r) (G r) (top r) p))) : ∀ n o, o ≤ top r → top r - o < n → (∀ j, j < o → ¬ rl_up (I r) (O r) (G r) (top r) p j) → wY_undecided_6 post (nI r) (nI p) g_leader g_now b_by b_kind b_seq b_key b_val b_era b_tomb b_gone b_top b_mark b_cleaned b_fetched b_works b_member b_shown n (nI (620 * r + o)) := by
  intro n
  induction n with
  | zero => intro o h1 h2; omega
  | succ n ih =>
    intro o ho hn hj
    obtain ⟨t1, t2, t3, t4⟩ := rl_yt h hr
    refine ⟨t1, pk_le (620 * r + top r) (620 * r + o) (fun z => ⟨t1, ?_⟩) (fun z => ?_) t4 rfl⟩
    · have e : rl_ud (I r) (O r) (G r) (top r) p = o := rl_fs_eq ho hj (fun y => by omega)
      have e2 : o = top r := by omega
      rw [e, e2] at hq; rw [t3]; exact hq
    · have hot : o < top r := by omega
      obtain ⟨v0, vB, vK, -, -, -, -, -, vG⟩ := rl_yr h hr hot
      obtain ⟨w1, w2, -⟩ := rl_yw h hr hot
      have nx : ¬ rl_up (I r) (O r) (G r) (top r) p o → wY_undecided_6 post (nI r) (nI p) g_leader g_now b_by b_kind b_seq b_key b_val b_era b_tomb b_gone b_top b_mark b_cleaned b_fetched b_works b_member b_shown n (nI (620 * r + o + 1)) := fun hno =>
        ih (o + 1) (by omega) (by omega) (fun j hjd => by
          rcases Nat.lt_or_ge j o with y | y
          · exact hj j y
          · have e : j = o := by omega
            rw [e]; exact hno)
      have hf := rl_fa_sp h hr hot
      refine br_f (nI_pos (by omega)) ⟨v0, pk_eq (rl_B (I r o)) p (fun hb => ?_) (fun hb => nm_r (nI_1 _) (nx (fun y => hb y.2.2.2.1))) vB⟩
      unfold wY_undecided_36
      refine ⟨v0, rl_k1 w2 vK (fun hc => ⟨v0, rl_br vG (fun hg => rl_y_fate h hr hot (pk_eq (rl_fa (I r) (top r) o) 0 (fun z => ?_) (fun z => nm_r (nI_1 _) (nx (fun y => ?_))) rfl rfl (by omega))) (fun hg => nm_r (nI_1 _) (nx (fun y => y.1 hg)))⟩) (fun hc => nm_r (nI_1 _) (nx (fun y => hc ⟨y.2.1, y.2.2.1⟩)))⟩
      · have e : rl_ud (I r) (O r) (G r) (top r) p = o := rl_fs_eq ho hj (fun y => ⟨hg, hc.1, hc.2, hb, by omega⟩)
        have e2 : nI (620 * r + o) - 620 * nI r = nI (rl_ud (I r) (O r) (G r) (top r) p) := by
          rw [rl_620, pk_sub (by omega), e]; exact congrArg nI (by omega)
        rw [e2]; exact hq
      · have := y.2.2.2.2; omega
theorem rl_y_undecided (h : rl_YL b_by b_kind b_seq b_key b_val b_era b_tomb b_gone b_top I O G top now) {r p : Nat} (hr : r < 3) (hp : p < 4) {post : Int32 → Prop}
    (hq : post (nI (rl_ud (I r) (O r) (G r) (top r) p))) : wpY_undecided post (g_leader, g_now, b_by, b_kind, b_seq, b_key, b_val, b_era, b_tomb, b_gone, b_top, b_mark, b_cleaned, b_fetched, b_works, b_member, b_shown) (nI r) (nI p) := by
  unfold wpY_undecided
  exact nm_r (rl_620 r) ⟨top r + 1, rl_y_ud6 h hr hp hq (top r + 1) 0 (by omega) (by omega) (fun j hj => by omega)⟩
/-! stable -/
theorem rl_y_sb2 (h : rl_YL b_by b_kind b_seq b_key b_val b_era b_tomb b_gone b_top I O G top now) {r : Nat} (hr : r < 3) (hm : b_mark r = nI (mark r)) (hmt : mark r ≤ top r) {post : Int32 → Prop}
    (hq : post (nI (rl_sb (I r) (O r) (G r) (top r) (mark r)))) : ∀ n o, o ≤ mark r → mark r - o < n → (∀ j, j < o → ¬ rl_sp (I r) (O r) (G r) (top r) (mark r) j) → wY_stable_2 post (nI r) g_leader g_now b_by b_kind b_seq b_key b_val b_era b_tomb b_gone b_top b_mark b_cleaned b_fetched b_works b_member b_shown n (nI o) := by
  intro n
  induction n with
  | zero => intro o h1 h2; omega
  | succ n ih =>
    intro o ho hn hj
    obtain ⟨t1, t2, t3, t4⟩ := rl_yt h hr
    have em : b_mark (nI r).toNatClampNeg = nI (mark r) := by rw [nI_clamp (by omega)]; exact hm
    refine ⟨t1, pk_le (mark r) o (fun z => ⟨t1, ?_⟩) (fun z => ⟨t1, pk_le (top r) o (fun z2 => ?_) (fun z2 => nm_r (e' := nI (620 * r + o)) (by rw [rl_620, nI_add]) ?_) t3 rfl⟩) em rfl⟩
    · have e : rl_sb (I r) (O r) (G r) (top r) (mark r) = o := rl_fs_eq ho hj (fun y => by omega)
      have e2 : o = mark r := by omega
      rw [e, e2] at hq; rw [em]; exact hq
    · omega
    · have hot : o < top r := by omega
      obtain ⟨v0, vB, vK, -, -, -, -, -, vG⟩ := rl_yr h hr hot
      obtain ⟨w1, w2, -⟩ := rl_yw h hr hot
      have nx : ¬ rl_sp (I r) (O r) (G r) (top r) (mark r) o → wY_stable_2 post (nI r) g_leader g_now b_by b_kind b_seq b_key b_val b_era b_tomb b_gone b_top b_mark b_cleaned b_fetched b_works b_member b_shown n (nI (o + 1)) := fun hno =>
        ih (o + 1) (by omega) (by omega) (fun j hjd => by
          rcases Nat.lt_or_ge j o with y | y
          · exact hj j y
          · have e : j = o := by omega
            rw [e]; exact hno)
      have hd := rl_de_sp (I r) hot
      have yes : rl_sp (I r) (O r) (G r) (top r) (mark r) o → post (nI o) := fun y => by
        have e : rl_sb (I r) (O r) (G r) (top r) (mark r) = o := rl_fs_eq ho hj (fun _ => y)
        rw [e] at hq; exact hq
      refine ⟨v0, rl_k1 w2 vK (fun hc => ⟨v0, rl_br vG (fun hg => rl_y_decided h hr hot ⟨t1, pk_le (mark r) (rl_de (I r) (top r) o) (fun z3 => yes ⟨hg, hc.1, hc.2, z3⟩) (fun z3 => ⟨t1, pk_eq (rl_de (I r) (top r) o) (top r) (fun z4 => yes ⟨hg, hc.1, hc.2, by omega⟩) (fun z4 => nm_r (nI_1 _) (nx (fun y => by have := y.2.2.2; omega))) rfl t3⟩) em rfl⟩) (fun hg => nm_r (nI_1 _) (nx (fun y => y.1 hg)))⟩) (fun hc => nm_r (nI_1 _) (nx (fun y => hc ⟨y.2.1, y.2.2.1⟩)))⟩
theorem rl_y_stable (h : rl_YL b_by b_kind b_seq b_key b_val b_era b_tomb b_gone b_top I O G top now) {r : Nat} (hr : r < 3) (hm : b_mark r = nI (mark r)) (hmt : mark r ≤ top r) {post : Int32 → Prop}
    (hq : post (nI (rl_sb (I r) (O r) (G r) (top r) (mark r)))) : wpY_stable post (g_leader, g_now, b_by, b_kind, b_seq, b_key, b_val, b_era, b_tomb, b_gone, b_top, b_mark, b_cleaned, b_fetched, b_works, b_member, b_shown) (nI r) := by
  unfold wpY_stable
  exact ⟨mark r + 1, rl_y_sb2 h hr hm hmt hq (mark r + 1) 0 (by omega) (by omega) (fun j hj => by omega)⟩
/-! full -/
def rl_fu (G : Nat → Nat → Prop) (top mark : Nat → Nat) (L : Nat) : Prop := 40 ≤ rl_rk (G L) (top L) ∨ 600 ≤ top L ∨ 60 ≤ top L - rl_ls mark
theorem rl_y_fu32 (h : rl_YL b_by b_kind b_seq b_key b_val b_era b_tomb b_gone b_top I O G top now) {L : Nat} (hL : L < 3) (hm : ∀ r, r < 3 → b_mark r = nI (mark r) ∧ mark r ≤ top L) {post : Int32 → Prop}
    (hl : g_leader = nI L) (hq : post (rl_b (60 ≤ top L - rl_ls mark))) : ∀ n j, j ≤ 3 → 3 - j < n → (∀ r, r < j → top L - mark r < 60) → wY_full_32 post g_leader g_now b_by b_kind b_seq b_key b_val b_era b_tomb b_gone b_top b_mark b_cleaned b_fetched b_works b_member b_shown n (nI j) := by
  intro n
  induction n with
  | zero => intro j h1 h2; omega
  | succ n ih =>
    intro j hj hn hlt
    subst hl
    obtain ⟨t1, t2, t3, t4⟩ := rl_yt h hL
    refine pk_le 3 j (fun z => ?_) (fun z => ?_)
    · have h0 := hlt 0 (by omega); have h1 := hlt 1 (by omega); have h2 := hlt 2 (by omega)
      rw [rl_bf] at hq
      · exact hq
      · unfold rl_ls; omega
    · obtain ⟨m1, m2⟩ := hm j z
      have e : b_top (nI L).toNatClampNeg - b_mark (nI j).toNatClampNeg = nI (top L - mark j) := by
        rw [t3, nI_clamp (by omega), m1, pk_sub m2]
      refine ⟨t1, vp_in_nI z (by omega), pk_lt (top L - mark j) 60 (fun y => nm_r (nI_1 _) (ih (j + 1) (by omega) (by omega) (fun r hr => ?_))) (fun y => ?_) e rfl⟩
      · rcases Nat.lt_or_ge r j with x | x
        · exact hlt r x
        · have er : r = j := by omega
          rw [er]; exact y
      · have := rl_ls_le (mark := mark) z
        rw [rl_bt (by omega)] at hq; exact hq
theorem rl_y_full (h : rl_YL b_by b_kind b_seq b_key b_val b_era b_tomb b_gone b_top I O G top now) {L : Nat} (hL : L < 3) (hm : ∀ r, r < 3 → b_mark r = nI (mark r) ∧ mark r ≤ top L) {post : Int32 → Prop}
    (hl : g_leader = nI L) (hq : post (rl_b (rl_fu G top mark L))) : wpY_full post (g_leader, g_now, b_by, b_kind, b_seq, b_key, b_val, b_era, b_tomb, b_gone, b_top, b_mark, b_cleaned, b_fetched, b_works, b_member, b_shown) := by
  subst hl
  unfold wpY_full
  obtain ⟨t1, t2, t3, t4⟩ := rl_yt h hL
  have hrk := rl_rk_le (G L) (top L)
  refine rl_y_held h hL (pk_le 40 (rl_rk (G L) (top L)) (fun z => ?_) (fun z => ⟨t1, pk_lt (top L) 600 (fun z2 => ⟨4, ?_⟩) (fun z2 => ?_) t3 rfl⟩))
  · rw [rl_bt (P := rl_fu G top mark L) (Or.inl z)] at hq; exact hq
  · refine rl_y_fu32 h hL hm rfl ?_ 4 0 (by omega) (by omega) (fun r hr => by omega)
    have e : rl_fu G top mark L ↔ 60 ≤ top L - rl_ls mark := ⟨fun y => y.elim (fun w => by omega) (fun w => w.elim (fun v => by omega) id), fun y => Or.inr (Or.inr y)⟩
    rw [rl_bcg e] at hq; exact hq
  · rw [rl_bt (P := rl_fu G top mark L) (Or.inr (Or.inl z2))] at hq; exact hq
end
end
section
/-! X's table: the record o of a replica is its row by rank -/
def rl_TX (a_offset a_kind a_who a_key a_value a_tomb a_sequence a_era a_state a_decidedAt : Nat → Int32) (i t : Nat) (I : Nat → rl_ID) (O : Nat → Prop) (o : Nat) : Prop :=
  a_offset i = nI o ∧ a_kind i = nI (rl_C (I o) - 1) ∧ a_who i = nI (rl_B (I o)) ∧ a_key i = nI (rl_K (I o)) ∧ a_value i = rl_V (I o) ∧ a_tomb i = nI (rl_T (I o)) ∧
  a_sequence i = rl_S (I o) ∧ a_era i = nI (rl_E (I o)) ∧ a_state i = nI (rl_st I O t o) ∧ (1 < rl_st I O t o → a_decidedAt i = nI (rl_de I t o))
def rl_TB (a_offset a_kind a_who a_key a_value a_tomb a_sequence a_era a_state a_decidedAt : Nat → Int32) (r t : Nat) (I : Nat → rl_ID) (O G : Nat → Prop) (now : Nat) : Prop :=
  now ≤ 4000 ∧ t ≤ 600 ∧ rl_rk G t ≤ 40 ∧ ∀ o, o < t → rl_W (I o) now ∧ (¬ G o → rl_TX a_offset a_kind a_who a_key a_value a_tomb a_sequence a_era a_state a_decidedAt (40 * r + rl_rk G o) t I O o)
theorem rl_TX_cg {a_offset a_kind a_who a_key a_value a_tomb a_sequence a_era a_state a_decidedAt c_offset c_kind c_who c_key c_value c_tomb c_sequence c_era c_state c_decidedAt : Nat → Int32} {i t : Nat} {I : Nat → rl_ID} {O : Nat → Prop} {o : Nat}
    (h : rl_TX a_offset a_kind a_who a_key a_value a_tomb a_sequence a_era a_state a_decidedAt i t I O o) (e : (c_offset i, c_kind i, c_who i, c_key i, c_value i, c_tomb i, c_sequence i, c_era i, c_state i, c_decidedAt i) = (a_offset i, a_kind i, a_who i, a_key i, a_value i, a_tomb i, a_sequence i, a_era i, a_state i, a_decidedAt i)) :
    rl_TX c_offset c_kind c_who c_key c_value c_tomb c_sequence c_era c_state c_decidedAt i t I O o := by
  simp only [Prod.mk.injEq] at e
  obtain ⟨e1, e2, e3, e4, e5, e6, e7, e8, e9, e10⟩ := e
  unfold rl_TX at h ⊢
  rw [e1, e2, e3, e4, e5, e6, e7, e8, e9, e10]; exact h
def rl_ER (a_eraAt a_eraOf a_eras : Nat → Int32) (r t ls : Nat) (E : Nat → Nat) (n : Nat) (ea eo : Nat → Nat) : Prop :=
  a_eras r = nI n ∧ (∀ k, k < n → a_eraAt (64 * r + k) = nI (ea k) ∧ a_eraOf (64 * r + k) = nI (eo k)) ∧ (n = 0 → t = 0) ∧ (0 < n → ea (n - 1) < t) ∧
  (∀ k, k + 1 < n → ea k < ea (k + 1) ∧ eo k < eo (k + 1)) ∧ (∀ k, k < n → ∀ o, ea k ≤ o → o < t → (k + 1 < n → o < ea (k + 1)) → E o = eo k) ∧
  (0 < n → ea 0 = 0 ∨ ea 0 < ls) ∧ (∀ k, 0 < k → k < n → ls ≤ ea k)
def rl_pv (a_epoch a_latest a_last a_places : Nat → Int32) (q : Nat) : Int32 × Int32 × Int32 × Int32 × Int32 × Int32 := (a_epoch q, a_latest q, a_last q, a_places (3 * q), a_places (3 * q + 1), a_places (3 * q + 2))
def rl_pe (v : rl_PS) : Int32 × Int32 × Int32 × Int32 × Int32 × Int32 := (nI v.1, nI v.2.1, v.2.2.1, nI v.2.2.2.1, nI v.2.2.2.2.1, nI v.2.2.2.2.2)
def rl_PR (a_epoch a_latest a_last a_places : Nat → Int32) (r t : Nat) (I : Nat → rl_ID) : Prop := ∀ p, p < 4 → rl_pv a_epoch a_latest a_last a_places (4 * r + p) = rl_pe (rl_ps I p t)
section
variable {f_leader f_inside f_now f_foundKey f_foundValue f_foundTomb f_foundWho f_foundSequence f_foundEra : Int32} {a_offset a_kind a_who a_key a_value a_tomb a_sequence a_era a_state a_decidedAt a_dead a_count a_end a_mark a_cleaned a_gone a_eraAt a_eraOf a_eras a_epoch a_latest a_last a_places a_baseEpoch a_baseLatest a_baseLast a_basePlaces a_base a_fetched : Nat → Int32} {I : Nat → rl_ID} {O G : Nat → Prop} {r t now : Nat} {mark : Nat → Nat}
theorem rl_xr (h : rl_TB a_offset a_kind a_who a_key a_value a_tomb a_sequence a_era a_state a_decidedAt r t I O G now) (hr : r < 3) {o : Nat} (ho : o < t) (hg : ¬ G o) :
    vp_in (nI (40 * r + rl_rk G o)) 120 ∧ a_offset (nI (40 * r + rl_rk G o)).toNatClampNeg = nI o ∧ a_kind (nI (40 * r + rl_rk G o)).toNatClampNeg = nI (rl_C (I o) - 1) ∧
    a_who (nI (40 * r + rl_rk G o)).toNatClampNeg = nI (rl_B (I o)) ∧ a_key (nI (40 * r + rl_rk G o)).toNatClampNeg = nI (rl_K (I o)) ∧ a_value (nI (40 * r + rl_rk G o)).toNatClampNeg = rl_V (I o) ∧
    a_tomb (nI (40 * r + rl_rk G o)).toNatClampNeg = nI (rl_T (I o)) ∧ a_sequence (nI (40 * r + rl_rk G o)).toNatClampNeg = rl_S (I o) ∧ a_era (nI (40 * r + rl_rk G o)).toNatClampNeg = nI (rl_E (I o)) ∧
    a_state (nI (40 * r + rl_rk G o)).toNatClampNeg = nI (rl_st I O t o) ∧ (1 < rl_st I O t o → a_decidedAt (nI (40 * r + rl_rk G o)).toNatClampNeg = nI (rl_de I t o)) := by
  obtain ⟨h1, h2, h3, h4⟩ := h
  have := rl_rk_lt ho hg
  rw [nI_clamp (by omega)]
  exact ⟨vp_in_nI (by omega) (by omega), (h4 o ho).2 hg⟩
theorem rl_xw (h : rl_TB a_offset a_kind a_who a_key a_value a_tomb a_sequence a_era a_state a_decidedAt r t I O G now) {o : Nat} (ho : o < t) : rl_W (I o) now := (h.2.2.2 o ho).1
theorem rl_xc (h : rl_TB a_offset a_kind a_who a_key a_value a_tomb a_sequence a_era a_state a_decidedAt r t I O G now) (hr : r < 3) (hc : a_count r = nI (rl_rk G t)) :
    vp_in (nI r) 3 ∧ a_count (nI r).toNatClampNeg = nI (rl_rk G t) ∧ (40 : Int32) * nI r + a_count (nI r).toNatClampNeg = nI (40 * r + rl_rk G t) ∧ rl_rk G t ≤ 40 ∧ t ≤ 600 := by
  rw [nI_clamp (by omega), hc, rl_40, nI_add]
  exact ⟨vp_in_nI (by omega) (by omega), rfl, rfl, h.2.2.1, h.2.1⟩
/-! firstUndecided -/
def rl_uv (t u : Nat) : Int32 := if u < t then nI u else -1
theorem rl_x_fu5 (h : rl_TB a_offset a_kind a_who a_key a_value a_tomb a_sequence a_era a_state a_decidedAt r t I O G now) (hr : r < 3) (hc : a_count r = nI (rl_rk G t)) {p : Nat} (hp : p < 4) {post : Int32 → Prop}
    (hq : post (rl_uv t (rl_ud I O G t p))) : ∀ d o n, o + d = t → rl_rk G t - rl_rk G o < n → (∀ j, j < o → ¬ rl_up I O G t p j) → wX_firstUndecided_5 post (nI r) (nI p) f_leader f_inside f_now f_foundKey f_foundValue f_foundTomb f_foundWho f_foundSequence f_foundEra a_offset a_kind a_who a_key a_value a_tomb a_sequence a_era a_state a_decidedAt a_dead a_count a_end a_mark a_cleaned a_gone a_eraAt a_eraOf a_eras a_epoch a_latest a_last a_places a_baseEpoch a_baseLatest a_baseLast a_basePlaces a_base a_fetched n (nI (40 * r + rl_rk G o)) := by
  obtain ⟨c1, c2, c3, c4, c5⟩ := rl_xc h hr hc
  intro d
  induction d with
  | zero =>
    intro o n ho hn hj
    obtain ⟨m, rfl⟩ : ∃ m, n = m + 1 := ⟨n - 1, by omega⟩
    have eo : o = t := by omega
    subst eo
    have e : rl_ud I O G o p = o := rl_fs_eq (Nat.le_refl _) hj (fun y => absurd y (Nat.lt_irrefl _))
    have e2 : rl_uv o (rl_ud I O G o p) = -1 := by rw [e]; exact if_neg (Nat.lt_irrefl _)
    rw [e2] at hq
    exact ⟨c1, br_t (by rw [c3]; exact nI_le (Nat.le_refl _) (by omega)) hq⟩
  | succ d ih =>
    intro o n ho hn hj
    have hot : o < t := by omega
    have nx : ¬ rl_up I O G t p o → ∀ j, j < o + 1 → ¬ rl_up I O G t p j := fun hno j hjd => by
      rcases Nat.lt_or_ge j o with y | y
      · exact hj j y
      · have e : j = o := by omega
        rw [e]; exact hno
    rcases Classical.em (G o) with hg | hg
    · have e := rl_rk_t hg
      rw [← e] at hn ⊢
      exact ih (o + 1) n (by omega) hn (nx (fun y => y.1 hg))
    · obtain ⟨m, rfl⟩ : ∃ m, n = m + 1 := ⟨n - 1, by omega⟩
      have e := rl_rk_f hg
      have hlt := rl_rk_lt hot hg
      obtain ⟨v0, vO, vK, vW, -, -, -, -, -, vS, vD⟩ := rl_xr h hr hot hg
      obtain ⟨w1, w2, -⟩ := rl_xw h hot
      have hs := rl_st_sp I O t o
      have hs3 := rl_st_le I O t o
      have go : ¬ rl_up I O G t p o → wX_firstUndecided_5 post (nI r) (nI p) f_leader f_inside f_now f_foundKey f_foundValue f_foundTomb f_foundWho f_foundSequence f_foundEra a_offset a_kind a_who a_key a_value a_tomb a_sequence a_era a_state a_decidedAt a_dead a_count a_end a_mark a_cleaned a_gone a_eraAt a_eraOf a_eras a_epoch a_latest a_last a_places a_baseEpoch a_baseLatest a_baseLast a_basePlaces a_base a_fetched m (nI (40 * r + rl_rk G o + 1)) := fun hno => by
        have := ih (o + 1) m (by omega) (by omega) (nx hno)
        rw [e] at this; exact this
      refine ⟨c1, pk_le (40 * r + rl_rk G t) (40 * r + rl_rk G o) (fun z => by omega) (fun z => ⟨v0, pk_eq (rl_st I O t o) 1 (fun s1 => ⟨v0, pk_eq (rl_B (I o)) p (fun hb => ⟨v0, ?_⟩) (fun hb => nm_r (nI_1 _) (go (fun y => hb y.2.2.2.1))) vW⟩) (fun s1 => nm_r (nI_1 _) (go (fun y => s1 (hs.2.1.mpr ⟨⟨y.2.1, y.2.2.1⟩, y.2.2.2.2⟩)))) vS⟩) c3 rfl⟩
      have hy := hs.2.1.mp s1
      have e : rl_ud I O G t p = o := rl_fs_eq (by omega) hj (fun _ => ⟨hg, hy.1.1, hy.1.2, hb, hy.2⟩)
      have e2 : rl_uv t (rl_ud I O G t p) = nI o := by rw [e]; exact if_pos hot
      rw [vO, ← e2]; exact hq
theorem rl_x_firstUndecided (h : rl_TB a_offset a_kind a_who a_key a_value a_tomb a_sequence a_era a_state a_decidedAt r t I O G now) (hr : r < 3) (hc : a_count r = nI (rl_rk G t)) {p : Nat} (hp : p < 4) {post : Int32 → Prop}
    (hq : post (rl_uv t (rl_ud I O G t p))) : wpX_firstUndecided post (f_leader, f_inside, f_now, f_foundKey, f_foundValue, f_foundTomb, f_foundWho, f_foundSequence, f_foundEra, a_offset, a_kind, a_who, a_key, a_value, a_tomb, a_sequence, a_era, a_state, a_decidedAt, a_dead, a_count, a_end, a_mark, a_cleaned, a_gone, a_eraAt, a_eraOf, a_eras, a_epoch, a_latest, a_last, a_places, a_baseEpoch, a_baseLatest, a_baseLast, a_basePlaces, a_base, a_fetched) (nI r) (nI p) := by
  unfold wpX_firstUndecided
  exact nm_r (rl_40 r) ⟨rl_rk G t + 1, rl_x_fu5 h hr hc hp hq t 0 (rl_rk G t + 1) (by omega) (by omega) (fun j hj => by omega)⟩
/-! stable -/
theorem rl_x_sb12 (h : rl_TB a_offset a_kind a_who a_key a_value a_tomb a_sequence a_era a_state a_decidedAt r t I O G now) (hr : r < 3) (hc : a_count r = nI (rl_rk G t)) {m : Nat} (hm : m ≤ t) {post : Int32 → Prop}
    (hq : post (nI (rl_sb I O G t m))) : ∀ d o n, o + d = t → rl_rk G t - rl_rk G o < n → (∀ j, j < o → j < m → ¬ rl_sp I O G t m j) → wX_stable_12 post (nI r) (nI m) f_leader f_inside f_now f_foundKey f_foundValue f_foundTomb f_foundWho f_foundSequence f_foundEra a_offset a_kind a_who a_key a_value a_tomb a_sequence a_era a_state a_decidedAt a_dead a_count a_end a_mark a_cleaned a_gone a_eraAt a_eraOf a_eras a_epoch a_latest a_last a_places a_baseEpoch a_baseLatest a_baseLast a_basePlaces a_base a_fetched n (nI (40 * r + rl_rk G o)) := by
  obtain ⟨c1, c2, c3, c4, c5⟩ := rl_xc h hr hc
  intro d
  induction d with
  | zero =>
    intro o n ho hn hj
    obtain ⟨k, rfl⟩ : ∃ k, n = k + 1 := ⟨n - 1, by omega⟩
    have e : rl_sb I O G t m = m := rl_fs_eq (Nat.le_refl _) (fun j hjm => hj j (by omega) hjm) (fun y => absurd y (Nat.lt_irrefl _))
    have eo : o = t := by omega
    rw [e] at hq
    refine ⟨c1, br_t ?_ hq⟩
    rw [c3, eo]; exact nI_le (Nat.le_refl _) (by omega)
  | succ d ih =>
    intro o n ho hn hj
    have hot : o < t := by omega
    have nx : (o < m → ¬ rl_sp I O G t m o) → ∀ j, j < o + 1 → j < m → ¬ rl_sp I O G t m j := fun hno j hjd hjm => by
      rcases Nat.lt_or_ge j o with y | y
      · exact hj j y hjm
      · have e : j = o := by omega
        rw [e] at hjm ⊢; exact hno hjm
    rcases Classical.em (G o) with hg | hg
    · have e := rl_rk_t hg
      rw [← e] at hn ⊢
      exact ih (o + 1) n (by omega) hn (nx (fun _ y => y.1 hg))
    · obtain ⟨k, rfl⟩ : ∃ k, n = k + 1 := ⟨n - 1, by omega⟩
      have e := rl_rk_f hg
      have hlt := rl_rk_lt hot hg
      obtain ⟨v0, vO, vK, vW, -, -, -, -, -, vS, vD⟩ := rl_xr h hr hot hg
      have hs := rl_st_sp I O t o
      have hs3 := rl_st_le I O t o
      have hd := rl_de_sp I hot
      have go : ¬ rl_sp I O G t m o → wX_stable_12 post (nI r) (nI m) f_leader f_inside f_now f_foundKey f_foundValue f_foundTomb f_foundWho f_foundSequence f_foundEra a_offset a_kind a_who a_key a_value a_tomb a_sequence a_era a_state a_decidedAt a_dead a_count a_end a_mark a_cleaned a_gone a_eraAt a_eraOf a_eras a_epoch a_latest a_last a_places a_baseEpoch a_baseLatest a_baseLast a_basePlaces a_base a_fetched k (nI (40 * r + rl_rk G o + 1)) := fun hno => by
        have := ih (o + 1) k (by omega) (by omega) (nx (fun _ => hno))
        rw [e] at this; exact this
      have yes : o < m → rl_sp I O G t m o → post (a_offset (nI (40 * r + rl_rk G o)).toNatClampNeg) := fun hom y => by
        have e : rl_sb I O G t m = o := rl_fs_eq (by omega) (fun j hjo => hj j hjo (by omega)) (fun _ => y)
        rw [vO, ← e]; exact hq
      refine ⟨c1, pk_le (40 * r + rl_rk G t) (40 * r + rl_rk G o) (fun z => by omega) (fun z => ⟨v0, pk_le m o (fun z1 => ?_) (fun z1 => ⟨v0, pk_eq (rl_st I O t o) 1 (fun s1 => ⟨v0, yes z1 ?_⟩) (fun s1 => ⟨v0, pk_le (rl_st I O t o) 1 (fun s2 => nm_r (nI_1 _) (go (fun y => ?_))) (fun s2 => ⟨v0, pk_lt (rl_de I t o) m (fun z2 => nm_r (nI_1 _) (go (fun y => by have := y.2.2.2; omega))) (fun z2 => ⟨v0, yes z1 ?_⟩) (vD s2) rfl⟩) vS⟩) vS⟩) rfl vO⟩) c3 rfl⟩
      · have e : rl_sb I O G t m = m := rl_fs_eq (Nat.le_refl _) (fun j hjm => hj j (by omega) hjm) (fun y => absurd y (Nat.lt_irrefl _))
        rw [e] at hq; exact hq
      · have hy := hs.2.1.mp s1
        exact ⟨hg, hy.1.1, hy.1.2, by omega⟩
      · exact absurd (show rl_st I O t o = 0 by omega) (fun x => (hs.1.mp x) ⟨y.2.1, y.2.2.1⟩)
      · refine ⟨hg, ?_, ?_, z2⟩
        · rcases Classical.em (rl_C (I o) = 0 ∧ O o) with y | y
          · exact y.1
          · exact absurd (hs.1.mpr y) (by omega)
        · rcases Classical.em (rl_C (I o) = 0 ∧ O o) with y | y
          · exact y.2
          · exact absurd (hs.1.mpr y) (by omega)
theorem rl_x_stable (h : rl_TB a_offset a_kind a_who a_key a_value a_tomb a_sequence a_era a_state a_decidedAt r t I O G now) (hr : r < 3) (hc : a_count r = nI (rl_rk G t)) {m : Nat} (hm : m ≤ t) (em : a_mark r = nI m) {post : Int32 → Prop}
    (hq : post (nI (rl_sb I O G t m))) : wpX_stable post (f_leader, f_inside, f_now, f_foundKey, f_foundValue, f_foundTomb, f_foundWho, f_foundSequence, f_foundEra, a_offset, a_kind, a_who, a_key, a_value, a_tomb, a_sequence, a_era, a_state, a_decidedAt, a_dead, a_count, a_end, a_mark, a_cleaned, a_gone, a_eraAt, a_eraOf, a_eras, a_epoch, a_latest, a_last, a_places, a_baseEpoch, a_baseLatest, a_baseLast, a_basePlaces, a_base, a_fetched) (nI r) := by
  unfold wpX_stable
  obtain ⟨c1, c2, c3, c4, c5⟩ := rl_xc h hr hc
  refine ⟨c1, nm_r (e' := nI m) (by rw [nI_clamp (by omega)]; exact em) (nm_r (rl_40 r) ⟨rl_rk G t + 1, rl_x_sb12 h hr hc hm hq t 0 (rl_rk G t + 1) (by omega) (by omega) (fun j hj => by omega)⟩)⟩
/-! leastMark, isIn, full, next -/
theorem rl_x_leastMark (hm : ∀ r, r < 3 → a_mark r = nI (mark r) ∧ mark r ≤ 600) {post : Int32 → Prop} (hq : post (nI (rl_ls mark))) : wpX_leastMark post (f_leader, f_inside, f_now, f_foundKey, f_foundValue, f_foundTomb, f_foundWho, f_foundSequence, f_foundEra, a_offset, a_kind, a_who, a_key, a_value, a_tomb, a_sequence, a_era, a_state, a_decidedAt, a_dead, a_count, a_end, a_mark, a_cleaned, a_gone, a_eraAt, a_eraOf, a_eras, a_epoch, a_latest, a_last, a_places, a_baseEpoch, a_baseLatest, a_baseLast, a_basePlaces, a_base, a_fetched) := by
  unfold wpX_leastMark
  obtain ⟨m0, l0⟩ := hm 0 (by omega)
  obtain ⟨m1, l1⟩ := hm 1 (by omega)
  obtain ⟨m2, l2⟩ := hm 2 (by omega)
  refine nm_r m0 (pk_le (mark 0) (mark 1) (fun z => ?_) (fun z => nm_r m1 ?_) rfl m1)
  · unfold wX_leastMark_24
    refine pk_le (mark 0) (mark 2) (fun y => ?_) (fun y => ?_) rfl m2
    · have e : rl_ls mark = mark 0 := by unfold rl_ls; omega
      rw [e] at hq; exact hq
    · have e : rl_ls mark = mark 2 := by unfold rl_ls; omega
      rw [e] at hq; rw [m2]; exact hq
  · unfold wX_leastMark_24
    refine pk_le (mark 1) (mark 2) (fun y => ?_) (fun y => ?_) rfl m2
    · have e : rl_ls mark = mark 1 := by unfold rl_ls; omega
      rw [e] at hq; exact hq
    · have e : rl_ls mark = mark 2 := by unfold rl_ls; omega
      rw [e] at hq; rw [m2]; exact hq
/-- the bits of the replicas that are inside -/
noncomputable def rl_in (mem : Nat → Prop) : Int32 := nI (rl_i (mem 0) 1 0 + rl_i (mem 1) 2 0 + rl_i (mem 2) 4 0)
theorem rl_x_isIn {mem : Nat → Prop} (hi : f_inside = rl_in mem) (hr : r < 3) {post : Int32 → Prop} (hq : post (rl_b (mem r))) : wpX_isIn post (f_leader, f_inside, f_now, f_foundKey, f_foundValue, f_foundTomb, f_foundWho, f_foundSequence, f_foundEra, a_offset, a_kind, a_who, a_key, a_value, a_tomb, a_sequence, a_era, a_state, a_decidedAt, a_dead, a_count, a_end, a_mark, a_cleaned, a_gone, a_eraAt, a_eraOf, a_eras, a_epoch, a_latest, a_last, a_places, a_baseEpoch, a_baseLatest, a_baseLast, a_basePlaces, a_base, a_fetched) (nI r) := by
  unfold wpX_isIn
  subst hi
  have key : ((rl_in mem >>> (nI r &&& 31)) &&& 1) = rl_b (mem r) := by
    have : r = 0 ∨ r = 1 ∨ r = 2 := by omega
    unfold rl_in
    rcases Classical.em (mem 0) with h0 | h0 <;> rcases Classical.em (mem 1) with h1 | h1 <;> rcases Classical.em (mem 2) with h2 | h2 <;> rcases this with e | e | e <;> subst e <;>
      simp only [rl_it, rl_if, rl_bt, rl_bf, h0, h1, h2, not_false_eq_true] <;> decide
  exact rl_br key (fun h => by rw [rl_bf h] at hq; exact hq) (fun h => by rw [rl_bt h] at hq; exact hq)
theorem rl_x_next {p : Nat} (hp : p < 4) (hr : r < 3) (h : rl_PR a_epoch a_latest a_last a_places r t I) {post : Int32 → Prop} (hq : post (rl_nx (rl_ps I p t))) : wpX_next post (f_leader, f_inside, f_now, f_foundKey, f_foundValue, f_foundTomb, f_foundWho, f_foundSequence, f_foundEra, a_offset, a_kind, a_who, a_key, a_value, a_tomb, a_sequence, a_era, a_state, a_decidedAt, a_dead, a_count, a_end, a_mark, a_cleaned, a_gone, a_eraAt, a_eraOf, a_eras, a_epoch, a_latest, a_last, a_places, a_baseEpoch, a_baseLatest, a_baseLast, a_basePlaces, a_base, a_fetched) (nI (4 * r + p)) := by
  unfold wpX_next
  have hv := h p hp
  simp only [rl_pv, rl_pe, Prod.mk.injEq] at hv
  obtain ⟨e1, e2, e3, -⟩ := hv
  have hb := (rl_ps_in I p t).2.1
  have el : a_latest (nI (4 * r + p)).toNatClampNeg = nI (rl_ps I p t).2.1 := by rw [nI_clamp (by omega)]; exact e2
  have vi : vp_in (nI (4 * r + p)) 12 := vp_in_nI (by omega) (by omega)
  refine ⟨vi, pk_eq (rl_ps I p t).2.1 0 (fun z => ?_) (fun z => ⟨vi, ?_⟩) el⟩
  · have e : rl_nx (rl_ps I p t) = 0 := if_pos z
    rw [e] at hq; exact hq
  · have e : rl_nx (rl_ps I p t) = (rl_ps I p t).2.2.1 + 1 := if_neg z
    rw [nI_clamp (by omega), e3, ← e]; exact hq
end
section
variable {f_leader f_inside f_now f_foundKey f_foundValue f_foundTomb f_foundWho f_foundSequence f_foundEra : Int32} {a_offset a_kind a_who a_key a_value a_tomb a_sequence a_era a_state a_decidedAt a_dead a_count a_end a_mark a_cleaned a_gone a_eraAt a_eraOf a_eras a_epoch a_latest a_last a_places a_baseEpoch a_baseLatest a_baseLast a_basePlaces a_base a_fetched : Nat → Int32} {I : Nat → Nat → rl_ID} {O G : Nat → Nat → Prop} {top mark : Nat → Nat} {now : Nat}
theorem rl_x_full {L : Nat} (hL : L < 3) (hl : f_leader = nI L) (hk : rl_rk (G L) (top L) ≤ 40) (ht : top L ≤ 600) (hc : a_count L = nI (rl_rk (G L) (top L))) (he : a_end L = nI (top L))
    (hm : ∀ r, r < 3 → a_mark r = nI (mark r) ∧ mark r ≤ top L) {post : Int32 → Prop} (hq : post (rl_b (rl_fu G top mark L))) : wpX_full post (f_leader, f_inside, f_now, f_foundKey, f_foundValue, f_foundTomb, f_foundWho, f_foundSequence, f_foundEra, a_offset, a_kind, a_who, a_key, a_value, a_tomb, a_sequence, a_era, a_state, a_decidedAt, a_dead, a_count, a_end, a_mark, a_cleaned, a_gone, a_eraAt, a_eraOf, a_eras, a_epoch, a_latest, a_last, a_places, a_baseEpoch, a_baseLatest, a_baseLast, a_basePlaces, a_base, a_fetched) := by
  subst hl
  unfold wpX_full
  have v : vp_in (nI L) 3 := vp_in_nI hL (by omega)
  have ec : a_count (nI L).toNatClampNeg = nI (rl_rk (G L) (top L)) := by rw [nI_clamp (by omega)]; exact hc
  have ee : a_end (nI L).toNatClampNeg = nI (top L) := by rw [nI_clamp (by omega)]; exact he
  have hls := rl_ls_le (mark := mark) (r := 0) (by omega)
  have h0 := (hm 0 (by omega)).2
  have es : a_end (nI L).toNatClampNeg - nI (rl_ls mark) = nI (top L - rl_ls mark) := by rw [ee, pk_sub (by omega)]
  refine ⟨v, pk_eq (rl_rk (G L) (top L)) 40 (fun z => ?_) (fun z => ⟨v, rl_x_leastMark (fun r hr => ⟨(hm r hr).1, by have := (hm r hr).2; omega⟩) (pk_le 60 (top L - rl_ls mark) (fun z2 => ?_) (fun z2 => ⟨v, pk_eq (top L) 600 (fun z3 => ?_) (fun z3 => ?_) ee⟩) rfl es)⟩) ec⟩
  · rw [rl_bt (P := rl_fu G top mark L) (Or.inl (by omega))] at hq; exact hq
  · rw [rl_bt (P := rl_fu G top mark L) (Or.inr (Or.inr z2))] at hq; exact hq
  · rw [rl_bt (P := rl_fu G top mark L) (Or.inr (Or.inl (by omega)))] at hq; exact hq
  · rw [rl_bf (P := rl_fu G top mark L) (fun y => by rcases y with y | y | y <;> omega)] at hq; exact hq
end
end
section

/-! how a state goes on when one more record is there -/
theorem rl_de_nx {I : Nat → rl_ID} {t o : Nat} (ho : o < t) :
    (rl_de I t o < t → rl_de I (t + 1) o = rl_de I t o) ∧ (¬ rl_de I t o < t → rl_dp I o t → rl_de I (t + 1) o = t) ∧ (¬ rl_de I t o < t → ¬ rl_dp I o t → rl_de I (t + 1) o = t + 1) := by
  obtain ⟨d1, d2, d3, d4⟩ := rl_de_sp I ho
  refine ⟨fun h => rl_de_eq (by omega) d3 (fun _ => d4 h), fun h hp => ?_, fun h hp => ?_⟩
  · have e : rl_de I t o = t := by omega
    rw [e] at d3
    exact rl_de_eq (by omega) d3 (fun _ => hp)
  · have e : rl_de I t o = t := by omega
    rw [e] at d3
    refine rl_de_eq (Nat.le_refl _) (fun d hd => ?_) (fun y => absurd y (Nat.lt_irrefl _))
    rcases Nat.lt_or_ge d t with y | y
    · exact d3 d y
    · have e : d = t := by omega
      rw [e]; exact hp
theorem rl_st_nx {I : Nat → rl_ID} {O : Nat → Prop} {t o : Nat} (ho : o < t) :
    (rl_st I O t o ≠ 1 → rl_st I O (t + 1) o = rl_st I O t o ∧ (1 < rl_st I O t o → rl_de I (t + 1) o = rl_de I t o)) ∧
    (rl_st I O t o = 1 → rl_dp I o t → rl_de I (t + 1) o = t ∧ (rl_C (I t) = 2 → rl_st I O (t + 1) o = 2) ∧ (¬ rl_C (I t) = 2 → rl_st I O (t + 1) o = 3)) ∧
    (rl_st I O t o = 1 → ¬ rl_dp I o t → rl_st I O (t + 1) o = 1) := by
  obtain ⟨n1, n2, n3⟩ := rl_de_nx (I := I) ho
  obtain ⟨s0, s1, s2, s3⟩ := rl_st_sp I O t o
  refine ⟨fun h => ?_, fun h hp => ?_, fun h hp => ?_⟩
  · rcases Classical.em (rl_C (I o) = 0 ∧ O o) with hc | hc
    · have hd : rl_de I t o < t := Classical.byContradiction fun y => h (s1.mpr ⟨hc, y⟩)
      have e := n1 hd
      rcases Classical.em (rl_C (I (rl_de I t o)) = 2) with h2 | h2
      · rw [rl_st_2 hc hd h2]
        exact ⟨rl_st_2 hc (by omega) (by rw [e]; exact h2), fun _ => e⟩
      · rw [rl_st_3 hc hd h2]
        exact ⟨rl_st_3 hc (by omega) (by rw [e]; exact h2), fun _ => e⟩
    · rw [rl_st_0 hc, rl_st_0 hc]; exact ⟨rfl, fun y => by omega⟩
  · obtain ⟨hc, hd⟩ := s1.mp h
    have e := n2 hd hp
    exact ⟨e, fun h2 => rl_st_2 hc (by omega) (by rw [e]; exact h2), fun h2 => rl_st_3 hc (by omega) (by rw [e]; exact h2)⟩
  · obtain ⟨hc, hd⟩ := s1.mp h
    have e := n3 hd hp
    exact rl_st_1 hc (by omega)
theorem rl_de_last (I : Nat → rl_ID) (t : Nat) : rl_de I (t + 1) t = t + 1 :=
  rl_de_eq (Nat.le_refl _) (fun d hd y => by have := y.1; omega) (fun y => absurd y (Nat.lt_irrefl _))
def rl_SS (s d : Nat → Int32) (i t : Nat) (I : Nat → rl_ID) (O : Nat → Prop) (j : Nat) : Prop := s i = nI (rl_st I O t j) ∧ (1 < rl_st I O t j → d i = nI (rl_de I t j))
/-- the row of a record without its state -/
def rl_T0 (a_offset a_kind a_who a_key a_value a_tomb a_sequence a_era : Nat → Int32) (i : Nat) (I : Nat → rl_ID) (o : Nat) : Prop :=
  a_offset i = nI o ∧ a_kind i = nI (rl_C (I o) - 1) ∧ a_who i = nI (rl_B (I o)) ∧ a_key i = nI (rl_K (I o)) ∧ a_value i = rl_V (I o) ∧ a_tomb i = nI (rl_T (I o)) ∧
  a_sequence i = rl_S (I o) ∧ a_era i = nI (rl_E (I o))
section
variable {f_leader f_inside f_now f_foundKey f_foundValue f_foundTomb f_foundWho f_foundSequence f_foundEra : Int32} {a_offset a_kind a_who a_key a_value a_tomb a_sequence a_era a_state a_decidedAt a_dead a_count a_end a_mark a_cleaned a_gone a_eraAt a_eraOf a_eras a_epoch a_latest a_last a_places a_baseEpoch a_baseLatest a_baseLast a_basePlaces a_base a_fetched : Nat → Int32} {I : Nat → rl_ID} {O G : Nat → Prop} {r t now : Nat}
theorem rl_TX_mk {i o : Nat} (h : rl_T0 a_offset a_kind a_who a_key a_value a_tomb a_sequence a_era i I o) (hs : rl_SS a_state a_decidedAt i t I O o) : rl_TX a_offset a_kind a_who a_key a_value a_tomb a_sequence a_era a_state a_decidedAt i t I O o :=
  ⟨h.1, h.2.1, h.2.2.1, h.2.2.2.1, h.2.2.2.2.1, h.2.2.2.2.2.1, h.2.2.2.2.2.2.1, h.2.2.2.2.2.2.2, hs.1, hs.2⟩
theorem rl_TX_T0 {i o : Nat} (h : rl_TX a_offset a_kind a_who a_key a_value a_tomb a_sequence a_era a_state a_decidedAt i t I O o) : rl_T0 a_offset a_kind a_who a_key a_value a_tomb a_sequence a_era i I o ∧ rl_SS a_state a_decidedAt i t I O o := by
  obtain ⟨h1, h2, h3, h4, h5, h6, h7, h8, h9, h10⟩ := h
  exact ⟨⟨h1, h2, h3, h4, h5, h6, h7, h8⟩, ⟨h9, h10⟩⟩
/-! count -/
theorem rl_x_count {q i : Nat} (hq : q < 12) (hi : i < 120) {x : rl_ID} {o : Nat} {v : rl_PS} (hv : rl_pv a_epoch a_latest a_last a_places q = rl_pe v) (h3 : v.2.1 ≤ 3)
    (hC : rl_C x = 0 ∨ rl_C x = 2 ∨ rl_C x = 3 ∨ rl_C x = 4) (ek : a_kind i = nI (rl_C x - 1)) (eo : a_offset i = nI o) (es : a_sequence i = rl_S x) {post : SX → Prop}
    (k : ∀ c_epoch c_latest c_last c_places : Nat → Int32, rl_pv c_epoch c_latest c_last c_places q = rl_pe (rl_stp (rl_B x) v x o) →
      (∀ j, j ≠ q → rl_pv c_epoch c_latest c_last c_places j = rl_pv a_epoch a_latest a_last a_places j) → post (f_leader, f_inside, f_now, f_foundKey, f_foundValue, f_foundTomb, f_foundWho, f_foundSequence, f_foundEra, a_offset, a_kind, a_who, a_key, a_value, a_tomb, a_sequence, a_era, a_state, a_decidedAt, a_dead, a_count, a_end, a_mark, a_cleaned, a_gone, a_eraAt, a_eraOf, a_eras, c_epoch, c_latest, c_last, c_places, a_baseEpoch, a_baseLatest, a_baseLast, a_basePlaces, a_base, a_fetched)) :
    wpX_count post (f_leader, f_inside, f_now, f_foundKey, f_foundValue, f_foundTomb, f_foundWho, f_foundSequence, f_foundEra, a_offset, a_kind, a_who, a_key, a_value, a_tomb, a_sequence, a_era, a_state, a_decidedAt, a_dead, a_count, a_end, a_mark, a_cleaned, a_gone, a_eraAt, a_eraOf, a_eras, a_epoch, a_latest, a_last, a_places, a_baseEpoch, a_baseLatest, a_baseLast, a_basePlaces, a_base, a_fetched) (nI q) (nI i) := by
  obtain ⟨a, b, c, d, e, f⟩ := v
  simp only [rl_pv, rl_pe, Prod.mk.injEq] at hv
  obtain ⟨v1, v2, v3, v4, v5, v6⟩ := hv
  simp only [] at h3
  have i0 : vp_in (nI i) 120 := vp_in_nI hi (by omega)
  have q0 : vp_in (nI q) 12 := vp_in_nI hq (by omega)
  have ci : (nI i).toNatClampNeg = i := nI_clamp (by omega)
  have cq : (nI q).toNatClampNeg = q := nI_clamp (by omega)
  have p0 : (nI (3 * q)).toNatClampNeg = 3 * q := nI_clamp (by omega)
  have p1 : (nI (3 * q + 1)).toNatClampNeg = 3 * q + 1 := nI_clamp (by omega)
  have p2 : (nI (3 * q + 2)).toNatClampNeg = 3 * q + 2 := nI_clamp (by omega)
  have e1 : nI (3 * q) + 1 = nI (3 * q + 1) := nI_1 _
  have e2 : nI (3 * q) + 2 = nI (3 * q + 2) := nI_add (3 * q) 2
  have e0 : (3 : Int32) * nI q = nI (3 * q) := rl_3 q
  have w0 : vp_in (nI (3 * q)) 36 := vp_in_nI (by omega) (by omega)
  have w1 : vp_in (nI (3 * q + 1)) 36 := vp_in_nI (by omega) (by omega)
  have w2 : vp_in (nI (3 * q + 2)) 36 := vp_in_nI (by omega) (by omega)
  have no3 : ∀ j, j ≠ q → ¬ 3 * j = 3 * q ∧ ¬ 3 * j = 3 * q + 1 ∧ ¬ 3 * j = 3 * q + 2 ∧ ¬ 3 * j + 1 = 3 * q ∧ ¬ 3 * j + 1 = 3 * q + 1 ∧ ¬ 3 * j + 1 = 3 * q + 2 ∧ ¬ 3 * j + 2 = 3 * q ∧ ¬ 3 * j + 2 = 3 * q + 1 ∧ ¬ 3 * j + 2 = 3 * q + 2 :=
    fun j hj => ⟨by omega, by omega, by omega, by omega, by omega, by omega, by omega, by omega, by omega⟩
  have m3 : ¬ 3 * q = 3 * q + 1 ∧ ¬ 3 * q = 3 * q + 2 ∧ ¬ 3 * q + 1 = 3 * q ∧ ¬ 3 * q + 1 = 3 * q + 2 ∧ ¬ 3 * q + 2 = 3 * q ∧ ¬ 3 * q + 2 = 3 * q + 1 := ⟨by omega, by omega, by omega, by omega, by omega, by omega⟩
  obtain ⟨m1, m2, m3, m4, m5, m6⟩ := m3
  unfold wpX_count
  refine ⟨i0, ?_⟩
  simp only [ci, cq]
  refine pk_eq (rl_C x - 1) 3 (fun hz => ?_) (fun hz => ?_) ek rfl (by omega)
  · have hc4 : rl_C x = 4 := by omega
    refine ⟨q0, q0, nm_e ⟨q0, nm_e ?_⟩⟩
    unfold wX_count_27
    refine ⟨i0, ?_⟩
    simp only [ci, cq]
    refine pk_eq (rl_C x - 1) 0 (fun hy => by omega) (fun _ => k _ _ _ _ ?_ (fun j hj => ?_)) ek rfl (by omega)
    · simp only [rl_pv, rl_pe, rl_stp, if_true, hc4, upd, v1, v3, v4, v5, v6, nI_1]
      rfl
    · simp only [rl_pv, upd, if_neg hj]
  · have hc4 : ¬ rl_C x = 4 := by omega
    unfold wX_count_27
    refine ⟨i0, ?_⟩
    simp only [ci, cq, e1, e2, e0, p0, p1, p2]
    refine pk_eq (rl_C x - 1) 0 (fun hy => ?_) (fun hy => k _ _ _ _ ?_ (fun j hj => rfl)) ek rfl (by omega)
    · have hc0 : rl_C x = 0 := by omega
      refine ⟨w1, w2, nm_e ⟨w0, w1, nm_e ⟨i0, w0, nm_e ⟨i0, q0, nm_e ⟨q0, ?_⟩⟩⟩⟩⟩
      refine pk_le 3 b (fun hb => k _ _ _ _ ?_ (fun j hj => ?_)) (fun hb => ⟨q0, q0, nm_e (k _ _ _ _ ?_ (fun j hj => ?_))⟩) rfl v2
      · simp only [rl_pv, rl_pe, rl_stp, if_true, hc0, upd, v1, v2, v4, v5, m1, m2, m3, m4, m5, m6, if_false, eo, es, if_neg (show ¬ b < 3 by omega)]
        simp
      · obtain ⟨x1, x2, x3, x4, x5, x6, x7, x8, x9⟩ := no3 j hj
        simp only [rl_pv, upd, if_neg hj, if_neg x1, if_neg x2, if_neg x3, if_neg x4, if_neg x5, if_neg x6, if_neg x7, if_neg x8, if_neg x9]
      · have eb : vp_nar .byte ((a_latest q + 1).toInt8.toInt32) = nI (b + 1) := by rw [v2, nI_1]; exact rl_nar2 (by omega)
        simp only [rl_pv, rl_pe, rl_stp, if_true, hc0, upd, v1, v4, v5, m1, m2, m3, m4, m5, m6, if_false, eo, es, eb, if_pos (show b < 3 by omega)]
        simp
      · obtain ⟨x1, x2, x3, x4, x5, x6, x7, x8, x9⟩ := no3 j hj
        simp only [rl_pv, upd, if_neg hj, if_neg x1, if_neg x2, if_neg x3, if_neg x4, if_neg x5, if_neg x6, if_neg x7, if_neg x8, if_neg x9]
    · have e : rl_stp (rl_B x) (a, b, c, d, e, f) x o = (a, b, c, d, e, f) := by
        unfold rl_stp; rw [if_pos rfl, if_neg hc4, if_neg (by omega)]
      rw [e]
      simp only [rl_pv, rl_pe, v1, v2, v3, v4, v5, v6]

theorem rl_x_se30 (hr : r < 3) (hk : rl_rk G t < 40) (ht : t < 600) (hW : ∀ o, o ≤ t → rl_W (I o) now) (eW : a_who (40 * r + rl_rk G t) = nI (rl_B (I t))) (eK : a_kind (40 * r + rl_rk G t) = nI (rl_C (I t) - 1))
    (eO : a_offset (40 * r + rl_rk G t) = nI t) (hC : rl_C (I t) ≠ 0) (hw : ∀ j, j < t → ¬ G j → a_who (40 * r + rl_rk G j) = nI (rl_B (I j))) {post : SX → Prop}
    (k : ∀ c_state c_decidedAt : Nat → Int32, (∀ j, j < t → ¬ G j → rl_SS c_state c_decidedAt (40 * r + rl_rk G j) (t + 1) I O j) →
      (∀ i, (i < 40 * r ∨ 40 * r + rl_rk G t ≤ i) → c_state i = a_state i ∧ c_decidedAt i = a_decidedAt i) → post (f_leader, f_inside, f_now, f_foundKey, f_foundValue, f_foundTomb, f_foundWho, f_foundSequence, f_foundEra, a_offset, a_kind, a_who, a_key, a_value, a_tomb, a_sequence, a_era, c_state, c_decidedAt, a_dead, a_count, a_end, a_mark, a_cleaned, a_gone, a_eraAt, a_eraOf, a_eras, a_epoch, a_latest, a_last, a_places, a_baseEpoch, a_baseLatest, a_baseLast, a_basePlaces, a_base, a_fetched)) :
    ∀ d o n (c_state c_decidedAt : Nat → Int32), o + d = t → rl_rk G t - rl_rk G o < n → (∀ j, j < o → ¬ G j → rl_SS c_state c_decidedAt (40 * r + rl_rk G j) (t + 1) I O j) →
      (∀ j, o ≤ j → j < t → ¬ G j → rl_SS c_state c_decidedAt (40 * r + rl_rk G j) t I O j) → (∀ i, (i < 40 * r ∨ 40 * r + rl_rk G t ≤ i) → c_state i = a_state i ∧ c_decidedAt i = a_decidedAt i) →
      wX_settle_30 post (nI (40 * r + rl_rk G t)) f_leader f_inside f_now f_foundKey f_foundValue f_foundTomb f_foundWho f_foundSequence f_foundEra n (nI (40 * r + rl_rk G o)) a_offset a_kind a_who a_key a_value a_tomb a_sequence a_era c_state c_decidedAt a_dead a_count a_end a_mark a_cleaned a_gone a_eraAt a_eraOf a_eras a_epoch a_latest a_last a_places a_baseEpoch a_baseLatest a_baseLast a_basePlaces a_base a_fetched := by
  have v1 : vp_in (nI (40 * r + rl_rk G t)) 120 := vp_in_nI (by omega) (by omega)
  have ct : (nI (40 * r + rl_rk G t)).toNatClampNeg = 40 * r + rl_rk G t := nI_clamp (by omega)
  intro d
  induction d with
  | zero =>
    intro o n s a ho hn h1 h2 h3
    obtain ⟨m, rfl⟩ : ∃ m, n = m + 1 := ⟨n - 1, by omega⟩
    have e : o = t := by omega
    subst e
    exact br_t (nI_le (Nat.le_refl _) (by omega)) (k s a h1 h3)
  | succ d ih =>
    intro o n s a ho hn h1 h2 h3
    have hot : o < t := by omega
    rcases Classical.em (G o) with hg | hg
    · have e := rl_rk_t hg
      rw [← e] at hn ⊢
      refine ih (o + 1) n s a (by omega) hn (fun j hj hgj => ?_) (fun j hj => h2 j (by omega)) h3
      rcases Nat.lt_or_ge j o with y | y
      · exact h1 j y hgj
      · have ej : j = o := by omega
        rw [ej] at hgj; exact absurd hg hgj
    · obtain ⟨m, rfl⟩ : ∃ m, n = m + 1 := ⟨n - 1, by omega⟩
      have e := rl_rk_f hg
      have hlt := rl_rk_lt hot hg
      have v0 : vp_in (nI (40 * r + rl_rk G o)) 120 := vp_in_nI (by omega) (by omega)
      have co : (nI (40 * r + rl_rk G o)).toNatClampNeg = 40 * r + rl_rk G o := nI_clamp (by omega)
      obtain ⟨w1, w2, -⟩ := hW o (by omega)
      obtain ⟨u1, u2, -⟩ := hW t (Nat.le_refl _)
      have hs3 := rl_st_le I O t o
      obtain ⟨x1, x2, x3⟩ := rl_st_nx (I := I) (O := O) hot
      obtain ⟨y1, y2⟩ := h2 o (Nat.le_refl _) hot hg
      have ew := hw o hot hg
      -- the state is kept
      have keep : rl_SS s a (40 * r + rl_rk G o) (t + 1) I O o → wX_settle_30 post (nI (40 * r + rl_rk G t)) f_leader f_inside f_now f_foundKey f_foundValue f_foundTomb f_foundWho f_foundSequence f_foundEra m (nI (40 * r + rl_rk G o + 1)) a_offset a_kind a_who a_key a_value a_tomb a_sequence a_era s a a_dead a_count a_end a_mark a_cleaned a_gone a_eraAt a_eraOf a_eras a_epoch a_latest a_last a_places a_baseEpoch a_baseLatest a_baseLast a_basePlaces a_base a_fetched := fun hss => by
        have := ih (o + 1) m s a (by omega) (by omega) (fun j hj hgj => by
          rcases Nat.lt_or_ge j o with y | y
          · exact h1 j y hgj
          · have ej : j = o := by omega
            rw [ej]; exact hss) (fun j hj => h2 j (by omega)) h3
        rw [e] at this; exact this
      have put : ∀ z : Nat, z < 128 → rl_st I O (t + 1) o = z → rl_de I (t + 1) o = t →
          wX_settle_30 post (nI (40 * r + rl_rk G t)) f_leader f_inside f_now f_foundKey f_foundValue f_foundTomb f_foundWho f_foundSequence f_foundEra m (nI (40 * r + rl_rk G o + 1)) a_offset a_kind a_who a_key a_value a_tomb a_sequence a_era (upd s (40 * r + rl_rk G o) (nI z)) (upd a (40 * r + rl_rk G o) (nI t)) a_dead a_count a_end a_mark a_cleaned a_gone a_eraAt a_eraOf a_eras a_epoch a_latest a_last a_places a_baseEpoch a_baseLatest a_baseLast a_basePlaces a_base a_fetched := fun z hz hz1 hz2 => by
        have := ih (o + 1) m (upd s (40 * r + rl_rk G o) (nI z)) (upd a (40 * r + rl_rk G o) (nI t)) (by omega) (by omega) (fun j hj hgj => by
          rcases Nat.lt_or_ge j o with y | y
          · have hne : 40 * r + rl_rk G j ≠ 40 * r + rl_rk G o := by
              have := rl_rk_lt y hgj; omega
            unfold rl_SS
            rw [pk_un hne, pk_un hne]; exact h1 j y hgj
          · have ej : j = o := by omega
            rw [ej]
            unfold rl_SS
            rw [pk_us, pk_us, hz1, hz2]; exact ⟨rfl, fun _ => rfl⟩) (fun j hj hjt hgj => by
          have hne : 40 * r + rl_rk G j ≠ 40 * r + rl_rk G o := by
            have := rl_rk_lt (show o < j by omega) hg; omega
          unfold rl_SS
          rw [pk_un hne, pk_un hne]; exact h2 j (by omega) hjt hgj) (fun i hi => by
          rw [pk_un (by omega), pk_un (by omega)]; exact h3 i hi)
        rw [e] at this; exact this
      refine br_f (nI_ge (by omega) (by omega)) ⟨v0, ?_⟩
      simp only [ct, co]
      refine pk_eq (rl_st I O t o) 1 (fun s1 => ⟨v0, v1, pk_eq (rl_B (I o)) (rl_B (I t)) (fun hb => ⟨v1, pk_eq (rl_C (I t) - 1) 1 (fun hc => ?_) (fun hc => ?_) eK⟩) (fun hb => nm_r (nI_1 _) (keep ⟨?_, ?_⟩)) ew eW⟩) (fun s1 => nm_r (nI_1 _) (keep ⟨?_, ?_⟩)) y1
      · unfold wX_settle_83
        simp only [ct, co, eO]
        obtain ⟨z1, z2, z3⟩ := x2 s1 ⟨hot, hb.symm, hC⟩
        exact ⟨v0, nm_r (congrArg (upd s (40 * r + rl_rk G o)) (rl_nar2 (n := 2) (by omega))) ⟨v1, v0, nm_e (nm_r (nI_1 _) (put 2 (by omega) (z2 (by omega)) z1))⟩⟩
      · unfold wX_settle_83
        simp only [ct, co, eO]
        obtain ⟨z1, z2, z3⟩ := x2 s1 ⟨hot, hb.symm, hC⟩
        exact ⟨v0, nm_r (congrArg (upd s (40 * r + rl_rk G o)) (rl_nar2 (n := 3) (by omega))) ⟨v1, v0, nm_e (nm_r (nI_1 _) (put 3 (by omega) (z3 (by omega)) z1))⟩⟩
      · rw [x3 s1 (fun y => hb y.2.1.symm), y1, s1]
      · rw [x3 s1 (fun y => hb y.2.1.symm)]; intro y; omega
      · rw [(x1 s1).1]; exact y1
      · rw [(x1 s1).1]; intro y; rw [(x1 s1).2 y]; exact y2 y

theorem rl_x_de15 (hr : r < 3) (hk : rl_rk G t < 40) (ht : t < 600) (hW : ∀ o, o ≤ t → rl_W (I o) now) (eW : a_who (40 * r + rl_rk G t) = nI (rl_B (I t))) (eK : a_kind (40 * r + rl_rk G t) = nI (rl_C (I t) - 1))
    (eO : a_offset (40 * r + rl_rk G t) = nI t) (hC : rl_C (I t) ≠ 0) (hw : ∀ j, j < t → ¬ G j → a_who (40 * r + rl_rk G j) = nI (rl_B (I j))) {post : SX → Prop}
    (k : ∀ c_state c_decidedAt : Nat → Int32, (∀ j, j < t → ¬ G j → rl_SS c_state c_decidedAt (40 * r + rl_rk G j) (t + 1) I O j) →
      (∀ i, (i < 40 * r ∨ 40 * r + rl_rk G t ≤ i) → c_state i = a_state i ∧ c_decidedAt i = a_decidedAt i) → post (f_leader, f_inside, f_now, f_foundKey, f_foundValue, f_foundTomb, f_foundWho, f_foundSequence, f_foundEra, a_offset, a_kind, a_who, a_key, a_value, a_tomb, a_sequence, a_era, c_state, c_decidedAt, a_dead, a_count, a_end, a_mark, a_cleaned, a_gone, a_eraAt, a_eraOf, a_eras, a_epoch, a_latest, a_last, a_places, a_baseEpoch, a_baseLatest, a_baseLast, a_basePlaces, a_base, a_fetched)) :
    ∀ d o n (c_state c_decidedAt : Nat → Int32), o + d = t → rl_rk G t - rl_rk G o < n → (∀ j, j < o → ¬ G j → rl_SS c_state c_decidedAt (40 * r + rl_rk G j) (t + 1) I O j) →
      (∀ j, o ≤ j → j < t → ¬ G j → rl_SS c_state c_decidedAt (40 * r + rl_rk G j) t I O j) → (∀ i, (i < 40 * r ∨ 40 * r + rl_rk G t ≤ i) → c_state i = a_state i ∧ c_decidedAt i = a_decidedAt i) →
      wX_decide_15 post (nI (40 * r + rl_rk G t)) f_leader f_inside f_now f_foundKey f_foundValue f_foundTomb f_foundWho f_foundSequence f_foundEra n (nI (40 * r + rl_rk G o)) a_offset a_kind a_who a_key a_value a_tomb a_sequence a_era c_state c_decidedAt a_dead a_count a_end a_mark a_cleaned a_gone a_eraAt a_eraOf a_eras a_epoch a_latest a_last a_places a_baseEpoch a_baseLatest a_baseLast a_basePlaces a_base a_fetched := by
  have v1 : vp_in (nI (40 * r + rl_rk G t)) 120 := vp_in_nI (by omega) (by omega)
  have ct : (nI (40 * r + rl_rk G t)).toNatClampNeg = 40 * r + rl_rk G t := nI_clamp (by omega)
  intro d
  induction d with
  | zero =>
    intro o n s a ho hn h1 h2 h3
    obtain ⟨m, rfl⟩ : ∃ m, n = m + 1 := ⟨n - 1, by omega⟩
    have e : o = t := by omega
    subst e
    exact br_t (nI_le (Nat.le_refl _) (by omega)) (k s a h1 h3)
  | succ d ih =>
    intro o n s a ho hn h1 h2 h3
    have hot : o < t := by omega
    rcases Classical.em (G o) with hg | hg
    · have e := rl_rk_t hg
      rw [← e] at hn ⊢
      refine ih (o + 1) n s a (by omega) hn (fun j hj hgj => ?_) (fun j hj => h2 j (by omega)) h3
      rcases Nat.lt_or_ge j o with y | y
      · exact h1 j y hgj
      · have ej : j = o := by omega
        rw [ej] at hgj; exact absurd hg hgj
    · obtain ⟨m, rfl⟩ : ∃ m, n = m + 1 := ⟨n - 1, by omega⟩
      have e := rl_rk_f hg
      have hlt := rl_rk_lt hot hg
      have v0 : vp_in (nI (40 * r + rl_rk G o)) 120 := vp_in_nI (by omega) (by omega)
      have co : (nI (40 * r + rl_rk G o)).toNatClampNeg = 40 * r + rl_rk G o := nI_clamp (by omega)
      obtain ⟨w1, w2, -⟩ := hW o (by omega)
      obtain ⟨u1, u2, -⟩ := hW t (Nat.le_refl _)
      have hs3 := rl_st_le I O t o
      obtain ⟨x1, x2, x3⟩ := rl_st_nx (I := I) (O := O) hot
      obtain ⟨y1, y2⟩ := h2 o (Nat.le_refl _) hot hg
      have ew := hw o hot hg
      -- the state is kept
      have keep : rl_SS s a (40 * r + rl_rk G o) (t + 1) I O o → wX_decide_15 post (nI (40 * r + rl_rk G t)) f_leader f_inside f_now f_foundKey f_foundValue f_foundTomb f_foundWho f_foundSequence f_foundEra m (nI (40 * r + rl_rk G o + 1)) a_offset a_kind a_who a_key a_value a_tomb a_sequence a_era s a a_dead a_count a_end a_mark a_cleaned a_gone a_eraAt a_eraOf a_eras a_epoch a_latest a_last a_places a_baseEpoch a_baseLatest a_baseLast a_basePlaces a_base a_fetched := fun hss => by
        have := ih (o + 1) m s a (by omega) (by omega) (fun j hj hgj => by
          rcases Nat.lt_or_ge j o with y | y
          · exact h1 j y hgj
          · have ej : j = o := by omega
            rw [ej]; exact hss) (fun j hj => h2 j (by omega)) h3
        rw [e] at this; exact this
      have put : ∀ z : Nat, z < 128 → rl_st I O (t + 1) o = z → rl_de I (t + 1) o = t →
          wX_decide_15 post (nI (40 * r + rl_rk G t)) f_leader f_inside f_now f_foundKey f_foundValue f_foundTomb f_foundWho f_foundSequence f_foundEra m (nI (40 * r + rl_rk G o + 1)) a_offset a_kind a_who a_key a_value a_tomb a_sequence a_era (upd s (40 * r + rl_rk G o) (nI z)) (upd a (40 * r + rl_rk G o) (nI t)) a_dead a_count a_end a_mark a_cleaned a_gone a_eraAt a_eraOf a_eras a_epoch a_latest a_last a_places a_baseEpoch a_baseLatest a_baseLast a_basePlaces a_base a_fetched := fun z hz hz1 hz2 => by
        have := ih (o + 1) m (upd s (40 * r + rl_rk G o) (nI z)) (upd a (40 * r + rl_rk G o) (nI t)) (by omega) (by omega) (fun j hj hgj => by
          rcases Nat.lt_or_ge j o with y | y
          · have hne : 40 * r + rl_rk G j ≠ 40 * r + rl_rk G o := by
              have := rl_rk_lt y hgj; omega
            unfold rl_SS
            rw [pk_un hne, pk_un hne]; exact h1 j y hgj
          · have ej : j = o := by omega
            rw [ej]
            unfold rl_SS
            rw [pk_us, pk_us, hz1, hz2]; exact ⟨rfl, fun _ => rfl⟩) (fun j hj hjt hgj => by
          have hne : 40 * r + rl_rk G j ≠ 40 * r + rl_rk G o := by
            have := rl_rk_lt (show o < j by omega) hg; omega
          unfold rl_SS
          rw [pk_un hne, pk_un hne]; exact h2 j (by omega) hjt hgj) (fun i hi => by
          rw [pk_un (by omega), pk_un (by omega)]; exact h3 i hi)
        rw [e] at this; exact this
      refine br_f (nI_ge (by omega) (by omega)) ⟨v0, ?_⟩
      simp only [ct, co]
      refine pk_eq (rl_st I O t o) 1 (fun s1 => ⟨v0, v1, pk_eq (rl_B (I o)) (rl_B (I t)) (fun hb => ⟨v1, pk_eq (rl_C (I t) - 1) 1 (fun hc => ?_) (fun hc => ?_) eK⟩) (fun hb => nm_r (nI_1 _) (keep ⟨?_, ?_⟩)) ew eW⟩) (fun s1 => nm_r (nI_1 _) (keep ⟨?_, ?_⟩)) y1
      · unfold wX_decide_68
        simp only [ct, co, eO]
        obtain ⟨z1, z2, z3⟩ := x2 s1 ⟨hot, hb.symm, hC⟩
        exact ⟨v0, nm_r (congrArg (upd s (40 * r + rl_rk G o)) (rl_nar2 (n := 2) (by omega))) ⟨v1, v0, nm_e (nm_r (nI_1 _) (put 2 (by omega) (z2 (by omega)) z1))⟩⟩
      · unfold wX_decide_68
        simp only [ct, co, eO]
        obtain ⟨z1, z2, z3⟩ := x2 s1 ⟨hot, hb.symm, hC⟩
        exact ⟨v0, nm_r (congrArg (upd s (40 * r + rl_rk G o)) (rl_nar2 (n := 3) (by omega))) ⟨v1, v0, nm_e (nm_r (nI_1 _) (put 3 (by omega) (z3 (by omega)) z1))⟩⟩
      · rw [x3 s1 (fun y => hb y.2.1.symm), y1, s1]
      · rw [x3 s1 (fun y => hb y.2.1.symm)]; intro y; omega
      · rw [(x1 s1).1]; exact y1
      · rw [(x1 s1).1]; intro y; rw [(x1 s1).2 y]; exact y2 y

/-- one more record: the table goes on -/
theorem rl_TB_snoc (h : rl_TB a_offset a_kind a_who a_key a_value a_tomb a_sequence a_era a_state a_decidedAt r t I O G now) (hk : rl_rk G t < 40) (ht : t < 600) (hW : rl_W (I t) now) (hg : ¬ G t) (h0 : rl_T0 a_offset a_kind a_who a_key a_value a_tomb a_sequence a_era (40 * r + rl_rk G t) I t)
    {c_state c_decidedAt : Nat → Int32} (hs : ∀ j, j < t → ¬ G j → rl_SS c_state c_decidedAt (40 * r + rl_rk G j) (t + 1) I O j) (hst : c_state (40 * r + rl_rk G t) = nI (rl_st I O (t + 1) t)) :
    rl_TB a_offset a_kind a_who a_key a_value a_tomb a_sequence a_era c_state c_decidedAt r (t + 1) I O G now := by
  obtain ⟨h1, h2, h3, h4⟩ := h
  refine ⟨h1, by omega, by rw [rl_rk_f hg]; omega, fun o ho => ?_⟩
  rcases Nat.lt_or_ge o t with y | y
  · exact ⟨(h4 o y).1, fun hgo => rl_TX_mk (rl_TX_T0 ((h4 o y).2 hgo)).1 (hs o y hgo)⟩
  · have e : o = t := by omega
    subst e
    refine ⟨hW, fun _ => rl_TX_mk h0 ⟨hst, fun y => ?_⟩⟩
    exfalso
    have hd := rl_de_last I o
    rcases Classical.em (rl_C (I o) = 0 ∧ O o) with hc | hc
    · rw [rl_st_1 hc (by omega)] at y; omega
    · rw [rl_st_0 hc] at y; omega
/-- a row at t is placed: what settle and decide ask -/
def rl_PL (a_offset a_kind a_who a_key a_value a_tomb a_sequence a_era a_state : Nat → Int32) (r t : Nat) (I : Nat → rl_ID) (O G : Nat → Prop) (now : Nat) : Prop :=
  rl_rk G t < 40 ∧ t < 600 ∧ rl_W (I t) now ∧ ¬ G t ∧ rl_T0 a_offset a_kind a_who a_key a_value a_tomb a_sequence a_era (40 * r + rl_rk G t) I t ∧ a_state (40 * r + rl_rk G t) = nI (rl_st I O (t + 1) t)
theorem rl_SS_data (h : rl_TB a_offset a_kind a_who a_key a_value a_tomb a_sequence a_era a_state a_decidedAt r t I O G now) (hC : rl_C (I t) = 0) : ∀ j, j < t → ¬ G j → rl_SS a_state a_decidedAt (40 * r + rl_rk G j) (t + 1) I O j := by
  intro j hj hg
  obtain ⟨y1, y2⟩ := (rl_TX_T0 ((h.2.2.2 j hj).2 hg)).2
  obtain ⟨x1, x2, x3⟩ := rl_st_nx (I := I) (O := O) hj
  rcases Classical.em (rl_st I O t j = 1) with z | z
  · unfold rl_SS; rw [x3 z (fun y => y.2.2 hC)]
    exact ⟨by rw [y1, z], fun y => by omega⟩
  · unfold rl_SS; rw [(x1 z).1]
    exact ⟨y1, fun y => by rw [(x1 z).2 y]; exact y2 y⟩
theorem rl_x_decide (h : rl_TB a_offset a_kind a_who a_key a_value a_tomb a_sequence a_era a_state a_decidedAt r t I O G now) (hr : r < 3) (hp : rl_PL a_offset a_kind a_who a_key a_value a_tomb a_sequence a_era a_state r t I O G now) {post : SX → Prop}
    (k : ∀ c_state c_decidedAt : Nat → Int32, rl_TB a_offset a_kind a_who a_key a_value a_tomb a_sequence a_era c_state c_decidedAt r (t + 1) I O G now → (∀ i, (i < 40 * r ∨ 40 * r + 40 ≤ i) → c_state i = a_state i ∧ c_decidedAt i = a_decidedAt i) → post (f_leader, f_inside, f_now, f_foundKey, f_foundValue, f_foundTomb, f_foundWho, f_foundSequence, f_foundEra, a_offset, a_kind, a_who, a_key, a_value, a_tomb, a_sequence, a_era, c_state, c_decidedAt, a_dead, a_count, a_end, a_mark, a_cleaned, a_gone, a_eraAt, a_eraOf, a_eras, a_epoch, a_latest, a_last, a_places, a_baseEpoch, a_baseLatest, a_baseLast, a_basePlaces, a_base, a_fetched)) :
    wpX_decide post (f_leader, f_inside, f_now, f_foundKey, f_foundValue, f_foundTomb, f_foundWho, f_foundSequence, f_foundEra, a_offset, a_kind, a_who, a_key, a_value, a_tomb, a_sequence, a_era, a_state, a_decidedAt, a_dead, a_count, a_end, a_mark, a_cleaned, a_gone, a_eraAt, a_eraOf, a_eras, a_epoch, a_latest, a_last, a_places, a_baseEpoch, a_baseLatest, a_baseLast, a_basePlaces, a_base, a_fetched) (nI r) (nI (40 * r + rl_rk G t)) := by
  obtain ⟨p1, p2, p3, p4, p5, p6⟩ := hp
  have hC := p3.2.1
  have v1 : vp_in (nI (40 * r + rl_rk G t)) 120 := vp_in_nI (by omega) (by omega)
  have ct : (nI (40 * r + rl_rk G t)).toNatClampNeg = 40 * r + rl_rk G t := nI_clamp (by omega)
  unfold wpX_decide
  refine ⟨v1, ?_⟩
  simp only [ct]
  refine pk_eq (rl_C (I t) - 1) 0 (fun z => k _ _ (rl_TB_snoc h p1 p2 p3 p4 p5 (rl_SS_data h (by omega)) p6) (fun i hi => ⟨rfl, rfl⟩)) (fun z => nm_r (rl_40 r) ⟨rl_rk G t + 1, ?_⟩) p5.2.1 rfl (by omega)
  have := rl_x_de15 (I := I) (O := O) (G := G) (r := r) (t := t) (now := now) hr p1 p2 (fun o ho => by
      rcases Nat.lt_or_ge o t with y | y
      · exact rl_xw h y
      · have e : o = t := by omega
        rw [e]; exact p3) p5.2.2.1 p5.2.1 p5.1 (by omega) (fun j hj hgj => (rl_TX_T0 ((h.2.2.2 j hj).2 hgj)).1.2.2.1) (post := post)
      (fun cs cd h1 h2 => k cs cd (rl_TB_snoc h p1 p2 p3 p4 p5 h1 (by rw [(h2 _ (Or.inr (Nat.le_refl _))).1]; exact p6)) (fun i hi => h2 i (by omega)))
      t 0 (rl_rk G t + 1) a_state a_decidedAt (by omega) (by omega) (fun j hj => by omega) (fun j _ hj hgj => (rl_TX_T0 ((h.2.2.2 j hj).2 hgj)).2) (fun i hi => ⟨rfl, rfl⟩)
  exact this
theorem rl_x_settle (h : rl_TB a_offset a_kind a_who a_key a_value a_tomb a_sequence a_era a_state a_decidedAt r t I O G now) (hr : r < 3) (hp : rl_PL a_offset a_kind a_who a_key a_value a_tomb a_sequence a_era a_state r t I O G now) (hP : rl_PR a_epoch a_latest a_last a_places r t I) {post : SX → Prop}
    (k : ∀ c_state c_decidedAt c_epoch c_latest c_last c_places : Nat → Int32, rl_TB a_offset a_kind a_who a_key a_value a_tomb a_sequence a_era c_state c_decidedAt r (t + 1) I O G now → rl_PR c_epoch c_latest c_last c_places r (t + 1) I →
      (∀ i, (i < 40 * r ∨ 40 * r + 40 ≤ i) → c_state i = a_state i ∧ c_decidedAt i = a_decidedAt i) → (∀ q, (q < 4 * r ∨ 4 * r + 4 ≤ q) → rl_pv c_epoch c_latest c_last c_places q = rl_pv a_epoch a_latest a_last a_places q) →
      post (f_leader, f_inside, f_now, f_foundKey, f_foundValue, f_foundTomb, f_foundWho, f_foundSequence, f_foundEra, a_offset, a_kind, a_who, a_key, a_value, a_tomb, a_sequence, a_era, c_state, c_decidedAt, a_dead, a_count, a_end, a_mark, a_cleaned, a_gone, a_eraAt, a_eraOf, a_eras, c_epoch, c_latest, c_last, c_places, a_baseEpoch, a_baseLatest, a_baseLast, a_basePlaces, a_base, a_fetched)) :
    wpX_settle post (f_leader, f_inside, f_now, f_foundKey, f_foundValue, f_foundTomb, f_foundWho, f_foundSequence, f_foundEra, a_offset, a_kind, a_who, a_key, a_value, a_tomb, a_sequence, a_era, a_state, a_decidedAt, a_dead, a_count, a_end, a_mark, a_cleaned, a_gone, a_eraAt, a_eraOf, a_eras, a_epoch, a_latest, a_last, a_places, a_baseEpoch, a_baseLatest, a_baseLast, a_basePlaces, a_base, a_fetched) (nI r) (nI (40 * r + rl_rk G t)) := by
  obtain ⟨p1, p2, p3, p4, p5, p6⟩ := hp
  have hC := p3.2.1
  have hB := p3.1
  have v1 : vp_in (nI (40 * r + rl_rk G t)) 120 := vp_in_nI (by omega) (by omega)
  have ct : (nI (40 * r + rl_rk G t)).toNatClampNeg = 40 * r + rl_rk G t := nI_clamp (by omega)
  have eq : (4 : Int32) * nI r + a_who (40 * r + rl_rk G t) = nI (4 * r + rl_B (I t)) := by rw [p5.2.2.1, rl_4, nI_add]
  unfold wpX_settle
  refine ⟨v1, ?_⟩
  simp only [ct, eq]
  refine rl_x_count (q := 4 * r + rl_B (I t)) (i := 40 * r + rl_rk G t) (x := I t) (o := t) (v := rl_ps I (rl_B (I t)) t) (by omega) (by omega) (hP _ hB) (rl_ps_in I _ t).2.1 hC p5.2.1 p5.1 p5.2.2.2.2.2.2.1 ?_
  intro ce cl ca cp k1 k2
  have hPR : rl_PR ce cl ca cp r (t + 1) I := fun p hp => by
    show rl_pv ce cl ca cp (4 * r + p) = rl_pe (rl_stp p (rl_ps I p t) (I t) t)
    by_cases hpe : p = rl_B (I t)
    · rw [hpe]; exact k1
    · rw [k2 _ (by omega), hP p hp]
      unfold rl_stp; rw [if_neg (fun y => hpe y.symm)]
  have hfr : ∀ q, (q < 4 * r ∨ 4 * r + 4 ≤ q) → rl_pv ce cl ca cp q = rl_pv a_epoch a_latest a_last a_places q := fun q hq => k2 q (by omega)
  refine ⟨v1, ?_⟩
  refine pk_eq (rl_C (I t) - 1) 0 (fun z => k _ _ _ _ _ _ (rl_TB_snoc h p1 p2 p3 p4 p5 (rl_SS_data h (by omega)) p6) hPR (fun i hi => ⟨rfl, rfl⟩) hfr) (fun z => nm_r (rl_40 r) ⟨rl_rk G t + 1, ?_⟩) p5.2.1 rfl (by omega)
  have := rl_x_se30 (I := I) (O := O) (G := G) (r := r) (t := t) (now := now) hr p1 p2 (fun o ho => by
      rcases Nat.lt_or_ge o t with y | y
      · exact rl_xw h y
      · have e : o = t := by omega
        rw [e]; exact p3) p5.2.2.1 p5.2.1 p5.1 (by omega) (fun j hj hgj => (rl_TX_T0 ((h.2.2.2 j hj).2 hgj)).1.2.2.1) (post := post)
      (fun cs cd h1 h2 => k cs cd ce cl ca cp (rl_TB_snoc h p1 p2 p3 p4 p5 h1 (by rw [(h2 _ (Or.inr (Nat.le_refl _))).1]; exact p6)) hPR (fun i hi => h2 i (by omega)) hfr)
      t 0 (rl_rk G t + 1) a_state a_decidedAt (by omega) (by omega) (fun j hj => by omega) (fun j _ hj hgj => (rl_TX_T0 ((h.2.2.2 j hj).2 hgj)).2) (fun i hi => ⟨rfl, rfl⟩)
  exact this
/-! place -/
theorem rl_x_place {n w b o : Nat} (hr : r < 3) (hn : n < 40) (hw : w < 128) (hb : b < 128) (hc : a_count r = nI n) {post : Int32 → SX → Prop}
    (k : post (nI (40 * r + n)) (f_leader, f_inside, f_now, f_foundKey, f_foundValue, f_foundTomb, f_foundWho, f_foundSequence, f_foundEra, upd a_offset (40 * r + n) (nI o), upd a_kind (40 * r + n) (nI w), upd a_who (40 * r + n) (nI b), upd a_key (40 * r + n) 0, upd a_value (40 * r + n) 0, upd a_tomb (40 * r + n) 0, upd a_sequence (40 * r + n) 0, a_era, upd a_state (40 * r + n) 0, a_decidedAt, a_dead, upd a_count r (nI (n + 1)), a_end, a_mark, a_cleaned, a_gone, a_eraAt, a_eraOf, a_eras, a_epoch, a_latest, a_last, a_places, a_baseEpoch, a_baseLatest, a_baseLast, a_basePlaces, a_base, a_fetched)) :
    wpX_place post (f_leader, f_inside, f_now, f_foundKey, f_foundValue, f_foundTomb, f_foundWho, f_foundSequence, f_foundEra, a_offset, a_kind, a_who, a_key, a_value, a_tomb, a_sequence, a_era, a_state, a_decidedAt, a_dead, a_count, a_end, a_mark, a_cleaned, a_gone, a_eraAt, a_eraOf, a_eras, a_epoch, a_latest, a_last, a_places, a_baseEpoch, a_baseLatest, a_baseLast, a_basePlaces, a_base, a_fetched) (nI r) (nI w) (nI b) (nI o) := by
  have v : vp_in (nI r) 3 := vp_in_nI hr (by omega)
  have cr : (nI r).toNatClampNeg = r := nI_clamp (by omega)
  have vi : vp_in (nI (40 * r + n)) 120 := vp_in_nI (by omega) (by omega)
  have ci : (nI (40 * r + n)).toNatClampNeg = 40 * r + n := nI_clamp (by omega)
  have ei : (40 : Int32) * nI r + nI n = nI (40 * r + n) := by rw [rl_40, nI_add]
  have z0 : vp_nar .byte 0 = 0 := rfl
  have z1 : vp_nar .boolean 0 = 0 := rfl
  unfold wpX_place
  simp only [cr, hc, ei, nI_1, rl_nar2 hw, rl_nar2 hb, rl_nar2 (show n + 1 < 128 by omega), z0, z1]
  refine ⟨v, v, nm_e (nm_e ?_)⟩
  simp only [ci]
  exact ⟨vi, nm_e ⟨vi, nm_e ⟨vi, nm_e ⟨vi, nm_e ⟨vi, nm_e ⟨vi, nm_e ⟨vi, nm_e ⟨vi, nm_e k⟩⟩⟩⟩⟩⟩⟩⟩
end
end
section
/-! the tables of eras -/
theorem rl_ER_mono {a_eraAt a_eraOf a_eras : Nat → Int32} {r t ls : Nat} {E : Nat → Nat} {n : Nat} {ea eo : Nat → Nat} (h : rl_ER a_eraAt a_eraOf a_eras r t ls E n ea eo) : ∀ {k l : Nat}, k ≤ l → l < n → ea k ≤ ea l ∧ eo k ≤ eo l := by
  intro k l
  induction l with
  | zero => intro hk hl; have e : k = 0 := by omega
            rw [e]; exact ⟨Nat.le_refl _, Nat.le_refl _⟩
  | succ l ih =>
    intro hk hl
    rcases Nat.lt_or_ge l k with y | y
    · have e : k = l + 1 := by omega
      rw [e]; exact ⟨Nat.le_refl _, Nat.le_refl _⟩
    · have := ih y (by omega)
      have := h.2.2.2.2.1 l hl
      omega
theorem rl_ER_lt {a_eraAt a_eraOf a_eras : Nat → Int32} {r t ls : Nat} {E : Nat → Nat} {n : Nat} {ea eo : Nat → Nat} (h : rl_ER a_eraAt a_eraOf a_eras r t ls E n ea eo) {k : Nat} (hk : k < n) : ea k < t := by
  have := (rl_ER_mono h (k := k) (l := n - 1) (by omega) (by omega)).1
  have := h.2.2.2.1 (by omega)
  omega
theorem rl_ER_n {a_eraAt a_eraOf a_eras : Nat → Int32} {r t ls : Nat} {E : Nat → Nat} {n : Nat} {ea eo : Nat → Nat} (h : rl_ER a_eraAt a_eraOf a_eras r t ls E n ea eo) (ht : t ≤ ls + 60) : n ≤ 61 := by
  have key : ∀ k, 0 < k → k < n → ls + k ≤ ea k + 1 := by
    intro k
    induction k with
    | zero => intro h0; omega
    | succ k ih =>
      intro _ hk
      rcases Nat.eq_zero_or_pos k with y | y
      · subst y; have := h.2.2.2.2.2.2.2 (0 + 1) (by omega) hk; omega
      · have := ih y (by omega)
        have := (h.2.2.2.2.1 k hk).1
        omega
  rcases Nat.lt_or_ge n 2 with y | y
  · omega
  · have := key (n - 1) (by omega) (by omega)
    have := rl_ER_lt h (k := n - 1) (by omega)
    omega
theorem rl_ER_cg {a_eraAt a_eraOf a_eras c_eraAt c_eraOf c_eras : Nat → Int32} {r t ls : Nat} {E : Nat → Nat} {n : Nat} {ea eo : Nat → Nat} (h : rl_ER a_eraAt a_eraOf a_eras r t ls E n ea eo) (hn : n ≤ 64)
    (h1 : c_eras r = a_eras r) (h2 : ∀ i, 64 * r ≤ i → i < 64 * r + 64 → c_eraAt i = a_eraAt i ∧ c_eraOf i = a_eraOf i) : rl_ER c_eraAt c_eraOf c_eras r t ls E n ea eo := by
  refine ⟨h1.trans h.1, fun k hk => ?_, h.2.2⟩
  rw [(h2 (64 * r + k) (by omega) (by omega)).1, (h2 (64 * r + k) (by omega) (by omega)).2]
  exact h.2.1 k hk
theorem rl_ER_E {a_eraAt a_eraOf a_eras : Nat → Int32} {r t ls : Nat} {E F : Nat → Nat} {n : Nat} {ea eo : Nat → Nat} (h : rl_ER a_eraAt a_eraOf a_eras r t ls E n ea eo) (hE : ∀ o, o < t → E o = F o) : rl_ER a_eraAt a_eraOf a_eras r t ls F n ea eo :=
  ⟨h.1, h.2.1, h.2.2.1, h.2.2.2.1, h.2.2.2.2.1, fun k hk o h1 h2 h3 => (hE o h2).symm.trans (h.2.2.2.2.2.1 k hk o h1 h2 h3), h.2.2.2.2.2.2⟩
theorem rl_ER_eo {a_eraAt a_eraOf a_eras : Nat → Int32} {r t ls : Nat} {E : Nat → Nat} {n : Nat} {ea eo : Nat → Nat} (h : rl_ER a_eraAt a_eraOf a_eras r t ls E n ea eo) {k : Nat} (hk : k < n) : E (ea k) = eo k :=
  h.2.2.2.2.2.1 k hk (ea k) (Nat.le_refl _) (rl_ER_lt h hk) (fun y => (h.2.2.2.2.1 k y).1)
/-- frame of one replica's table of eras -/
def rl_EF (a_eraAt a_eraOf a_eras c_eraAt c_eraOf c_eras : Nat → Int32) (r : Nat) : Prop :=
  (∀ s, s ≠ r → c_eras s = a_eras s) ∧ ∀ i, (i < 64 * r ∨ 64 * r + 64 ≤ i) → c_eraAt i = a_eraAt i ∧ c_eraOf i = a_eraOf i
section
variable {f_leader f_inside f_now f_foundKey f_foundValue f_foundTomb f_foundWho f_foundSequence f_foundEra : Int32} {a_offset a_kind a_who a_key a_value a_tomb a_sequence a_era a_state a_decidedAt a_dead a_count a_end a_mark a_cleaned a_gone a_eraAt a_eraOf a_eras a_epoch a_latest a_last a_places a_baseEpoch a_baseLatest a_baseLast a_basePlaces a_base a_fetched : Nat → Int32} {E : Nat → Nat} {r t ls n : Nat} {ea eo mark : Nat → Nat}
theorem rl_x_beginEra (hr : r < 3) (h : rl_ER a_eraAt a_eraOf a_eras r t ls E n ea eo) (hn : n ≤ 62) (ht : t ≤ 600) (hEb : ∀ o, o < t → E o ≤ 4000) {t' e : Nat} (htt : t < t') (he : ∀ o, t ≤ o → o < t' → E o = e) (hb : e ≤ 4000) (hm : 0 < t → E (t - 1) ≤ e) (hls : ls ≤ t) {post : SX → Prop}
    (k : ∀ (c_eraAt c_eraOf c_eras : Nat → Int32) (n' : Nat) (ea' eo' : Nat → Nat), rl_ER c_eraAt c_eraOf c_eras r t' ls E n' ea' eo' → n' ≤ n + 1 → rl_EF a_eraAt a_eraOf a_eras c_eraAt c_eraOf c_eras r → post (f_leader, f_inside, f_now, f_foundKey, f_foundValue, f_foundTomb, f_foundWho, f_foundSequence, f_foundEra, a_offset, a_kind, a_who, a_key, a_value, a_tomb, a_sequence, a_era, a_state, a_decidedAt, a_dead, a_count, a_end, a_mark, a_cleaned, a_gone, c_eraAt, c_eraOf, c_eras, a_epoch, a_latest, a_last, a_places, a_baseEpoch, a_baseLatest, a_baseLast, a_basePlaces, a_base, a_fetched)) :
    wpX_beginEra post (f_leader, f_inside, f_now, f_foundKey, f_foundValue, f_foundTomb, f_foundWho, f_foundSequence, f_foundEra, a_offset, a_kind, a_who, a_key, a_value, a_tomb, a_sequence, a_era, a_state, a_decidedAt, a_dead, a_count, a_end, a_mark, a_cleaned, a_gone, a_eraAt, a_eraOf, a_eras, a_epoch, a_latest, a_last, a_places, a_baseEpoch, a_baseLatest, a_baseLast, a_basePlaces, a_base, a_fetched) (nI r) (nI t) (nI e) := by
  have v : vp_in (nI r) 3 := vp_in_nI hr (by omega)
  have cr : (nI r).toNatClampNeg = r := nI_clamp (by omega)
  have push : (0 < n → eo (n - 1) ≠ e) → wX_beginEra_32 post (nI r) (nI t) (nI e) (nI n) f_leader f_inside f_now f_foundKey f_foundValue f_foundTomb f_foundWho f_foundSequence f_foundEra a_offset a_kind a_who a_key a_value a_tomb a_sequence a_era a_state a_decidedAt a_dead a_count a_end a_mark a_cleaned a_gone a_eraAt a_eraOf a_eras a_epoch a_latest a_last a_places a_baseEpoch a_baseLatest a_baseLast a_basePlaces a_base a_fetched := by
    intro hne
    have e1 : (64 : Int32) * nI r + nI n = nI (64 * r + n) := by rw [rl_64, nI_add]
    have vi : vp_in (nI (64 * r + n)) 192 := vp_in_nI (by omega) (by omega)
    have ci : (nI (64 * r + n)).toNatClampNeg = 64 * r + n := nI_clamp (by omega)
    unfold wX_beginEra_32
    simp only [e1, ci, cr, h.1, nI_1, rl_nar2 (show n + 1 < 128 by omega)]
    refine ⟨vi, nm_e ⟨vi, nm_e ⟨v, v, nm_e (k _ _ _ (n + 1) (rl_u ea n t) (rl_u eo n e) ?_ (Nat.le_refl _) ⟨fun s hs => pk_un hs, fun i hi => ⟨pk_un (by omega), pk_un (by omega)⟩⟩)⟩⟩⟩
    have lst : 0 < n → eo (n - 1) < e := fun h0 => by
      have h1 := rl_ER_lt h (k := n - 1) (by omega)
      have h2 := h.2.2.2.2.2.1 (n - 1) (by omega) (t - 1) (by omega) (by omega) (fun y => by omega)
      have h3 := hm (by omega)
      have h4 := hne h0
      omega
    refine ⟨pk_us, fun j hj => ?_, fun y => by omega, fun _ => ?_, fun j hj => ?_, fun j hj o h1 h2 h3 => ?_, fun _ => ?_, fun j h0 hj => ?_⟩
    · rcases Nat.lt_or_ge j n with y | y
      · rw [pk_un (by omega), pk_un (by omega), rl_un (by omega), rl_un (by omega)]; exact h.2.1 j y
      · have ej : j = n := by omega
        rw [ej, pk_us, pk_us, rl_us, rl_us]; exact ⟨rfl, rfl⟩
    · rw [Nat.add_sub_cancel, rl_us]; exact htt
    · rcases Nat.lt_or_ge (j + 1) n with y | y
      · rw [rl_un (by omega), rl_un (by omega), rl_un (by omega), rl_un (by omega)]; exact h.2.2.2.2.1 j y
      · have ej : n = j + 1 := by omega
        rw [ej, rl_us, rl_us, rl_un (by omega), rl_un (by omega)]
        have l1 := rl_ER_lt h (k := j) (by omega)
        have l2 := lst (by omega)
        rw [ej, Nat.add_sub_cancel] at l2
        exact ⟨l1, l2⟩
    · rcases Nat.lt_or_ge j n with y | y
      · rw [rl_un (by omega)] at h1
        rw [rl_un (by omega)]
        have h4 := h3 (by omega)
        have hot : o < t := by
          rcases Nat.lt_or_ge (j + 1) n with y2 | y2
          · rw [rl_un (by omega)] at h4
            have := rl_ER_lt h y2; omega
          · have ej : n = j + 1 := by omega
            rw [ej, rl_us] at h4; exact h4
        refine h.2.2.2.2.2.1 j y o h1 hot (fun y2 => ?_)
        rw [rl_un (by omega)] at h4; exact h4
      · have ej : j = n := by omega
        rw [ej, rl_us] at h1 ⊢
        exact he o h1 h2
    · rcases Nat.eq_zero_or_pos n with y | y
      · subst y; rw [rl_us]; exact Or.inl (h.2.2.1 rfl)
      · rw [rl_un (by omega)]; exact h.2.2.2.2.2.2.1 y
    · rcases Nat.lt_or_ge j n with y | y
      · rw [rl_un (by omega)]; exact h.2.2.2.2.2.2.2 j h0 y
      · have ej : j = n := by omega
        rw [ej, rl_us]; exact hls
  unfold wpX_beginEra
  simp only [cr]
  refine ⟨v, nm_r h.1 (pk_le n 0 (fun z => push (fun y => by omega)) (fun z => ?_))⟩
  have e2 : (64 : Int32) * nI r + nI n - 1 = nI (64 * r + (n - 1)) := by
    rw [rl_64, nI_add, rl_s1 (by omega)]; exact congrArg nI (by omega)
  have ci : (nI (64 * r + (n - 1))).toNatClampNeg = 64 * r + (n - 1) := nI_clamp (by omega)
  have eE := (h.2.1 (n - 1) (by omega)).2
  have hl := rl_ER_eo h (k := n - 1) (by omega)
  have hl2 := hEb _ (rl_ER_lt h (k := n - 1) (by omega))
  simp only [e2, ci]
  refine ⟨vp_in_nI (by omega) (by omega), pk_eq (eo (n - 1)) e (fun ye => ?_) (fun yn => push (fun _ => yn)) eE⟩
  refine k a_eraAt a_eraOf a_eras n ea eo ⟨h.1, h.2.1, fun y => by omega, fun y => ?_, h.2.2.2.2.1, fun j hj o h1 h2 h3 => ?_, h.2.2.2.2.2.2⟩ (by omega) ⟨fun _ _ => rfl, fun _ _ => ⟨rfl, rfl⟩⟩
  · have := h.2.2.2.1 y; omega
  · rcases Nat.lt_or_ge o t with y | y
    · exact h.2.2.2.2.2.1 j hj o h1 y h3
    · have ej : j = n - 1 := by
        rcases Nat.lt_or_ge (j + 1) n with y2 | y2
        · have := h3 y2; have := rl_ER_lt h y2; omega
        · omega
      rw [ej, ye]; exact he o y h2
/-! forgetEras -/
theorem rl_x_fe64 (hr : r < 3) {m d : Nat} (hd : 0 < d) (hm : m + d ≤ 62) (hs : a_eras r = nI m) {post : SX → Prop}
    (k : ∀ c_eraAt c_eraOf : Nat → Int32, (∀ i, i < m → c_eraAt (64 * r + i) = a_eraAt (64 * r + (i + d)) ∧ c_eraOf (64 * r + i) = a_eraOf (64 * r + (i + d))) →
      (∀ i, (i < 64 * r ∨ 64 * r + 64 ≤ i) → c_eraAt i = a_eraAt i ∧ c_eraOf i = a_eraOf i) → post (f_leader, f_inside, f_now, f_foundKey, f_foundValue, f_foundTomb, f_foundWho, f_foundSequence, f_foundEra, a_offset, a_kind, a_who, a_key, a_value, a_tomb, a_sequence, a_era, a_state, a_decidedAt, a_dead, a_count, a_end, a_mark, a_cleaned, a_gone, c_eraAt, c_eraOf, a_eras, a_epoch, a_latest, a_last, a_places, a_baseEpoch, a_baseLatest, a_baseLast, a_basePlaces, a_base, a_fetched)) :
    ∀ n j (c_eraAt c_eraOf : Nat → Int32), j ≤ m → m - j < n → (∀ i, i < j → c_eraAt (64 * r + i) = a_eraAt (64 * r + (i + d)) ∧ c_eraOf (64 * r + i) = a_eraOf (64 * r + (i + d))) →
      (∀ i, j ≤ i → i < 64 → c_eraAt (64 * r + i) = a_eraAt (64 * r + i) ∧ c_eraOf (64 * r + i) = a_eraOf (64 * r + i)) →
      (∀ i, (i < 64 * r ∨ 64 * r + 64 ≤ i) → c_eraAt i = a_eraAt i ∧ c_eraOf i = a_eraOf i) →
      wX_forgetEras_64 post (nI r) (nI d) f_leader f_inside f_now f_foundKey f_foundValue f_foundTomb f_foundWho f_foundSequence f_foundEra n (nI (64 * r + j)) a_offset a_kind a_who a_key a_value a_tomb a_sequence a_era a_state a_decidedAt a_dead a_count a_end a_mark a_cleaned a_gone c_eraAt c_eraOf a_eras a_epoch a_latest a_last a_places a_baseEpoch a_baseLatest a_baseLast a_basePlaces a_base a_fetched := by
  have v : vp_in (nI r) 3 := vp_in_nI hr (by omega)
  have cr : (nI r).toNatClampNeg = r := nI_clamp (by omega)
  intro n
  induction n with
  | zero => intro j ca co h1 h2; omega
  | succ n ih =>
    intro j ca co hj hn h1 h2 h3
    have e1 : (64 : Int32) * nI r + a_eras (nI r).toNatClampNeg = nI (64 * r + m) := by rw [cr, hs, rl_64, nI_add]
    refine ⟨v, pk_le (64 * r + m) (64 * r + j) (fun z => ?_) (fun z => ?_) e1 rfl⟩
    · have e : j = m := by omega
      subst e; exact k ca co h1 h3
    · have e2 : nI (64 * r + j) + nI d = nI (64 * r + (j + d)) := by rw [nI_add]; exact congrArg nI (by omega)
      have c2 : (nI (64 * r + (j + d))).toNatClampNeg = 64 * r + (j + d) := nI_clamp (by omega)
      have c1 : (nI (64 * r + j)).toNatClampNeg = 64 * r + j := nI_clamp (by omega)
      have v1 : vp_in (nI (64 * r + j)) 192 := vp_in_nI (by omega) (by omega)
      have v2 : vp_in (nI (64 * r + (j + d))) 192 := vp_in_nI (by omega) (by omega)
      obtain ⟨g1, g2⟩ := h2 (j + d) (by omega) (by omega)
      simp only [e2, c1, c2, g1, g2]
      refine ⟨v2, v1, nm_e ⟨v2, v1, nm_e (nm_r (nI_1 _) (ih (j + 1) _ _ (by omega) (by omega) (fun i hi => ?_) (fun i hi hi2 => ?_) (fun i hi => ?_)))⟩⟩
      · rcases Nat.lt_or_ge i j with y | y
        · rw [pk_un (by omega), pk_un (by omega)]; exact h1 i y
        · have ei : i = j := by omega
          rw [ei, pk_us, pk_us]; exact ⟨rfl, rfl⟩
      · rw [pk_un (by omega), pk_un (by omega)]; exact h2 i (by omega) hi2
      · rw [pk_un (by omega), pk_un (by omega)]; exact h3 i hi
theorem rl_x_fe42 (hr : r < 3) {ls' : Nat} (h : rl_ER a_eraAt a_eraOf a_eras r t ls E n ea eo) (hn : n ≤ 62) (hls : ls ≤ ls') {d : Nat} (hd : ∀ j, 0 < j → j ≤ d → j < n ∧ ea j < ls') (hd0 : d = 0 ∨ d < n) (hx : n ≤ d + 1 ∨ ls' ≤ ea (d + 1)) {post : SX → Prop}
    (k : ∀ (c_eraAt c_eraOf c_eras : Nat → Int32) (n' : Nat) (ea' eo' : Nat → Nat), rl_ER c_eraAt c_eraOf c_eras r t ls' E n' ea' eo' → n' ≤ 62 → rl_EF a_eraAt a_eraOf a_eras c_eraAt c_eraOf c_eras r → post (f_leader, f_inside, f_now, f_foundKey, f_foundValue, f_foundTomb, f_foundWho, f_foundSequence, f_foundEra, a_offset, a_kind, a_who, a_key, a_value, a_tomb, a_sequence, a_era, a_state, a_decidedAt, a_dead, a_count, a_end, a_mark, a_cleaned, a_gone, c_eraAt, c_eraOf, c_eras, a_epoch, a_latest, a_last, a_places, a_baseEpoch, a_baseLatest, a_baseLast, a_basePlaces, a_base, a_fetched)) :
    wX_forgetEras_42 post (nI r) (nI d) f_leader f_inside f_now f_foundKey f_foundValue f_foundTomb f_foundWho f_foundSequence f_foundEra a_offset a_kind a_who a_key a_value a_tomb a_sequence a_era a_state a_decidedAt a_dead a_count a_end a_mark a_cleaned a_gone a_eraAt a_eraOf a_eras a_epoch a_latest a_last a_places a_baseEpoch a_baseLatest a_baseLast a_basePlaces a_base a_fetched := by
  have v : vp_in (nI r) 3 := vp_in_nI hr (by omega)
  have cr : (nI r).toNatClampNeg = r := nI_clamp (by omega)
  have up : ∀ j, 0 < j → j + d < n → ls' ≤ ea (j + d) := fun j hj hjn => by
    rcases hx with y | y
    · omega
    · have := (rl_ER_mono h (k := d + 1) (l := j + d) (by omega) hjn).1; omega
  unfold wX_forgetEras_42
  refine pk_eq d 0 (fun z => ?_) (fun z => ⟨v, v, ?_⟩)
  · subst z
    refine k a_eraAt a_eraOf a_eras n ea eo ⟨h.1, h.2.1, h.2.2.1, h.2.2.2.1, h.2.2.2.2.1, h.2.2.2.2.2.1, fun y => ?_, fun j h0 hj => up j h0 hj⟩ hn ⟨fun _ _ => rfl, fun _ _ => ⟨rfl, rfl⟩⟩
    rcases h.2.2.2.2.2.2.1 y with a | a
    · exact Or.inl a
    · exact Or.inr (by omega)
  · have hdn : d < n := by omega
    have e1 : vp_nar .byte ((a_eras r - nI d).toInt8.toInt32) = nI (n - d) := by rw [h.1, pk_sub (by omega)]; exact rl_nar2 (by omega)
    simp only [cr, e1]
    refine nm_e (nm_r (rl_64 r) ⟨n - d + 1, ?_⟩)
    refine rl_x_fe64 (m := n - d) (d := d) (a_eras := upd a_eras r (nI (n - d))) hr (by omega) (by omega) pk_us (fun ca co h1 h2 => ?_) (n - d + 1) 0 a_eraAt a_eraOf (by omega) (by omega) (fun i hi => by omega) (fun i _ _ => ⟨rfl, rfl⟩) (fun i _ => ⟨rfl, rfl⟩)
    refine k ca co _ (n - d) (fun j => ea (j + d)) (fun j => eo (j + d)) ⟨pk_us, fun j hj => ?_, fun y => by omega, fun y => ?_, fun j hj => ?_, fun j hj o h3 h4 h5 => ?_, fun y => ?_, fun j h0 hj => up j h0 (by omega)⟩ (by omega) ⟨fun s hs => pk_un hs, h2⟩
    · rw [(h1 j hj).1, (h1 j hj).2]; exact h.2.1 (j + d) (by omega)
    · show ea (n - d - 1 + d) < t
      have e : n - d - 1 + d = n - 1 := by omega
      rw [e]; exact h.2.2.2.1 (by omega)
    · have := h.2.2.2.2.1 (j + d) (by omega)
      have e : j + 1 + d = j + d + 1 := by omega
      show ea (j + d) < ea (j + 1 + d) ∧ eo (j + d) < eo (j + 1 + d)
      rw [e]; exact this
    · refine h.2.2.2.2.2.1 (j + d) (by omega) o h3 h4 (fun y => ?_)
      have h6 : o < ea (j + 1 + d) := h5 (by omega)
      have e : j + 1 + d = j + d + 1 := by omega
      rw [e] at h6; exact h6
    · refine Or.inr ?_
      show ea (0 + d) < ls'
      rw [Nat.zero_add]; exact (hd d (by omega) (Nat.le_refl _)).2
theorem rl_x_fe7 (hr : r < 3) {ls' : Nat} (h : rl_ER a_eraAt a_eraOf a_eras r t ls E n ea eo) (hn : n ≤ 62) (hls : ls ≤ ls') (hlt : ls' ≤ 600) (ht : t ≤ 600) {post : SX → Prop}
    (k : ∀ (c_eraAt c_eraOf c_eras : Nat → Int32) (n' : Nat) (ea' eo' : Nat → Nat), rl_ER c_eraAt c_eraOf c_eras r t ls' E n' ea' eo' → n' ≤ 62 → rl_EF a_eraAt a_eraOf a_eras c_eraAt c_eraOf c_eras r → post (f_leader, f_inside, f_now, f_foundKey, f_foundValue, f_foundTomb, f_foundWho, f_foundSequence, f_foundEra, a_offset, a_kind, a_who, a_key, a_value, a_tomb, a_sequence, a_era, a_state, a_decidedAt, a_dead, a_count, a_end, a_mark, a_cleaned, a_gone, c_eraAt, c_eraOf, c_eras, a_epoch, a_latest, a_last, a_places, a_baseEpoch, a_baseLatest, a_baseLast, a_basePlaces, a_base, a_fetched)) :
    ∀ m d, 63 - d < m → (∀ j, 0 < j → j ≤ d → j < n ∧ ea j < ls') → (d = 0 ∨ d < n) → wX_forgetEras_7 post (nI r) (nI ls') f_leader f_inside f_now f_foundKey f_foundValue f_foundTomb f_foundWho f_foundSequence f_foundEra a_offset a_kind a_who a_key a_value a_tomb a_sequence a_era a_state a_decidedAt a_dead a_count a_end a_mark a_cleaned a_gone a_eraAt a_eraOf a_eras a_epoch a_latest a_last a_places a_baseEpoch a_baseLatest a_baseLast a_basePlaces a_base a_fetched m (nI d) := by
  have v : vp_in (nI r) 3 := vp_in_nI hr (by omega)
  have cr : (nI r).toNatClampNeg = r := nI_clamp (by omega)
  intro m
  induction m with
  | zero => intro d h1; omega
  | succ m ih =>
    intro d hm hd hd0
    have e0 : a_eras (nI r).toNatClampNeg = nI n := by rw [cr]; exact h.1
    refine ⟨v, pk_le n (d + 1) (fun z => rl_x_fe42 hr h hn hls hd hd0 (Or.inl z) k) (fun z => ?_) e0 (nI_1 d)⟩
    have e1 : (64 : Int32) * nI r + nI d + 1 = nI (64 * r + (d + 1)) := by rw [rl_64, nI_add, nI_1]; rfl
    have c1 : (nI (64 * r + (d + 1))).toNatClampNeg = 64 * r + (d + 1) := nI_clamp (by omega)
    have l1 := rl_ER_lt h z
    simp only [e1, c1]
    refine ⟨vp_in_nI (by omega) (by omega), pk_le ls' (ea (d + 1)) (fun y => rl_x_fe42 hr h hn hls hd hd0 (Or.inr y) k) (fun y => nm_r (nI_1 _) (ih (d + 1) (by omega) (fun j h0 hj => ?_) (Or.inr z))) rfl (h.2.1 (d + 1) z).1⟩
    rcases Nat.lt_or_ge d j with x | x
    · have e : j = d + 1 := by omega
      rw [e]; exact ⟨z, y⟩
    · exact hd j h0 x
theorem rl_x_forgetEras (hr : r < 3) (h : rl_ER a_eraAt a_eraOf a_eras r t ls E n ea eo) (hn : n ≤ 62) (hls : ls ≤ rl_ls mark) (ht : t ≤ 600) (hm : ∀ r, r < 3 → a_mark r = nI (mark r) ∧ mark r ≤ 600) {post : SX → Prop}
    (k : ∀ (c_eraAt c_eraOf c_eras : Nat → Int32) (n' : Nat) (ea' eo' : Nat → Nat), rl_ER c_eraAt c_eraOf c_eras r t (rl_ls mark) E n' ea' eo' → n' ≤ 62 → rl_EF a_eraAt a_eraOf a_eras c_eraAt c_eraOf c_eras r → post (f_leader, f_inside, f_now, f_foundKey, f_foundValue, f_foundTomb, f_foundWho, f_foundSequence, f_foundEra, a_offset, a_kind, a_who, a_key, a_value, a_tomb, a_sequence, a_era, a_state, a_decidedAt, a_dead, a_count, a_end, a_mark, a_cleaned, a_gone, c_eraAt, c_eraOf, c_eras, a_epoch, a_latest, a_last, a_places, a_baseEpoch, a_baseLatest, a_baseLast, a_basePlaces, a_base, a_fetched)) :
    wpX_forgetEras post (f_leader, f_inside, f_now, f_foundKey, f_foundValue, f_foundTomb, f_foundWho, f_foundSequence, f_foundEra, a_offset, a_kind, a_who, a_key, a_value, a_tomb, a_sequence, a_era, a_state, a_decidedAt, a_dead, a_count, a_end, a_mark, a_cleaned, a_gone, a_eraAt, a_eraOf, a_eras, a_epoch, a_latest, a_last, a_places, a_baseEpoch, a_baseLatest, a_baseLast, a_basePlaces, a_base, a_fetched) (nI r) := by
  unfold wpX_forgetEras
  have h0 := rl_ls_le (mark := mark) (r := 0) (by omega)
  have h1 := (hm 0 (by omega)).2
  exact rl_x_leastMark hm ⟨64, rl_x_fe7 hr h hn hls (by omega) ht k 64 0 (by omega) (fun j h0 hj => by omega) (Or.inl rfl)⟩
end
/-! all three replicas -/
def rl_EA (a_eraAt a_eraOf a_eras : Nat → Int32) (top : Nat → Nat) (I : Nat → Nat → rl_ID) (ls : Nat) : Prop :=
  ∀ r, r < 3 → ∃ n ea eo, n ≤ 62 ∧ rl_ER a_eraAt a_eraOf a_eras r (top r) ls (fun o => rl_E (I r o)) n ea eo
section
variable {f_leader f_inside f_now f_foundKey f_foundValue f_foundTomb f_foundWho f_foundSequence f_foundEra : Int32} {a_offset a_kind a_who a_key a_value a_tomb a_sequence a_era a_state a_decidedAt a_dead a_count a_end a_mark a_cleaned a_gone a_eraAt a_eraOf a_eras a_epoch a_latest a_last a_places a_baseEpoch a_baseLatest a_baseLast a_basePlaces a_base a_fetched : Nat → Int32} {I : Nat → Nat → rl_ID} {top mark fet : Nat → Nat} {mem : Nat → Prop} {L ls : Nat}
/-- forgetEras of the replicas below j is done -/
def rl_EJ (a_eraAt a_eraOf a_eras : Nat → Int32) (top : Nat → Nat) (I : Nat → Nat → rl_ID) (ls ls' j : Nat) : Prop :=
  ∀ r, r < 3 → ∃ n ea eo, n ≤ 62 ∧ rl_ER a_eraAt a_eraOf a_eras r (top r) (if r < j then ls' else ls) (fun o => rl_E (I r o)) n ea eo
theorem rl_x_feJ {j : Nat} (hj : j < 3) (h : rl_EJ a_eraAt a_eraOf a_eras top I ls (rl_ls mark) j) (hls : ls ≤ rl_ls mark) (ht : ∀ r, r < 3 → top r ≤ 600) (hm : ∀ r, r < 3 → a_mark r = nI (mark r) ∧ mark r ≤ 600) {post : SX → Prop}
    (k : ∀ (c_eraAt c_eraOf c_eras : Nat → Int32), rl_EJ c_eraAt c_eraOf c_eras top I ls (rl_ls mark) (j + 1) → post (f_leader, f_inside, f_now, f_foundKey, f_foundValue, f_foundTomb, f_foundWho, f_foundSequence, f_foundEra, a_offset, a_kind, a_who, a_key, a_value, a_tomb, a_sequence, a_era, a_state, a_decidedAt, a_dead, a_count, a_end, a_mark, a_cleaned, a_gone, c_eraAt, c_eraOf, c_eras, a_epoch, a_latest, a_last, a_places, a_baseEpoch, a_baseLatest, a_baseLast, a_basePlaces, a_base, a_fetched)) :
    wpX_forgetEras post (f_leader, f_inside, f_now, f_foundKey, f_foundValue, f_foundTomb, f_foundWho, f_foundSequence, f_foundEra, a_offset, a_kind, a_who, a_key, a_value, a_tomb, a_sequence, a_era, a_state, a_decidedAt, a_dead, a_count, a_end, a_mark, a_cleaned, a_gone, a_eraAt, a_eraOf, a_eras, a_epoch, a_latest, a_last, a_places, a_baseEpoch, a_baseLatest, a_baseLast, a_basePlaces, a_base, a_fetched) (nI j) := by
  obtain ⟨n, ea, eo, hn, hE⟩ := h j hj
  rw [if_neg (by omega)] at hE
  refine rl_x_forgetEras hj hE hn hls (ht j hj) hm (fun ca co cs n' ea' eo' h1 h2 h3 => k ca co cs (fun r hr => ?_))
  by_cases e : r = j
  · subst e; rw [if_pos (by omega)]; exact ⟨n', ea', eo', h2, h1⟩
  · obtain ⟨m, fa, fo, hm1, hm2⟩ := h r hr
    have ec : (if r < j + 1 then rl_ls mark else ls) = if r < j then rl_ls mark else ls := by
      by_cases y : r < j
      · rw [if_pos y, if_pos (by omega)]
      · rw [if_neg y, if_neg (by omega)]
    rw [ec]
    exact ⟨m, fa, fo, hm1, rl_ER_cg hm2 (by omega) (h3.1 r e) (fun i h1 h2 => h3.2 i (by omega))⟩
theorem rl_x_ad89 (hls : ls ≤ rl_ls mark) (ht : ∀ r, r < 3 → top r ≤ 600) (hm : ∀ r, r < 3 → a_mark r = nI (mark r) ∧ mark r ≤ 600) {post : SX → Prop}
    (k : ∀ (c_eraAt c_eraOf c_eras : Nat → Int32), rl_EA c_eraAt c_eraOf c_eras top I (rl_ls mark) → post (f_leader, f_inside, f_now, f_foundKey, f_foundValue, f_foundTomb, f_foundWho, f_foundSequence, f_foundEra, a_offset, a_kind, a_who, a_key, a_value, a_tomb, a_sequence, a_era, a_state, a_decidedAt, a_dead, a_count, a_end, a_mark, a_cleaned, a_gone, c_eraAt, c_eraOf, c_eras, a_epoch, a_latest, a_last, a_places, a_baseEpoch, a_baseLatest, a_baseLast, a_basePlaces, a_base, a_fetched)) :
    ∀ n j (c_eraAt c_eraOf c_eras : Nat → Int32), j ≤ 3 → 3 - j < n → rl_EJ c_eraAt c_eraOf c_eras top I ls (rl_ls mark) j → wX_advance_89 post n (nI j) f_leader f_inside f_now f_foundKey f_foundValue f_foundTomb f_foundWho f_foundSequence f_foundEra a_offset a_kind a_who a_key a_value a_tomb a_sequence a_era a_state a_decidedAt a_dead a_count a_end a_mark a_cleaned a_gone c_eraAt c_eraOf c_eras a_epoch a_latest a_last a_places a_baseEpoch a_baseLatest a_baseLast a_basePlaces a_base a_fetched := by
  intro n
  induction n with
  | zero => intro j ca co cs h1 h2; omega
  | succ n ih =>
    intro j ca co cs hj hn hE
    refine pk_le 3 j (fun z => k ca co cs (fun r hr => ?_)) (fun z => ?_)
    · obtain ⟨m, fa, fo, hm1, hm2⟩ := hE r hr
      rw [if_pos (by omega)] at hm2
      exact ⟨m, fa, fo, hm1, hm2⟩
    · exact rl_x_feJ z hE hls ht hm (fun c1 c2 c3 h1 => nm_r (nI_1 _) (ih (j + 1) c1 c2 c3 (by omega) (by omega) h1))
theorem rl_x_ad20s {post : SX → Prop} (hL : L < 3) (hl : f_leader = nI L) (hi : f_inside = rl_in mem) (hf : ∀ r, r < 3 → a_fetched r = nI (fet r) ∧ fet r ≤ 600) {n m j : Nat} (hj : j < 3) (hm : m ≤ 600)
    (h : wX_advance_20 post f_leader f_inside f_now f_foundKey f_foundValue f_foundTomb f_foundWho f_foundSequence f_foundEra a_offset a_kind a_who a_key a_value a_tomb a_sequence a_era a_state a_decidedAt a_dead a_count a_end a_mark a_cleaned a_gone a_eraAt a_eraOf a_eras a_epoch a_latest a_last a_places a_baseEpoch a_baseLatest a_baseLast a_basePlaces a_base a_fetched n (nI (rl_a1 fet mem L m j)) (nI (j + 1))) : wX_advance_20 post f_leader f_inside f_now f_foundKey f_foundValue f_foundTomb f_foundWho f_foundSequence f_foundEra a_offset a_kind a_who a_key a_value a_tomb a_sequence a_era a_state a_decidedAt a_dead a_count a_end a_mark a_cleaned a_gone a_eraAt a_eraOf a_eras a_epoch a_latest a_last a_places a_baseEpoch a_baseLatest a_baseLast a_basePlaces a_base a_fetched (n + 1) (nI m) (nI j) := by
  subst hl
  have v : vp_in (nI j) 3 := vp_in_nI hj (by omega)
  obtain ⟨f1, f2⟩ := hf j hj
  have ef : a_fetched (nI j).toNatClampNeg = nI (fet j) := by rw [nI_clamp (by omega)]; exact f1
  refine pk_le 3 j (fun z => by omega) (fun _ => pk_eq j L (fun e => ?_) (fun e => ?_))
  · have e1 : rl_a1 fet mem L m j = m := rl_if (fun y => y.1 e)
    rw [e1] at h; exact nm_r (nI_1 _) h
  · refine rl_x_isIn hi hj (rl_br rfl (fun hm1 => ?_) (fun hm1 => ⟨v, pk_le m (fet j) (fun z => ?_) (fun z => ⟨v, nm_r ef ?_⟩) rfl ef⟩))
    · have e1 : rl_a1 fet mem L m j = m := rl_if (fun y => hm1 y.2.1)
      rw [e1] at h; exact nm_r (nI_1 _) h
    · have e1 : rl_a1 fet mem L m j = m := rl_if (fun y => by have := y.2.2; omega)
      rw [e1] at h; exact nm_r (nI_1 _) h
    · have e1 : rl_a1 fet mem L m j = fet j := rl_it ⟨e, hm1, z⟩
      rw [e1] at h; exact nm_r (nI_1 _) h
/-- the marks after advance -/
noncomputable def rl_mk (top mark fet : Nat → Nat) (mem : Nat → Prop) (L : Nat) : Nat → Nat := rl_u mark L (max (mark L) (rl_am top fet mem L))
theorem rl_mk_ge (top mark fet : Nat → Nat) (mem : Nat → Prop) (L r : Nat) : mark r ≤ rl_mk top mark fet mem L r := by
  unfold rl_mk
  by_cases h : r = L
  · rw [h, rl_us]; omega
  · rw [rl_un h]; omega
theorem rl_ls_mono {mark mark' : Nat → Nat} (h : ∀ r, r < 3 → mark r ≤ mark' r) : rl_ls mark ≤ rl_ls mark' := by
  have h0 := h 0 (by omega); have h1 := h 1 (by omega); have h2 := h 2 (by omega)
  unfold rl_ls; omega
theorem rl_x_advance {post : SX → Prop} (hL : L < 3) (hl : f_leader = nI L) (hi : f_inside = rl_in mem) (ht : ∀ r, r < 3 → a_end r = nI (top r) ∧ top r ≤ 600) (hm : ∀ r, r < 3 → a_mark r = nI (mark r) ∧ mark r ≤ 600)
    (hf : ∀ r, r < 3 → a_fetched r = nI (fet r) ∧ fet r ≤ 600) (hE : rl_EA a_eraAt a_eraOf a_eras top I ls) (hls : ls ≤ rl_ls mark)
    (k : ∀ (c_mark c_eraAt c_eraOf c_eras : Nat → Int32), (∀ r, r < 3 → c_mark r = nI (rl_mk top mark fet mem L r)) → rl_EA c_eraAt c_eraOf c_eras top I (rl_ls (rl_mk top mark fet mem L)) → post (f_leader, f_inside, f_now, f_foundKey, f_foundValue, f_foundTomb, f_foundWho, f_foundSequence, f_foundEra, a_offset, a_kind, a_who, a_key, a_value, a_tomb, a_sequence, a_era, a_state, a_decidedAt, a_dead, a_count, a_end, c_mark, a_cleaned, a_gone, c_eraAt, c_eraOf, c_eras, a_epoch, a_latest, a_last, a_places, a_baseEpoch, a_baseLatest, a_baseLast, a_basePlaces, a_base, a_fetched)) :
    wpX_advance post (f_leader, f_inside, f_now, f_foundKey, f_foundValue, f_foundTomb, f_foundWho, f_foundSequence, f_foundEra, a_offset, a_kind, a_who, a_key, a_value, a_tomb, a_sequence, a_era, a_state, a_decidedAt, a_dead, a_count, a_end, a_mark, a_cleaned, a_gone, a_eraAt, a_eraOf, a_eras, a_epoch, a_latest, a_last, a_places, a_baseEpoch, a_baseLatest, a_baseLast, a_basePlaces, a_base, a_fetched) := by
  have v : vp_in (nI L) 3 := vp_in_nI hL (by omega)
  have cL : (nI L).toNatClampNeg = L := nI_clamp (by omega)
  have hls2 : ls ≤ rl_ls (rl_mk top mark fet mem L) := Nat.le_trans hls (rl_ls_mono (fun r _ => rl_mk_ge top mark fet mem L r))
  have ht2 : ∀ r, r < 3 → top r ≤ 600 := fun r hr => (ht r hr).2
  obtain ⟨s1, s2⟩ := rl_am_sp top fet mem L
  have b1 := ht2 L hL
  have b2 := (hm L hL).2
  have E0 : rl_EJ a_eraAt a_eraOf a_eras top I ls (rl_ls (rl_mk top mark fet mem L)) 0 := fun r hr => by
    obtain ⟨n, ea, eo, h1, h2⟩ := hE r hr
    exact ⟨n, ea, eo, h1, by rw [if_neg (by omega)]; exact h2⟩
  have hm2 : ∀ c_mark : Nat → Int32, (∀ r, r < 3 → c_mark r = nI (rl_mk top mark fet mem L r)) → ∀ r, r < 3 → c_mark r = nI (rl_mk top mark fet mem L r) ∧ rl_mk top mark fet mem L r ≤ 600 := fun c h r hr => by
    refine ⟨h r hr, ?_⟩
    have := (hm r hr).2
    unfold rl_mk
    by_cases e : r = L
    · rw [e, rl_us]; omega
    · rw [rl_un e]; exact this
  unfold wpX_advance
  have hl2 := hl
  subst hl
  refine br_t (nI_pos' (by omega)) ⟨v, nm_r (e' := nI (top L)) (by rw [cL]; exact (ht L hL).1) ⟨4, ?_⟩⟩
  have a0 := (rl_a1_le fet mem L (top L) 0).1
  have a1 := (rl_a1_le fet mem L (rl_a1 fet mem L (top L) 0) 1).1
  refine rl_x_ad20s hL rfl hi hf (j := 0) (by omega) b1 (rl_x_ad20s hL rfl hi hf (j := 1) (by omega) (by omega) (rl_x_ad20s hL rfl hi hf (j := 2) (by omega) (by omega) ?_))
  show wX_advance_20 post _ _ _ _ _ _ _ _ _ _ _ _ _ _ _ _ _ _ _ _ _ _ _ _ _ _ _ _ _ _ _ _ _ _ _ _ _ _ 1 (nI (rl_am top fet mem L)) (nI 3)
  refine pk_le 3 3 (fun _ => ⟨v, ?_⟩) (fun z => by omega)
  simp only [cL]
  refine pk_le (rl_am top fet mem L) (mark L) (fun z => ⟨4, ?_⟩) (fun z => ⟨v, nm_e ⟨4, ?_⟩⟩) rfl (hm L hL).1
  · have hmk : ∀ r, r < 3 → a_mark r = nI (rl_mk top mark fet mem L r) := fun r hr => by
      unfold rl_mk
      by_cases e : r = L
      · rw [e, rl_us, (hm L hL).1]; exact congrArg nI (by omega)
      · rw [rl_un e]; exact (hm r hr).1
    exact rl_x_ad89 hls2 ht2 (hm2 a_mark hmk) (fun c1 c2 c3 h1 => k a_mark c1 c2 c3 hmk h1) 4 0 a_eraAt a_eraOf a_eras (by omega) (by omega) E0
  · have hmk : ∀ r, r < 3 → upd a_mark L (nI (rl_am top fet mem L)) r = nI (rl_mk top mark fet mem L r) := fun r hr => by
      unfold rl_mk
      by_cases e : r = L
      · rw [e, rl_us, pk_us]; exact congrArg nI (by omega)
      · rw [rl_un e, pk_un e]; exact (hm r hr).1
    exact rl_x_ad89 hls2 ht2 (hm2 _ hmk) (fun c1 c2 c3 h1 => k _ c1 c2 c3 hmk h1) 4 0 a_eraAt a_eraOf a_eras (by omega) (by omega) E0
theorem rl_x_advN {post : SX → Prop} (hl : f_leader = -1) (k : post (f_leader, f_inside, f_now, f_foundKey, f_foundValue, f_foundTomb, f_foundWho, f_foundSequence, f_foundEra, a_offset, a_kind, a_who, a_key, a_value, a_tomb, a_sequence, a_era, a_state, a_decidedAt, a_dead, a_count, a_end, a_mark, a_cleaned, a_gone, a_eraAt, a_eraOf, a_eras, a_epoch, a_latest, a_last, a_places, a_baseEpoch, a_baseLatest, a_baseLast, a_basePlaces, a_base, a_fetched)) : wpX_advance post (f_leader, f_inside, f_now, f_foundKey, f_foundValue, f_foundTomb, f_foundWho, f_foundSequence, f_foundEra, a_offset, a_kind, a_who, a_key, a_value, a_tomb, a_sequence, a_era, a_state, a_decidedAt, a_dead, a_count, a_end, a_mark, a_cleaned, a_gone, a_eraAt, a_eraOf, a_eras, a_epoch, a_latest, a_last, a_places, a_baseEpoch, a_baseLatest, a_baseLast, a_basePlaces, a_base, a_fetched) := by
  subst hl
  unfold wpX_advance
  exact br_f (by decide) k
end
end
section
def rl_ld (L : Nat) : Int32 := if L < 3 then nI L else -1
theorem rl_ld_t {L : Nat} (h : L < 3) : rl_ld L = nI L := if_pos h
theorem rl_ld_f {L : Nat} (h : ¬ L < 3) : rl_ld L = -1 := if_neg h
/-- one replica in X -/
def rl_XR (a_offset a_kind a_who a_key a_value a_tomb a_sequence a_era a_state a_decidedAt a_count a_end a_epoch a_latest a_last a_places a_baseEpoch a_baseLatest a_baseLast a_basePlaces a_base : Nat → Int32)
    (r t : Nat) (I : Nat → rl_ID) (O G : Nat → Prop) (b now : Nat) : Prop :=
  rl_TB a_offset a_kind a_who a_key a_value a_tomb a_sequence a_era a_state a_decidedAt r t I O G now ∧ a_count r = nI (rl_rk G t) ∧ a_end r = nI t ∧ a_base r = nI b ∧ rl_PR a_epoch a_latest a_last a_places r t I ∧ rl_PR a_baseEpoch a_baseLatest a_baseLast a_basePlaces r b I
def rl_XM (a_mark a_cleaned a_gone a_fetched : Nat → Int32) (mark cle fet : Nat → Nat) (wor : Nat → Prop) (r : Nat) : Prop :=
  a_mark r = nI (mark r) ∧ a_cleaned r = nI (cle r) ∧ a_gone r = rl_b (¬ wor r) ∧ a_fetched r = nI (fet r)
def rl_XS (f_leader f_inside f_now : Int32) (a_offset a_kind a_who a_key a_value a_tomb a_sequence a_era a_state a_decidedAt a_count a_end a_mark a_cleaned a_gone a_eraAt a_eraOf a_eras a_epoch a_latest a_last a_places a_baseEpoch a_baseLatest a_baseLast a_basePlaces a_base a_fetched : Nat → Int32)
    (I : Nat → Nat → rl_ID) (O G : Nat → Nat → Prop) (top mark cle fet bas : Nat → Nat) (mem wor : Nat → Prop) (L now : Nat) : Prop :=
  (f_leader = rl_ld L ∧ f_inside = rl_in mem ∧ f_now = nI now) ∧
  (∀ r, r < 3 → rl_XR a_offset a_kind a_who a_key a_value a_tomb a_sequence a_era a_state a_decidedAt a_count a_end a_epoch a_latest a_last a_places a_baseEpoch a_baseLatest a_baseLast a_basePlaces a_base r (top r) (I r) (O r) (G r) (bas r) now) ∧
  rl_EA a_eraAt a_eraOf a_eras top I (rl_ls mark) ∧ (∀ r, r < 3 → rl_XM a_mark a_cleaned a_gone a_fetched mark cle fet wor r)
def rl_YM (b_mark b_cleaned b_fetched b_works b_member : Nat → Int32) (mark cle fet : Nat → Nat) (mem wor : Nat → Prop) (r : Nat) : Prop :=
  b_mark r = nI (mark r) ∧ b_cleaned r = nI (cle r) ∧ b_fetched r = nI (fet r) ∧ b_works r = rl_b (wor r) ∧ b_member r = rl_b (mem r)
def rl_YS (g_leader g_now : Int32) (b_by b_kind b_seq b_key b_val b_era b_tomb b_gone b_top b_mark b_cleaned b_fetched b_works b_member : Nat → Int32) (I : Nat → Nat → rl_ID) (O G : Nat → Nat → Prop) (top mark cle fet bas : Nat → Nat) (mem wor : Nat → Prop) (L now : Nat) : Prop :=
  (g_leader = rl_ld L ∧ g_now = nI now) ∧ rl_YL b_by b_kind b_seq b_key b_val b_era b_tomb b_gone b_top I O G top now ∧ (∀ r, r < 3 → rl_YM b_mark b_cleaned b_fetched b_works b_member mark cle fet mem wor r)
/-- what holds of the abstract state -/
def rl_IV (I : Nat → Nat → rl_ID) (G : Nat → Nat → Prop) (top mark cle fet bas : Nat → Nat) (mem : Nat → Prop) (L now : Nat) : Prop :=
  (∀ r, r < 3 → top r ≤ 600 ∧ top r ≤ rl_ls mark + 60 ∧ mark r ≤ top r ∧ bas r ≤ cle r ∧ cle r ≤ top r ∧ fet r ≤ 600 ∧ rl_sq (I r) (top r)) ∧
  (∀ r, r < 3 → ∀ o, o < top r → rl_W (I r o) now) ∧
  (∀ r, r < 3 → ∀ o o', o ≤ o' → o' < top r → rl_E (I r o) ≤ rl_E (I r o')) ∧
  (∀ r s, r < 3 → s < 3 → ∀ a b, a < top r → b < top s → rl_E (I r a) = rl_E (I s b) → ∀ o, o ≤ a → o ≤ b → I r o = I s o) ∧
  (∃ s, s < 3 ∧ mem s) ∧ (L < 3 → mem L) ∧
  (∀ r s, r < 3 → s < 3 → mem s → mark r ≤ top s ∧ cle r ≤ top s ∧ ∀ o, (o < mark r ∨ o < cle r) → I r o = I s o) ∧
  (L < 3 → ∀ s, s < 3 → ∀ o, o < top s → rl_E (I s o) = now → o < top L ∧ rl_E (I L o) = now) ∧
  (L < 3 → ∀ s, s < 3 → s ≠ L → fet s ≤ top s ∧ fet s ≤ top L ∧ ∀ o, o < fet s → I s o = I L o) ∧
  (∀ r, r < 3 → ∀ o, o < top r → G r o → o < bas r ∧ (rl_C (I r o) ≠ 0 → o < rl_ls mark))
def rl_SH (f_foundKey f_foundValue f_foundTomb f_foundWho f_foundSequence f_foundEra : Int32) (b_shown : Nat → Int32) : Prop :=
  b_shown 0 = f_foundKey ∧ b_shown 1 = f_foundValue ∧ b_shown 2 = f_foundTomb ∧ b_shown 3 = f_foundWho ∧ b_shown 4 = f_foundSequence ∧ b_shown 5 = f_foundEra
def rl_RC (k : Nat) (f_leader f_inside f_now f_foundKey f_foundValue f_foundTomb f_foundWho f_foundSequence f_foundEra : Int32) (a_offset a_kind a_who a_key a_value a_tomb a_sequence a_era a_state a_decidedAt a_dead a_count a_end a_mark a_cleaned a_gone a_eraAt a_eraOf a_eras a_epoch a_latest a_last a_places a_baseEpoch a_baseLatest a_baseLast a_basePlaces a_base a_fetched : Nat → Int32) (g_leader g_now : Int32) (b_by b_kind b_seq b_key b_val b_era b_tomb b_gone b_top b_mark b_cleaned b_fetched b_works b_member b_shown : Nat → Int32) (I : Nat → Nat → rl_ID) (O G : Nat → Nat → Prop) (top mark cle fet bas : Nat → Nat) (mem wor : Nat → Prop) (L now : Nat) : Prop :=
  now ≤ k ∧ rl_IV I G top mark cle fet bas mem L now ∧
  rl_XS f_leader f_inside f_now a_offset a_kind a_who a_key a_value a_tomb a_sequence a_era a_state a_decidedAt a_count a_end a_mark a_cleaned a_gone a_eraAt a_eraOf a_eras a_epoch a_latest a_last a_places a_baseEpoch a_baseLatest a_baseLast a_basePlaces a_base a_fetched I O G top mark cle fet bas mem wor L now ∧
  rl_YS g_leader g_now b_by b_kind b_seq b_key b_val b_era b_tomb b_gone b_top b_mark b_cleaned b_fetched b_works b_member I O G top mark cle fet bas mem wor L now ∧ rl_SH f_foundKey f_foundValue f_foundTomb f_foundWho f_foundSequence f_foundEra b_shown
/-- the relation at the head of a turn whose first cell is k -/
def i_Rel (k : Nat) (u : SX) (v : SY) : Prop :=
  ∃ (I : Nat → Nat → rl_ID) (O G : Nat → Nat → Prop) (top mark cle fet bas : Nat → Nat) (mem wor : Nat → Prop) (L now : Nat), rl_RC k u.1 u.2.1 u.2.2.1 u.2.2.2.1 u.2.2.2.2.1 u.2.2.2.2.2.1 u.2.2.2.2.2.2.1 u.2.2.2.2.2.2.2.1 u.2.2.2.2.2.2.2.2.1 u.2.2.2.2.2.2.2.2.2.1 u.2.2.2.2.2.2.2.2.2.2.1 u.2.2.2.2.2.2.2.2.2.2.2.1 u.2.2.2.2.2.2.2.2.2.2.2.2.1 u.2.2.2.2.2.2.2.2.2.2.2.2.2.1 u.2.2.2.2.2.2.2.2.2.2.2.2.2.2.1 u.2.2.2.2.2.2.2.2.2.2.2.2.2.2.2.1 u.2.2.2.2.2.2.2.2.2.2.2.2.2.2.2.2.1 u.2.2.2.2.2.2.2.2.2.2.2.2.2.2.2.2.2.1 u.2.2.2.2.2.2.2.2.2.2.2.2.2.2.2.2.2.2.1 u.2.2.2.2.2.2.2.2.2.2.2.2.2.2.2.2.2.2.2.1 u.2.2.2.2.2.2.2.2.2.2.2.2.2.2.2.2.2.2.2.2.1 u.2.2.2.2.2.2.2.2.2.2.2.2.2.2.2.2.2.2.2.2.2.1 u.2.2.2.2.2.2.2.2.2.2.2.2.2.2.2.2.2.2.2.2.2.2.1 u.2.2.2.2.2.2.2.2.2.2.2.2.2.2.2.2.2.2.2.2.2.2.2.1 u.2.2.2.2.2.2.2.2.2.2.2.2.2.2.2.2.2.2.2.2.2.2.2.2.1 u.2.2.2.2.2.2.2.2.2.2.2.2.2.2.2.2.2.2.2.2.2.2.2.2.2.1 u.2.2.2.2.2.2.2.2.2.2.2.2.2.2.2.2.2.2.2.2.2.2.2.2.2.2.1 u.2.2.2.2.2.2.2.2.2.2.2.2.2.2.2.2.2.2.2.2.2.2.2.2.2.2.2.1 u.2.2.2.2.2.2.2.2.2.2.2.2.2.2.2.2.2.2.2.2.2.2.2.2.2.2.2.2.1 u.2.2.2.2.2.2.2.2.2.2.2.2.2.2.2.2.2.2.2.2.2.2.2.2.2.2.2.2.2.1 u.2.2.2.2.2.2.2.2.2.2.2.2.2.2.2.2.2.2.2.2.2.2.2.2.2.2.2.2.2.2.1 u.2.2.2.2.2.2.2.2.2.2.2.2.2.2.2.2.2.2.2.2.2.2.2.2.2.2.2.2.2.2.2.1 u.2.2.2.2.2.2.2.2.2.2.2.2.2.2.2.2.2.2.2.2.2.2.2.2.2.2.2.2.2.2.2.2.1 u.2.2.2.2.2.2.2.2.2.2.2.2.2.2.2.2.2.2.2.2.2.2.2.2.2.2.2.2.2.2.2.2.2.1 u.2.2.2.2.2.2.2.2.2.2.2.2.2.2.2.2.2.2.2.2.2.2.2.2.2.2.2.2.2.2.2.2.2.2.1 u.2.2.2.2.2.2.2.2.2.2.2.2.2.2.2.2.2.2.2.2.2.2.2.2.2.2.2.2.2.2.2.2.2.2.2.1 u.2.2.2.2.2.2.2.2.2.2.2.2.2.2.2.2.2.2.2.2.2.2.2.2.2.2.2.2.2.2.2.2.2.2.2.2.1 u.2.2.2.2.2.2.2.2.2.2.2.2.2.2.2.2.2.2.2.2.2.2.2.2.2.2.2.2.2.2.2.2.2.2.2.2.2 v.1 v.2.1 v.2.2.1 v.2.2.2.1 v.2.2.2.2.1 v.2.2.2.2.2.1 v.2.2.2.2.2.2.1 v.2.2.2.2.2.2.2.1 v.2.2.2.2.2.2.2.2.1 v.2.2.2.2.2.2.2.2.2.1 v.2.2.2.2.2.2.2.2.2.2.1 v.2.2.2.2.2.2.2.2.2.2.2.1 v.2.2.2.2.2.2.2.2.2.2.2.2.1 v.2.2.2.2.2.2.2.2.2.2.2.2.2.1 v.2.2.2.2.2.2.2.2.2.2.2.2.2.2.1 v.2.2.2.2.2.2.2.2.2.2.2.2.2.2.2.1 v.2.2.2.2.2.2.2.2.2.2.2.2.2.2.2.2 I O G top mark cle fet bas mem wor L now
theorem i_up {k : Nat} {u : SX} {v : SY} (h : i_Rel k u v) : i_Rel (k + 7) u v := by
  obtain ⟨I, O, G, top, mark, cle, fet, bas, mem, wor, L, now, h1, h2⟩ := h
  exact ⟨I, O, G, top, mark, cle, fet, bas, mem, wor, L, now, by omega, h2⟩
theorem rl_el {k : Nat} {u : SX} {v : SY} {P : SX → SY → Prop}
    (h : ∀ (f_leader f_inside f_now f_foundKey f_foundValue f_foundTomb f_foundWho f_foundSequence f_foundEra : Int32) (a_offset a_kind a_who a_key a_value a_tomb a_sequence a_era a_state a_decidedAt a_dead a_count a_end a_mark a_cleaned a_gone a_eraAt a_eraOf a_eras a_epoch a_latest a_last a_places a_baseEpoch a_baseLatest a_baseLast a_basePlaces a_base a_fetched : Nat → Int32) (g_leader g_now : Int32) (b_by b_kind b_seq b_key b_val b_era b_tomb b_gone b_top b_mark b_cleaned b_fetched b_works b_member b_shown : Nat → Int32) (I : Nat → Nat → rl_ID) (O G : Nat → Nat → Prop) (top mark cle fet bas : Nat → Nat) (mem wor : Nat → Prop) (L now : Nat), rl_RC k f_leader f_inside f_now f_foundKey f_foundValue f_foundTomb f_foundWho f_foundSequence f_foundEra a_offset a_kind a_who a_key a_value a_tomb a_sequence a_era a_state a_decidedAt a_dead a_count a_end a_mark a_cleaned a_gone a_eraAt a_eraOf a_eras a_epoch a_latest a_last a_places a_baseEpoch a_baseLatest a_baseLast a_basePlaces a_base a_fetched g_leader g_now b_by b_kind b_seq b_key b_val b_era b_tomb b_gone b_top b_mark b_cleaned b_fetched b_works b_member b_shown I O G top mark cle fet bas mem wor L now → P (f_leader, f_inside, f_now, f_foundKey, f_foundValue, f_foundTomb, f_foundWho, f_foundSequence, f_foundEra, a_offset, a_kind, a_who, a_key, a_value, a_tomb, a_sequence, a_era, a_state, a_decidedAt, a_dead, a_count, a_end, a_mark, a_cleaned, a_gone, a_eraAt, a_eraOf, a_eras, a_epoch, a_latest, a_last, a_places, a_baseEpoch, a_baseLatest, a_baseLast, a_basePlaces, a_base, a_fetched) (g_leader, g_now, b_by, b_kind, b_seq, b_key, b_val, b_era, b_tomb, b_gone, b_top, b_mark, b_cleaned, b_fetched, b_works, b_member, b_shown)) (hI : i_Rel k u v) : P u v := by
  obtain ⟨I, O, G, top, mark, cle, fet, bas, mem, wor, L, now, h1⟩ := hI
  exact h u.1 u.2.1 u.2.2.1 u.2.2.2.1 u.2.2.2.2.1 u.2.2.2.2.2.1 u.2.2.2.2.2.2.1 u.2.2.2.2.2.2.2.1 u.2.2.2.2.2.2.2.2.1 u.2.2.2.2.2.2.2.2.2.1 u.2.2.2.2.2.2.2.2.2.2.1 u.2.2.2.2.2.2.2.2.2.2.2.1 u.2.2.2.2.2.2.2.2.2.2.2.2.1 u.2.2.2.2.2.2.2.2.2.2.2.2.2.1 u.2.2.2.2.2.2.2.2.2.2.2.2.2.2.1 u.2.2.2.2.2.2.2.2.2.2.2.2.2.2.2.1 u.2.2.2.2.2.2.2.2.2.2.2.2.2.2.2.2.1 u.2.2.2.2.2.2.2.2.2.2.2.2.2.2.2.2.2.1 u.2.2.2.2.2.2.2.2.2.2.2.2.2.2.2.2.2.2.1 u.2.2.2.2.2.2.2.2.2.2.2.2.2.2.2.2.2.2.2.1 u.2.2.2.2.2.2.2.2.2.2.2.2.2.2.2.2.2.2.2.2.1 u.2.2.2.2.2.2.2.2.2.2.2.2.2.2.2.2.2.2.2.2.2.1 u.2.2.2.2.2.2.2.2.2.2.2.2.2.2.2.2.2.2.2.2.2.2.1 u.2.2.2.2.2.2.2.2.2.2.2.2.2.2.2.2.2.2.2.2.2.2.2.1 u.2.2.2.2.2.2.2.2.2.2.2.2.2.2.2.2.2.2.2.2.2.2.2.2.1 u.2.2.2.2.2.2.2.2.2.2.2.2.2.2.2.2.2.2.2.2.2.2.2.2.2.1 u.2.2.2.2.2.2.2.2.2.2.2.2.2.2.2.2.2.2.2.2.2.2.2.2.2.2.1 u.2.2.2.2.2.2.2.2.2.2.2.2.2.2.2.2.2.2.2.2.2.2.2.2.2.2.2.1 u.2.2.2.2.2.2.2.2.2.2.2.2.2.2.2.2.2.2.2.2.2.2.2.2.2.2.2.2.1 u.2.2.2.2.2.2.2.2.2.2.2.2.2.2.2.2.2.2.2.2.2.2.2.2.2.2.2.2.2.1 u.2.2.2.2.2.2.2.2.2.2.2.2.2.2.2.2.2.2.2.2.2.2.2.2.2.2.2.2.2.2.1 u.2.2.2.2.2.2.2.2.2.2.2.2.2.2.2.2.2.2.2.2.2.2.2.2.2.2.2.2.2.2.2.1 u.2.2.2.2.2.2.2.2.2.2.2.2.2.2.2.2.2.2.2.2.2.2.2.2.2.2.2.2.2.2.2.2.1 u.2.2.2.2.2.2.2.2.2.2.2.2.2.2.2.2.2.2.2.2.2.2.2.2.2.2.2.2.2.2.2.2.2.1 u.2.2.2.2.2.2.2.2.2.2.2.2.2.2.2.2.2.2.2.2.2.2.2.2.2.2.2.2.2.2.2.2.2.2.1 u.2.2.2.2.2.2.2.2.2.2.2.2.2.2.2.2.2.2.2.2.2.2.2.2.2.2.2.2.2.2.2.2.2.2.2.1 u.2.2.2.2.2.2.2.2.2.2.2.2.2.2.2.2.2.2.2.2.2.2.2.2.2.2.2.2.2.2.2.2.2.2.2.2.1 u.2.2.2.2.2.2.2.2.2.2.2.2.2.2.2.2.2.2.2.2.2.2.2.2.2.2.2.2.2.2.2.2.2.2.2.2.2 v.1 v.2.1 v.2.2.1 v.2.2.2.1 v.2.2.2.2.1 v.2.2.2.2.2.1 v.2.2.2.2.2.2.1 v.2.2.2.2.2.2.2.1 v.2.2.2.2.2.2.2.2.1 v.2.2.2.2.2.2.2.2.2.1 v.2.2.2.2.2.2.2.2.2.2.1 v.2.2.2.2.2.2.2.2.2.2.2.1 v.2.2.2.2.2.2.2.2.2.2.2.2.1 v.2.2.2.2.2.2.2.2.2.2.2.2.2.1 v.2.2.2.2.2.2.2.2.2.2.2.2.2.2.1 v.2.2.2.2.2.2.2.2.2.2.2.2.2.2.2.1 v.2.2.2.2.2.2.2.2.2.2.2.2.2.2.2.2 I O G top mark cle fet bas mem wor L now h1
/-- the marks after advance, with or without a leader -/
noncomputable def rl_mq (top mark fet : Nat → Nat) (mem : Nat → Prop) (L : Nat) : Nat → Nat := if L < 3 then rl_mk top mark fet mem L else mark
theorem rl_mq_ge (top mark fet : Nat → Nat) (mem : Nat → Prop) (L r : Nat) : mark r ≤ rl_mq top mark fet mem L r := by
  unfold rl_mq
  split
  · exact rl_mk_ge top mark fet mem L r
  · exact Nat.le_refl _
section
variable {f_leader f_inside f_now f_foundKey f_foundValue f_foundTomb f_foundWho f_foundSequence f_foundEra : Int32} {a_offset a_kind a_who a_key a_value a_tomb a_sequence a_era a_state a_decidedAt a_dead a_count a_end a_mark a_cleaned a_gone a_eraAt a_eraOf a_eras a_epoch a_latest a_last a_places a_baseEpoch a_baseLatest a_baseLast a_basePlaces a_base a_fetched : Nat → Int32} {g_leader g_now : Int32} {b_by b_kind b_seq b_key b_val b_era b_tomb b_gone b_top b_mark b_cleaned b_fetched b_works b_member b_shown : Nat → Int32} {I : Nat → Nat → rl_ID} {O G : Nat → Nat → Prop} {top mark cle fet bas : Nat → Nat} {mem wor : Nat → Prop} {L now : Nat}
theorem rl_xs_adv (h : rl_XS f_leader f_inside f_now a_offset a_kind a_who a_key a_value a_tomb a_sequence a_era a_state a_decidedAt a_count a_end a_mark a_cleaned a_gone a_eraAt a_eraOf a_eras a_epoch a_latest a_last a_places a_baseEpoch a_baseLatest a_baseLast a_basePlaces a_base a_fetched I O G top mark cle fet bas mem wor L now) (hi : rl_IV I G top mark cle fet bas mem L now) {post : SX → Prop}
    (k : ∀ c_mark c_eraAt c_eraOf c_eras : Nat → Int32, rl_XS f_leader f_inside f_now a_offset a_kind a_who a_key a_value a_tomb a_sequence a_era a_state a_decidedAt a_count a_end c_mark a_cleaned a_gone c_eraAt c_eraOf c_eras a_epoch a_latest a_last a_places a_baseEpoch a_baseLatest a_baseLast a_basePlaces a_base a_fetched I O G top (rl_mq top mark fet mem L) cle fet bas mem wor L now →
      post (f_leader, f_inside, f_now, f_foundKey, f_foundValue, f_foundTomb, f_foundWho, f_foundSequence, f_foundEra, a_offset, a_kind, a_who, a_key, a_value, a_tomb, a_sequence, a_era, a_state, a_decidedAt, a_dead, a_count, a_end, c_mark, a_cleaned, a_gone, c_eraAt, c_eraOf, c_eras, a_epoch, a_latest, a_last, a_places, a_baseEpoch, a_baseLatest, a_baseLast, a_basePlaces, a_base, a_fetched)) : wpX_advance post (f_leader, f_inside, f_now, f_foundKey, f_foundValue, f_foundTomb, f_foundWho, f_foundSequence, f_foundEra, a_offset, a_kind, a_who, a_key, a_value, a_tomb, a_sequence, a_era, a_state, a_decidedAt, a_dead, a_count, a_end, a_mark, a_cleaned, a_gone, a_eraAt, a_eraOf, a_eras, a_epoch, a_latest, a_last, a_places, a_baseEpoch, a_baseLatest, a_baseLast, a_basePlaces, a_base, a_fetched) := by
  obtain ⟨⟨h1, h2, h3⟩, h4, h5, h6⟩ := h
  obtain ⟨i1, -⟩ := hi
  by_cases hL : L < 3
  · have e : rl_mq top mark fet mem L = rl_mk top mark fet mem L := if_pos hL
    rw [e] at k
    refine rl_x_advance hL (h1.trans (rl_ld_t hL)) h2 (fun r hr => ⟨(h4 r hr).2.2.1, (i1 r hr).1⟩) (mark := mark) (fun r hr => ⟨(h6 r hr).1, by have := i1 r hr; omega⟩) (fet := fet) (fun r hr => ⟨(h6 r hr).2.2.2, (i1 r hr).2.2.2.2.2.1⟩) h5 (Nat.le_refl _) ?_
    intro cm ca co cs k1 k2
    exact k cm ca co cs ⟨⟨h1, h2, h3⟩, h4, k2, fun r hr => ⟨k1 r hr, (h6 r hr).2⟩⟩
  · have e : rl_mq top mark fet mem L = mark := if_neg hL
    rw [e] at k
    exact rl_x_advN (h1.trans (rl_ld_f hL)) (k a_mark a_eraAt a_eraOf a_eras ⟨⟨h1, h2, h3⟩, h4, h5, h6⟩)
theorem rl_y_ad20s {post : SY → Prop} (hL : L < 3) (hl : g_leader = nI L) (hm1 : ∀ r, r < 3 → b_member r = rl_b (mem r)) (hf : ∀ r, r < 3 → b_fetched r = nI (fet r) ∧ fet r ≤ 600) {n m j : Nat} (hj : j < 3) (hm : m ≤ 600)
    (h : wY_advance_20 post g_leader g_now b_by b_kind b_seq b_key b_val b_era b_tomb b_gone b_top b_mark b_cleaned b_fetched b_works b_member b_shown n (nI (rl_a1 fet mem L m j)) (nI (j + 1))) : wY_advance_20 post g_leader g_now b_by b_kind b_seq b_key b_val b_era b_tomb b_gone b_top b_mark b_cleaned b_fetched b_works b_member b_shown (n + 1) (nI m) (nI j) := by
  subst hl
  have v : vp_in (nI j) 3 := vp_in_nI hj (by omega)
  obtain ⟨f1, f2⟩ := hf j hj
  have ef : b_fetched (nI j).toNatClampNeg = nI (fet j) := by rw [nI_clamp (by omega)]; exact f1
  have eb : b_member (nI j).toNatClampNeg = rl_b (mem j) := by rw [nI_clamp (by omega)]; exact hm1 j hj
  refine pk_le 3 j (fun z => by omega) (fun _ => pk_eq j L (fun e => ?_) (fun e => ⟨v, rl_br eb (fun hm1 => ?_) (fun hm1 => ⟨v, pk_le m (fet j) (fun z => ?_) (fun z => ⟨v, nm_r ef ?_⟩) rfl ef⟩)⟩))
  · have e1 : rl_a1 fet mem L m j = m := rl_if (fun y => y.1 e)
    rw [e1] at h; exact nm_r (nI_1 _) h
  · have e1 : rl_a1 fet mem L m j = m := rl_if (fun y => hm1 y.2.1)
    rw [e1] at h; exact nm_r (nI_1 _) h
  · have e1 : rl_a1 fet mem L m j = m := rl_if (fun y => by have := y.2.2; omega)
    rw [e1] at h; exact nm_r (nI_1 _) h
  · have e1 : rl_a1 fet mem L m j = fet j := rl_it ⟨e, hm1, z⟩
    rw [e1] at h; exact nm_r (nI_1 _) h
theorem rl_ys_adv (h : rl_YS g_leader g_now b_by b_kind b_seq b_key b_val b_era b_tomb b_gone b_top b_mark b_cleaned b_fetched b_works b_member I O G top mark cle fet bas mem wor L now) (hi : rl_IV I G top mark cle fet bas mem L now) {post : SY → Prop}
    (k : ∀ c_mark : Nat → Int32, rl_YS g_leader g_now b_by b_kind b_seq b_key b_val b_era b_tomb b_gone b_top c_mark b_cleaned b_fetched b_works b_member I O G top (rl_mq top mark fet mem L) cle fet bas mem wor L now → post (g_leader, g_now, b_by, b_kind, b_seq, b_key, b_val, b_era, b_tomb, b_gone, b_top, c_mark, b_cleaned, b_fetched, b_works, b_member, b_shown)) : wpY_advance post (g_leader, g_now, b_by, b_kind, b_seq, b_key, b_val, b_era, b_tomb, b_gone, b_top, b_mark, b_cleaned, b_fetched, b_works, b_member, b_shown) := by
  obtain ⟨⟨h1, h2⟩, h4, h6⟩ := h
  obtain ⟨i1, -⟩ := hi
  unfold wpY_advance
  by_cases hL : L < 3
  · have e : rl_mq top mark fet mem L = rl_mk top mark fet mem L := if_pos hL
    rw [e] at k
    have hl : g_leader = nI L := h1.trans (rl_ld_t hL)
    subst hl
    have v : vp_in (nI L) 3 := vp_in_nI hL (by omega)
    have cL : (nI L).toNatClampNeg = L := nI_clamp (by omega)
    have hf : ∀ r, r < 3 → b_fetched r = nI (fet r) ∧ fet r ≤ 600 := fun r hr => ⟨(h6 r hr).2.2.1, (i1 r hr).2.2.2.2.2.1⟩
    have hmm : ∀ r, r < 3 → b_member r = rl_b (mem r) := fun r hr => (h6 r hr).2.2.2.2
    obtain ⟨s1, s2⟩ := rl_am_sp top fet mem L
    have b1 := (i1 L hL).1
    have b2 := (i1 L hL).2.2.1
    have a0 := (rl_a1_le fet mem L (top L) 0).1
    have a1 := (rl_a1_le fet mem L (rl_a1 fet mem L (top L) 0) 1).1
    refine br_t (nI_pos' (by omega)) ⟨v, nm_r (e' := nI (top L)) (by rw [cL]; exact (h4.2 L hL).2.1) ⟨4, ?_⟩⟩
    refine rl_y_ad20s hL rfl hmm hf (j := 0) (by omega) b1 (rl_y_ad20s hL rfl hmm hf (j := 1) (by omega) (by omega) (rl_y_ad20s hL rfl hmm hf (j := 2) (by omega) (by omega) ?_))
    show wY_advance_20 post _ _ _ _ _ _ _ _ _ _ _ _ _ _ _ _ _ 1 (nI (rl_am top fet mem L)) (nI 3)
    refine pk_le 3 3 (fun _ => ⟨v, ?_⟩) (fun z => by omega)
    simp only [cL]
    refine pk_le (rl_am top fet mem L) (mark L) (fun z => k b_mark ⟨⟨h1, h2⟩, h4, fun r hr => ⟨?_, (h6 r hr).2⟩⟩) (fun z => ⟨v, nm_e (k _ ⟨⟨h1, h2⟩, h4, fun r hr => ⟨?_, (h6 r hr).2⟩⟩)⟩) rfl (h6 L hL).1
    · unfold rl_mk
      by_cases e : r = L
      · rw [e, rl_us, (h6 L hL).1]; exact congrArg nI (by omega)
      · rw [rl_un e]; exact (h6 r hr).1
    · unfold rl_mk
      by_cases e : r = L
      · rw [e, rl_us, pk_us]; exact congrArg nI (by omega)
      · rw [rl_un e, pk_un e]; exact (h6 r hr).1
  · have e : rl_mq top mark fet mem L = mark := if_neg hL
    rw [e] at k
    have hl : g_leader = -1 := h1.trans (rl_ld_f hL)
    refine br_f (by rw [hl]; decide) (k b_mark ⟨⟨h1, h2⟩, h4, h6⟩)
theorem rl_iv_adv (hi : rl_IV I G top mark cle fet bas mem L now) : rl_IV I G top (rl_mq top mark fet mem L) cle fet bas mem L now := by
  by_cases hL : L < 3
  · have e : rl_mq top mark fet mem L = rl_mk top mark fet mem L := if_pos hL
    obtain ⟨i1, i2, i3, i4, i5, i6, i7, i8, i9, i10⟩ := hi
    have hls : rl_ls mark ≤ rl_ls (rl_mk top mark fet mem L) := rl_ls_mono (fun r _ => rl_mk_ge top mark fet mem L r)
    obtain ⟨s1, s2⟩ := rl_am_sp top fet mem L
    rw [e]
    refine ⟨fun r hr => ?_, i2, i3, i4, i5, i6, fun r s hr hs hm => ?_, i8, i9, fun r hr o ho hg => ⟨(i10 r hr o ho hg).1, fun hc => by have := (i10 r hr o ho hg).2 hc; omega⟩⟩
    · obtain ⟨j1, j2, j3, j4⟩ := i1 r hr
      refine ⟨j1, by omega, ?_, j4⟩
      unfold rl_mk
      by_cases e : r = L
      · rw [e] at j3 ⊢; rw [rl_us]; omega
      · rw [rl_un e]; exact j3
    · obtain ⟨m1, m2, m3⟩ := i7 r s hr hs hm
      by_cases er : r = L
      · subst er
        have em : rl_mk top mark fet mem r r = max (mark r) (rl_am top fet mem r) := rl_us
        by_cases es : s = r
        · subst es
          have := (i1 s hs).2.2.1
          refine ⟨by rw [em]; omega, m2, fun o ho => rfl⟩
        · obtain ⟨f1, f2, f3⟩ := i9 hL s hs es
          have f4 := s2 s hs es hm
          refine ⟨by rw [em]; omega, m2, fun o ho => ?_⟩
          rw [em] at ho
          by_cases ho2 : o < mark r ∨ o < cle r
          · exact m3 o ho2
          · exact (f3 o (by omega)).symm
      · have em : rl_mk top mark fet mem L r = mark r := rl_un er
        rw [em]; exact ⟨m1, m2, m3⟩
  · have e : rl_mq top mark fet mem L = mark := if_neg hL
    rw [e]; exact hi
end
end
section
theorem rl_outB {post : Int32 → Prop} {x : Int32} {n : Nat} (h : x < 0 ∨ nI n ≤ x) (hq : post 1) : wpX_outside post x (nI n) := by
  unfold wpX_outside
  rcases h with h | h
  · exact br_t h hq
  · by_cases z : x < 0
    · exact br_t z hq
    · exact br_f z (br_f (Int32.not_lt.mpr h) hq)
theorem rl_outG {post : Int32 → Prop} {j n : Nat} (h : j < n) (hn : n < 2 ^ 31) (hq : post 0) : wpX_outside post (nI j) (nI n) := by
  unfold wpX_outside
  exact br_f (nI_pos (by omega)) (br_t (nI_lt h hn) hq)
theorem rl_amB {post : Int32 → Prop} {x : Int32} {n : Nat} (h : x < 0 ∨ nI n ≤ x) (hq : post 0) : wpY_among post x (nI n) := by
  unfold wpY_among
  rcases h with h | h
  · exact br_t h hq
  · by_cases z : x < 0
    · exact br_t z hq
    · exact br_f z (br_t h hq)
theorem rl_amG {post : Int32 → Prop} {j n : Nat} (h : j < n) (hn : n < 2 ^ 31) (hq : post 1) : wpY_among post (nI j) (nI n) := by
  unfold wpY_among
  exact br_f (nI_pos (by omega)) (br_f (nI_ge h hn) hq)
theorem rl_ix (x : Int32) {n : Nat} (hn : n < 2 ^ 31) : (x < 0 ∨ nI n ≤ x) ∨ ∃ j : Nat, j < n ∧ x = nI j := by
  rcases pk_ix x hn with h | h | h
  · exact Or.inl (Or.inl h)
  · exact Or.inl (Or.inr h)
  · exact Or.inr h
section
variable {f_leader f_inside f_now f_foundKey f_foundValue f_foundTomb f_foundWho f_foundSequence f_foundEra : Int32} {a_offset a_kind a_who a_key a_value a_tomb a_sequence a_era a_state a_decidedAt a_dead a_count a_end a_mark a_cleaned a_gone a_eraAt a_eraOf a_eras a_epoch a_latest a_last a_places a_baseEpoch a_baseLatest a_baseLast a_basePlaces a_base a_fetched : Nat → Int32} {g_leader g_now : Int32} {b_by b_kind b_seq b_key b_val b_era b_tomb b_gone b_top b_mark b_cleaned b_fetched b_works b_member b_shown : Nat → Int32} {I : Nat → Nat → rl_ID} {O G : Nat → Nat → Prop} {top mark cle fet bas : Nat → Nat} {mem wor : Nat → Prop} {L now k : Nat}
theorem rl_fold (h : rl_RC k f_leader f_inside f_now f_foundKey f_foundValue f_foundTomb f_foundWho f_foundSequence f_foundEra a_offset a_kind a_who a_key a_value a_tomb a_sequence a_era a_state a_decidedAt a_dead a_count a_end a_mark a_cleaned a_gone a_eraAt a_eraOf a_eras a_epoch a_latest a_last a_places a_baseEpoch a_baseLatest a_baseLast a_basePlaces a_base a_fetched g_leader g_now b_by b_kind b_seq b_key b_val b_era b_tomb b_gone b_top b_mark b_cleaned b_fetched b_works b_member b_shown I O G top mark cle fet bas mem wor L now) : i_Rel k (f_leader, f_inside, f_now, f_foundKey, f_foundValue, f_foundTomb, f_foundWho, f_foundSequence, f_foundEra, a_offset, a_kind, a_who, a_key, a_value, a_tomb, a_sequence, a_era, a_state, a_decidedAt, a_dead, a_count, a_end, a_mark, a_cleaned, a_gone, a_eraAt, a_eraOf, a_eras, a_epoch, a_latest, a_last, a_places, a_baseEpoch, a_baseLatest, a_baseLast, a_basePlaces, a_base, a_fetched) (g_leader, g_now, b_by, b_kind, b_seq, b_key, b_val, b_era, b_tomb, b_gone, b_top, b_mark, b_cleaned, b_fetched, b_works, b_member, b_shown) := ⟨I, O, G, top, mark, cle, fet, bas, mem, wor, L, now, h⟩
theorem rl_fold7 (h : rl_RC k f_leader f_inside f_now f_foundKey f_foundValue f_foundTomb f_foundWho f_foundSequence f_foundEra a_offset a_kind a_who a_key a_value a_tomb a_sequence a_era a_state a_decidedAt a_dead a_count a_end a_mark a_cleaned a_gone a_eraAt a_eraOf a_eras a_epoch a_latest a_last a_places a_baseEpoch a_baseLatest a_baseLast a_basePlaces a_base a_fetched g_leader g_now b_by b_kind b_seq b_key b_val b_era b_tomb b_gone b_top b_mark b_cleaned b_fetched b_works b_member b_shown I O G top mark cle fet bas mem wor L now) : i_Rel (k + 7) (f_leader, f_inside, f_now, f_foundKey, f_foundValue, f_foundTomb, f_foundWho, f_foundSequence, f_foundEra, a_offset, a_kind, a_who, a_key, a_value, a_tomb, a_sequence, a_era, a_state, a_decidedAt, a_dead, a_count, a_end, a_mark, a_cleaned, a_gone, a_eraAt, a_eraOf, a_eras, a_epoch, a_latest, a_last, a_places, a_baseEpoch, a_baseLatest, a_baseLast, a_basePlaces, a_base, a_fetched) (g_leader, g_now, b_by, b_kind, b_seq, b_key, b_val, b_era, b_tomb, b_gone, b_top, b_mark, b_cleaned, b_fetched, b_works, b_member, b_shown) := i_up (rl_fold h)
theorem rl_XR_now {r : Nat} {n' : Nat} (h : rl_XR a_offset a_kind a_who a_key a_value a_tomb a_sequence a_era a_state a_decidedAt a_count a_end a_epoch a_latest a_last a_places a_baseEpoch a_baseLatest a_baseLast a_basePlaces a_base r (top r) (I r) (O r) (G r) (bas r) now) (h1 : now ≤ n') (h2 : n' ≤ 4000) : rl_XR a_offset a_kind a_who a_key a_value a_tomb a_sequence a_era a_state a_decidedAt a_count a_end a_epoch a_latest a_last a_places a_baseEpoch a_baseLatest a_baseLast a_basePlaces a_base r (top r) (I r) (O r) (G r) (bas r) n' := by
  obtain ⟨⟨t1, t2, t3, t4⟩, h'⟩ := h
  refine ⟨⟨h2, t2, t3, fun o ho => ⟨?_, (t4 o ho).2⟩⟩, h'⟩
  obtain ⟨w1, w2, w3, w4, w5⟩ := (t4 o ho).1
  exact ⟨w1, w2, w3, w4, by omega⟩
theorem rl_YL_now {n' : Nat} (h : rl_YL b_by b_kind b_seq b_key b_val b_era b_tomb b_gone b_top I O G top now) (h1 : now ≤ n') (h2 : n' ≤ 4000) : rl_YL b_by b_kind b_seq b_key b_val b_era b_tomb b_gone b_top I O G top n' := by
  refine ⟨h2, fun r hr => ?_⟩
  obtain ⟨t1, t2, t3⟩ := h.2 r hr
  refine ⟨t1, t2, fun o ho => ⟨(t3 o ho).1, ?_⟩⟩
  obtain ⟨w1, w2, w3, w4, w5⟩ := (t3 o ho).2
  exact ⟨w1, w2, w3, w4, by omega⟩
/-! elect -/
theorem rl_upd3 {a : Nat → Int32} {r : Nat} (hr : r < 3) : upd (upd (upd a 0 0) 1 0) 2 0 r = nI 0 := by
  have : r = 0 ∨ r = 1 ∨ r = 2 := by omega
  rcases this with e | e | e <;> subst e <;> rfl
theorem rl_x_el50 {post : Int32 → SX → Prop} (k : wpX_advance (fun u => match u with | (f_leader, f_inside, f_now, f_foundKey, f_foundValue, f_foundTomb, f_foundWho, f_foundSequence, f_foundEra, a_offset, a_kind, a_who, a_key, a_value, a_tomb, a_sequence, a_era, a_state, a_decidedAt, a_dead, a_count, a_end, a_mark, a_cleaned, a_gone, a_eraAt, a_eraOf, a_eras, a_epoch, a_latest, a_last, a_places, a_baseEpoch, a_baseLatest, a_baseLast, a_basePlaces, a_base, c_fetched) => post f_now (f_leader, f_inside, f_now, f_foundKey, f_foundValue, f_foundTomb, f_foundWho, f_foundSequence, f_foundEra, a_offset, a_kind, a_who, a_key, a_value, a_tomb, a_sequence, a_era, a_state, a_decidedAt, a_dead, a_count, a_end, a_mark, a_cleaned, a_gone, a_eraAt, a_eraOf, a_eras, a_epoch, a_latest, a_last, a_places, a_baseEpoch, a_baseLatest, a_baseLast, a_basePlaces, a_base, c_fetched)) (f_leader, f_inside, f_now, f_foundKey, f_foundValue, f_foundTomb, f_foundWho, f_foundSequence, f_foundEra, a_offset, a_kind, a_who, a_key, a_value, a_tomb, a_sequence, a_era, a_state, a_decidedAt, a_dead, a_count, a_end, a_mark, a_cleaned, a_gone, a_eraAt, a_eraOf, a_eras, a_epoch, a_latest, a_last, a_places, a_baseEpoch, a_baseLatest, a_baseLast, a_basePlaces, a_base, upd (upd (upd a_fetched 0 0) 1 0) 2 0)) :
    wX_elect_50 post f_leader f_inside f_now f_foundKey f_foundValue f_foundTomb f_foundWho f_foundSequence f_foundEra 4 0 a_offset a_kind a_who a_key a_value a_tomb a_sequence a_era a_state a_decidedAt a_dead a_count a_end a_mark a_cleaned a_gone a_eraAt a_eraOf a_eras a_epoch a_latest a_last a_places a_baseEpoch a_baseLatest a_baseLast a_basePlaces a_base a_fetched := by
  have v0 : vp_in 0 3 := vp_in_nI (n := 0) (by omega) (by omega)
  have v1 : vp_in 1 3 := vp_in_nI (n := 1) (by omega) (by omega)
  have v2 : vp_in 2 3 := vp_in_nI (n := 2) (by omega) (by omega)
  refine br_f (by decide) ⟨v0, nm_e (nm_r (e' := 1) (by decide) (br_f (by decide) ⟨v1, nm_e (nm_r (e' := 2) (by decide) (br_f (by decide) ⟨v2, nm_e (nm_r (e' := 3) (by decide) (br_t (by decide) ?_))⟩))⟩))⟩
  exact k
theorem rl_y_el51 {post : Int32 → SY → Prop} (k : wpY_advance (fun u => match u with | (g_leader, g_now, b_by, b_kind, b_seq, b_key, b_val, b_era, b_tomb, b_gone, b_top, b_mark, b_cleaned, c_fetched, b_works, b_member, b_shown) => post g_now (g_leader, g_now, b_by, b_kind, b_seq, b_key, b_val, b_era, b_tomb, b_gone, b_top, b_mark, b_cleaned, c_fetched, b_works, b_member, b_shown)) (g_leader, g_now, b_by, b_kind, b_seq, b_key, b_val, b_era, b_tomb, b_gone, b_top, b_mark, b_cleaned, upd (upd (upd b_fetched 0 0) 1 0) 2 0, b_works, b_member, b_shown)) :
    wY_elect_51 post g_leader g_now 4 0 b_by b_kind b_seq b_key b_val b_era b_tomb b_gone b_top b_mark b_cleaned b_fetched b_works b_member b_shown := by
  have v0 : vp_in 0 3 := vp_in_nI (n := 0) (by omega) (by omega)
  have v1 : vp_in 1 3 := vp_in_nI (n := 1) (by omega) (by omega)
  have v2 : vp_in 2 3 := vp_in_nI (n := 2) (by omega) (by omega)
  refine br_f (by decide) ⟨v0, nm_e (nm_r (e' := 1) (by decide) (br_f (by decide) ⟨v1, nm_e (nm_r (e' := 2) (by decide) (br_f (by decide) ⟨v2, nm_e (nm_r (e' := 3) (by decide) (br_t (by decide) ?_))⟩))⟩))⟩
  exact k
theorem rl_iv_elect (hi : rl_IV I G top mark cle fet bas mem L now) {j : Nat} (hj : j < 3) (hm : mem j) : rl_IV I G top mark cle (fun _ => 0) bas mem j (now + 1) := by
  obtain ⟨i1, i2, i3, i4, i5, i6, i7, i8, i9, i10⟩ := hi
  refine ⟨fun r hr => ?_, fun r hr o ho => ?_, i3, i4, i5, fun _ => hm, i7, fun _ s hs o ho he => ?_, fun _ s hs hn => ⟨Nat.zero_le _, Nat.zero_le _, fun o ho => absurd ho (Nat.not_lt_zero _)⟩, i10⟩
  · obtain ⟨a1, a2, a3, a4, a5, a6, a7⟩ := i1 r hr
    exact ⟨a1, a2, a3, a4, a5, Nat.zero_le _, a7⟩
  · obtain ⟨w1, w2, w3, w4, w5⟩ := i2 r hr o ho
    exact ⟨w1, w2, w3, w4, by omega⟩
  · have := (i2 s hs o ho).2.2.2.2; omega
end
theorem i_vc_elect {k : Nat} {u : SX} {v : SY} (I : i_Rel k u v) (hk : k + 7 ≤ 3584) (v1 : Int32) : wpX_elect (fun r u' => wpY_elect (fun r' v' => r' = r ∧ i_Rel (k + 7) u' v') v v1) u v1 := by
  refine rl_el (P := fun u v => wpX_elect (fun r u' => wpY_elect (fun r' v' => r' = r ∧ i_Rel (k + 7) u' v') v v1) u v1) ?_ I
  clear I u v
  intro f_leader f_inside f_now f_foundKey f_foundValue f_foundTomb f_foundWho f_foundSequence f_foundEra a_offset a_kind a_who a_key a_value a_tomb a_sequence a_era a_state a_decidedAt a_dead a_count a_end a_mark a_cleaned a_gone a_eraAt a_eraOf a_eras a_epoch a_latest a_last a_places a_baseEpoch a_baseLatest a_baseLast a_basePlaces a_base a_fetched g_leader g_now b_by b_kind b_seq b_key b_val b_era b_tomb b_gone b_top b_mark b_cleaned b_fetched b_works b_member b_shown I O G top mark cle fet bas mem wor L now h
  have hR := h
  obtain ⟨hn, hI, hX, hY, hS⟩ := h
  unfold wpX_elect
  rcases rl_ix v1 (n := 3) (by omega) with hb | ⟨j, hj, rfl⟩
  · refine rl_outB (n := 3) hb (br_f (by decide) ?_)
    unfold wpY_elect
    exact rl_amB (n := 3) hb (br_t rfl ⟨by trivial, rl_fold7 hR⟩)
  · have vj : vp_in (nI j) 3 := vp_in_nI hj (by omega)
    have cj : (nI j).toNatClampNeg = j := nI_clamp (by omega)
    obtain ⟨⟨x1, x2, x3⟩, x4, x5, x6⟩ := hX
    obtain ⟨⟨y1, y2⟩, y3, y4⟩ := hY
    obtain ⟨m1, m2, m3, m4⟩ := x6 j hj
    obtain ⟨q1, q2, q3, q4, q5⟩ := y4 j hj
    refine rl_outG (n := 3) hj (by omega) (br_t rfl ⟨vj, ?_⟩)
    simp only [cj]
    refine rl_br m3 (fun hw => rl_x_isIn x2 hj (rl_br rfl (fun hm => ?_) (fun hm => ?_))) (fun hw => ?_)
    · unfold wpY_elect
      refine rl_amG (n := 3) hj (by omega) (br_f (by decide) ⟨vj, ?_⟩)
      simp only [cj]
      exact rl_br q4 (fun z => absurd z hw) (fun _ => ⟨vj, rl_br q5 (fun _ => ⟨by trivial, rl_fold7 hR⟩) (fun z => absurd z hm)⟩)
    · have hw2 : wor j := Classical.not_not.mp hw
      refine nm_r (e' := nI (now + 1)) (by rw [x3, nI_1]) ⟨4, rl_x_el50 ?_⟩
      have hI2 := rl_iv_elect hI hj hm
      refine rl_xs_adv (I := I) (O := O) (G := G) (top := top) (mark := mark) (cle := cle) (fet := fun _ => 0) (bas := bas) (mem := mem) (wor := wor) (L := j) (now := now + 1) ⟨⟨(rl_ld_t hj).symm, x2, rfl⟩, fun r hr => rl_XR_now (x4 r hr) (by omega) (by omega), x5, fun r hr => ⟨(x6 r hr).1, (x6 r hr).2.1, (x6 r hr).2.2.1, rl_upd3 hr⟩⟩ hI2 ?_
      intro cm ca co cs hX2
      unfold wpY_elect
      refine rl_amG (n := 3) hj (by omega) (br_f (by decide) ⟨vj, ?_⟩)
      simp only [cj]
      refine rl_br q4 (fun z => absurd hw2 z) (fun _ => ⟨vj, rl_br q5 (fun z => absurd hm z) (fun _ => nm_r (e' := nI (now + 1)) (by rw [y2, nI_1]) ⟨4, rl_y_el51 ?_⟩)⟩)
      refine rl_ys_adv (I := I) (O := O) (G := G) (top := top) (mark := mark) (cle := cle) (fet := fun _ => 0) (bas := bas) (mem := mem) (wor := wor) (L := j) (now := now + 1) ⟨⟨(rl_ld_t hj).symm, rfl⟩, rl_YL_now y3 (by omega) (by omega), fun r hr => ⟨(y4 r hr).1, (y4 r hr).2.1, rl_upd3 hr, (y4 r hr).2.2.2.1, (y4 r hr).2.2.2.2⟩⟩ hI2 ?_
      intro dm hY2
      exact ⟨rfl, rl_fold (O := O) ⟨by omega, rl_iv_adv hI2, hX2, hY2, hS⟩⟩
    · unfold wpY_elect
      refine rl_amG (n := 3) hj (by omega) (br_f (by decide) ⟨vj, ?_⟩)
      simp only [cj]
      exact rl_br q4 (fun _ => ⟨by trivial, rl_fold7 hR⟩) (fun z => absurd z hw)

/-! down, up, drop -/
theorem rl_in_drop (mem : Nat → Prop) {r : Nat} (hr : r < 3) : rl_in mem &&& (((1 : Int32) <<< (nI r &&& 31)) ^^^ (-1)) = rl_in (rl_u mem r False) := by
  have : r = 0 ∨ r = 1 ∨ r = 2 := by omega
  unfold rl_in
  rcases this with e | e | e
  · subst e
    have e0 : rl_u mem 0 False 0 = False := rl_us
    have e1 : rl_u mem 0 False 1 = mem 1 := rl_un (by omega)
    have e2 : rl_u mem 0 False 2 = mem 2 := rl_un (by omega)
    rw [e0, e1, e2]
    rcases Classical.em (mem 0) with h0 | h0 <;> rcases Classical.em (mem 1) with h1 | h1 <;> rcases Classical.em (mem 2) with h2 | h2 <;>
      simp only [rl_it, rl_if, h0, h1, h2, not_false_eq_true] <;> decide
  · subst e
    have e0 : rl_u mem 1 False 0 = mem 0 := rl_un (by omega)
    have e1 : rl_u mem 1 False 1 = False := rl_us
    have e2 : rl_u mem 1 False 2 = mem 2 := rl_un (by omega)
    rw [e0, e1, e2]
    rcases Classical.em (mem 0) with h0 | h0 <;> rcases Classical.em (mem 1) with h1 | h1 <;> rcases Classical.em (mem 2) with h2 | h2 <;>
      simp only [rl_it, rl_if, h0, h1, h2, not_false_eq_true] <;> decide
  · subst e
    have e0 : rl_u mem 2 False 0 = mem 0 := rl_un (by omega)
    have e1 : rl_u mem 2 False 1 = mem 1 := rl_un (by omega)
    have e2 : rl_u mem 2 False 2 = False := rl_us
    rw [e0, e1, e2]
    rcases Classical.em (mem 0) with h0 | h0 <;> rcases Classical.em (mem 1) with h1 | h1 <;> rcases Classical.em (mem 2) with h2 | h2 <;>
      simp only [rl_it, rl_if, h0, h1, h2, not_false_eq_true] <;> decide
theorem rl_in_0 (mem : Nat → Prop) : rl_in mem = 0 ↔ ¬ ∃ s, s < 3 ∧ mem s := by
  have : (∃ s, s < 3 ∧ mem s) ↔ (mem 0 ∨ mem 1 ∨ mem 2) := by
    constructor
    · rintro ⟨s, h, hm⟩
      have : s = 0 ∨ s = 1 ∨ s = 2 := by omega
      rcases this with e | e | e <;> subst e
      · exact Or.inl hm
      · exact Or.inr (Or.inl hm)
      · exact Or.inr (Or.inr hm)
    · rintro (h | h | h)
      · exact ⟨0, by omega, h⟩
      · exact ⟨1, by omega, h⟩
      · exact ⟨2, by omega, h⟩
  rw [this]
  unfold rl_in
  rcases Classical.em (mem 0) with h0 | h0 <;> rcases Classical.em (mem 1) with h1 | h1 <;> rcases Classical.em (mem 2) with h2 | h2 <;>
      simp only [rl_it, rl_if, h0, h1, h2, not_false_eq_true] <;> decide
theorem rl_iv_mem {I : Nat → Nat → rl_ID} {G : Nat → Nat → Prop} {top mark cle fet bas : Nat → Nat} {mem mem' : Nat → Prop} {L L' now : Nat} (hi : rl_IV I G top mark cle fet bas mem L now)
    (h1 : ∀ s, s < 3 → mem' s → mem s) (h2 : ∃ s, s < 3 ∧ mem' s) (h3 : L' < 3 → L' = L ∧ mem' L) : rl_IV I G top mark cle fet bas mem' L' now := by
  obtain ⟨i1, i2, i3, i4, i5, i6, i7, i8, i9, i10⟩ := hi
  refine ⟨i1, i2, i3, i4, h2, fun h => ?_, fun r s hr hs hm => i7 r s hr hs (h1 s hs hm), fun h => ?_, fun h => ?_, i10⟩
  · rw [(h3 h).1]; exact (h3 h).2
  · obtain ⟨e, -⟩ := h3 h; subst e; exact i8 h
  · obtain ⟨e, -⟩ := h3 h; subst e; exact i9 h
theorem i_vc_up {k : Nat} {u : SX} {v : SY} (I : i_Rel k u v) (hk : k + 7 ≤ 3584) (v1 : Int32) : wpX_up (fun r u' => wpY_up (fun r' v' => r' = r ∧ i_Rel (k + 7) u' v') v v1) u v1 := by
  refine rl_el (P := fun u v => wpX_up (fun r u' => wpY_up (fun r' v' => r' = r ∧ i_Rel (k + 7) u' v') v v1) u v1) ?_ I
  clear I u v
  intro f_leader f_inside f_now f_foundKey f_foundValue f_foundTomb f_foundWho f_foundSequence f_foundEra a_offset a_kind a_who a_key a_value a_tomb a_sequence a_era a_state a_decidedAt a_dead a_count a_end a_mark a_cleaned a_gone a_eraAt a_eraOf a_eras a_epoch a_latest a_last a_places a_baseEpoch a_baseLatest a_baseLast a_basePlaces a_base a_fetched g_leader g_now b_by b_kind b_seq b_key b_val b_era b_tomb b_gone b_top b_mark b_cleaned b_fetched b_works b_member b_shown I O G top mark cle fet bas mem wor L now h
  have hR := h
  obtain ⟨hn, hI, hX, hY, hS⟩ := h
  unfold wpX_up
  rcases rl_ix v1 (n := 3) (by omega) with hb | ⟨j, hj, rfl⟩
  · refine rl_outB (n := 3) hb (br_f (by decide) ?_)
    unfold wpY_up
    exact rl_amB (n := 3) hb (br_t rfl ⟨by trivial, rl_fold7 hR⟩)
  · have vj : vp_in (nI j) 3 := vp_in_nI hj (by omega)
    have cj : (nI j).toNatClampNeg = j := nI_clamp (by omega)
    obtain ⟨⟨x1, x2, x3⟩, x4, x5, x6⟩ := hX
    obtain ⟨⟨y1, y2⟩, y3, y4⟩ := hY
    obtain ⟨m1, m2, m3, m4⟩ := x6 j hj
    obtain ⟨q1, q2, q3, q4, q5⟩ := y4 j hj
    refine rl_outG (n := 3) hj (by omega) (br_t rfl ⟨vj, ?_⟩)
    simp only [cj]
    refine rl_br m3 (fun hw => ?_) (fun hw => ⟨vj, nm_e ?_⟩)
    · unfold wpY_up
      refine rl_amG (n := 3) hj (by omega) (br_f (by decide) ⟨vj, ?_⟩)
      simp only [cj]
      exact rl_br q4 (fun z => absurd z hw) (fun _ => ⟨by trivial, rl_fold7 hR⟩)
    · unfold wpY_up
      refine rl_amG (n := 3) hj (by omega) (br_f (by decide) ⟨vj, ?_⟩)
      simp only [cj]
      refine rl_br q4 (fun _ => ⟨vj, nm_e ⟨by trivial, i_up (rl_fold (O := O) (wor := rl_u wor j True) (mem := mem) (L := L) (now := now) ⟨hn, hI, ⟨⟨x1, x2, x3⟩, x4, x5, fun r hr => ?_⟩, ⟨⟨y1, y2⟩, y3, fun r hr => ?_⟩, hS⟩)⟩⟩) (fun z => absurd z hw)
      · obtain ⟨a1, a2, a3, a4⟩ := x6 r hr
        refine ⟨a1, a2, ?_, a4⟩
        by_cases e : r = j
        · subst e; rw [pk_us, rl_us, rl_bf (fun y => y trivial)]; rfl
        · rw [pk_un e, rl_un e]; exact a3
      · obtain ⟨a1, a2, a3, a4, a5⟩ := y4 r hr
        refine ⟨a1, a2, a3, ?_, a5⟩
        by_cases e : r = j
        · subst e; rw [pk_us, rl_us, rl_bt trivial]; rfl
        · rw [pk_un e, rl_un e]; exact a4
theorem i_vc_drop {k : Nat} {u : SX} {v : SY} (I : i_Rel k u v) (hk : k + 7 ≤ 3584) (v1 : Int32) : wpX_drop (fun r u' => wpY_drop (fun r' v' => r' = r ∧ i_Rel (k + 7) u' v') v v1) u v1 := by
  refine rl_el (P := fun u v => wpX_drop (fun r u' => wpY_drop (fun r' v' => r' = r ∧ i_Rel (k + 7) u' v') v v1) u v1) ?_ I
  clear I u v
  intro f_leader f_inside f_now f_foundKey f_foundValue f_foundTomb f_foundWho f_foundSequence f_foundEra a_offset a_kind a_who a_key a_value a_tomb a_sequence a_era a_state a_decidedAt a_dead a_count a_end a_mark a_cleaned a_gone a_eraAt a_eraOf a_eras a_epoch a_latest a_last a_places a_baseEpoch a_baseLatest a_baseLast a_basePlaces a_base a_fetched g_leader g_now b_by b_kind b_seq b_key b_val b_era b_tomb b_gone b_top b_mark b_cleaned b_fetched b_works b_member b_shown I O G top mark cle fet bas mem wor L now h
  have hR := h
  obtain ⟨hn, hI, hX, hY, hS⟩ := h
  unfold wpX_drop
  rcases rl_ix v1 (n := 3) (by omega) with hb | ⟨j, hj, rfl⟩
  · refine rl_outB (n := 3) hb (br_f (by decide) ?_)
    unfold wpY_drop
    exact rl_amB (n := 3) hb (br_t rfl ⟨by trivial, rl_fold7 hR⟩)
  · have vj : vp_in (nI j) 3 := vp_in_nI hj (by omega)
    have cj : (nI j).toNatClampNeg = j := nI_clamp (by omega)
    obtain ⟨⟨x1, x2, x3⟩, x4, x5, x6⟩ := hX
    obtain ⟨⟨y1, y2⟩, y3, y4⟩ := hY
    obtain ⟨m1, m2, m3, m4⟩ := x6 j hj
    obtain ⟨q1, q2, q3, q4, q5⟩ := y4 j hj
    refine rl_outG (n := 3) hj (by omega) (br_t rfl ?_)
    by_cases hL : L < 3
    · have eX : f_leader = nI L := x1.trans (rl_ld_t hL)
      have eY : g_leader = nI L := y1.trans (rl_ld_t hL)
      refine br_t (by rw [eX]; exact nI_pos' (by omega)) (pk_eq L j (fun e => ?_) (fun e => ?_) eX)
      · unfold wpY_drop
        exact rl_amG (n := 3) hj (by omega) (br_f (by decide) (br_t (by rw [eY]; exact nI_pos' (by omega)) (pk_eq L j (fun _ => ⟨by trivial, rl_fold7 hR⟩) (fun z => absurd e z) eY)))
      · refine rl_x_isIn x2 hj (rl_br rfl (fun hm => ?_) (fun hm => ?_))
        · unfold wpY_drop
          refine rl_amG (n := 3) hj (by omega) (br_f (by decide) (br_t (by rw [eY]; exact nI_pos' (by omega)) (pk_eq L j (fun z => absurd z e) (fun _ => ⟨vj, ?_⟩) eY)))
          simp only [cj]
          exact rl_br q5 (fun _ => ⟨by trivial, rl_fold7 hR⟩) (fun z => absurd z hm)
        · have hI2 : rl_IV I G top mark cle fet bas (rl_u mem j False) L now := rl_iv_mem hI (fun s hs hm2 => by
            by_cases es : s = j
            · subst es; exact hm
            · rw [rl_un es] at hm2; exact hm2) ⟨L, hL, by rw [rl_un e]; exact hI.2.2.2.2.2.1 hL⟩ (fun _ => ⟨rfl, by rw [rl_un e]; exact hI.2.2.2.2.2.1 hL⟩)
          refine nm_r (e' := rl_in (rl_u mem j False)) (by rw [x2]; exact rl_in_drop mem hj) ?_
          refine rl_xs_adv (I := I) (O := O) (G := G) (top := top) (mark := mark) (cle := cle) (fet := fet) (bas := bas) (mem := rl_u mem j False) (wor := wor) (L := L) (now := now) ⟨⟨x1, rfl, x3⟩, x4, x5, x6⟩ hI2 ?_
          intro cm ca co cs hX2
          unfold wpY_drop
          refine rl_amG (n := 3) hj (by omega) (br_f (by decide) (br_t (by rw [eY]; exact nI_pos' (by omega)) (pk_eq L j (fun z => absurd z e) (fun _ => ⟨vj, ?_⟩) eY)))
          simp only [cj]
          refine rl_br q5 (fun z => absurd hm z) (fun _ => ⟨vj, nm_e ?_⟩)
          refine rl_ys_adv (I := I) (O := O) (G := G) (top := top) (mark := mark) (cle := cle) (fet := fet) (bas := bas) (mem := rl_u mem j False) (wor := wor) (L := L) (now := now) ⟨⟨y1, y2⟩, y3, fun r hr => ?_⟩ hI2 ?_
          · obtain ⟨a1, a2, a3, a4, a5⟩ := y4 r hr
            refine ⟨a1, a2, a3, a4, ?_⟩
            by_cases e : r = j
            · subst e; rw [pk_us, rl_us, rl_bf (fun y => y)]; rfl
            · rw [pk_un e, rl_un e]; exact a5
          · intro dm hY2
            exact ⟨by trivial, i_up (rl_fold (O := O) ⟨hn, rl_iv_adv hI2, hX2, hY2, hS⟩)⟩
    · have eX : f_leader = -1 := x1.trans (rl_ld_f hL)
      have eY : g_leader = -1 := y1.trans (rl_ld_f hL)
      refine br_f (by rw [eX]; decide) ?_
      unfold wpY_drop
      exact rl_amG (n := 3) hj (by omega) (br_f (by decide) (br_f (by rw [eY]; decide) ⟨by trivial, rl_fold7 hR⟩))
/-- the members after replica r is down -/
noncomputable def rl_md (mem : Nat → Prop) (r : Nat) : Nat → Prop := fun s => mem s ∧ (s = r → ¬ ∃ q, q < 3 ∧ q ≠ r ∧ mem q)
theorem rl_md_1 {mem : Nat → Prop} {r : Nat} (h : ∃ q, q < 3 ∧ q ≠ r ∧ mem q) (s : Nat) : rl_md mem r s ↔ rl_u mem r False s := by
  unfold rl_md
  by_cases e : s = r
  · subst e; rw [rl_us]; exact ⟨fun y => y.2 rfl h, fun y => y.elim⟩
  · rw [rl_un e]; exact ⟨fun y => y.1, fun y => ⟨y, fun z => absurd z e⟩⟩
theorem rl_md_0 {mem : Nat → Prop} {r : Nat} (h : ¬ ∃ q, q < 3 ∧ q ≠ r ∧ mem q) (s : Nat) : rl_md mem r s ↔ mem s := by
  unfold rl_md
  exact ⟨fun y => y.1, fun y => ⟨y, fun _ => h⟩⟩
theorem rl_in_cg {mem mem' : Nat → Prop} (h : ∀ s, mem s ↔ mem' s) : rl_in mem = rl_in mem' := by
  have : mem = mem' := funext fun s => propext (h s)
  rw [this]
section
variable {g_leader g_now : Int32} {b_by b_kind b_seq b_key b_val b_era b_tomb b_gone b_top b_mark b_cleaned b_fetched b_works b_member b_shown : Nat → Int32} {mem : Nat → Prop}
/-- Y counts the other members -/
def rl_om (mem : Nat → Prop) (j i : Nat) : Prop := ∃ q, q < i ∧ q ≠ j ∧ mem q
theorem rl_y_do46 {j : Nat} (hj : j < 3) (hm : ∀ r, r < 3 → b_member r = rl_b (mem r)) {post : Int32 → SY → Prop}
    (k0 : (¬ rl_om mem j 3) → wY_down_85 post g_leader g_now b_by b_kind b_seq b_key b_val b_era b_tomb b_gone b_top b_mark b_cleaned b_fetched b_works b_member b_shown) (k1 : rl_om mem j 3 → wY_down_85 post g_leader g_now b_by b_kind b_seq b_key b_val b_era b_tomb b_gone b_top b_mark b_cleaned b_fetched b_works (upd b_member j 0) b_shown) :
    ∀ n i c, i ≤ 3 → 3 - i < n → c ≤ i → (c = 0 ↔ ¬ rl_om mem j i) → wY_down_46 post (nI j) g_leader g_now b_by b_kind b_seq b_key b_val b_era b_tomb b_gone b_top b_mark b_cleaned b_fetched b_works b_member b_shown n (nI c) (nI i) := by
  have vj : vp_in (nI j) 3 := vp_in_nI hj (by omega)
  have cj : (nI j).toNatClampNeg = j := nI_clamp (by omega)
  intro n
  induction n with
  | zero => intro i c h1 h2; omega
  | succ n ih =>
    intro i c hi hn hc hcs
    refine pk_le 3 i (fun z => ?_) (fun z => ?_)
    · have e : i = 3 := by omega
      subst e
      refine pk_le c 0 (fun y => k0 (hcs.mp (by omega))) (fun y => ⟨vj, ?_⟩)
      simp only [cj]
      exact nm_e (k1 (Classical.byContradiction fun x => by have := hcs.mpr x; omega))
    · have vi : vp_in (nI i) 3 := vp_in_nI z (by omega)
      have ei : b_member (nI i).toNatClampNeg = rl_b (mem i) := by rw [nI_clamp (by omega)]; exact hm i z
      have same : (i = j ∨ ¬ mem i) → (rl_om mem j (i + 1) ↔ rl_om mem j i) := fun h => by
        constructor
        · rintro ⟨q, h1, h2, h3⟩
          refine ⟨q, ?_, h2, h3⟩
          rcases Nat.lt_or_ge q i with y | y
          · exact y
          · have e : q = i := by omega
            subst e; rcases h with h | h
            · exact absurd h h2
            · exact absurd h3 h
        · rintro ⟨q, h1, h2, h3⟩; exact ⟨q, by omega, h2, h3⟩
      refine pk_eq i j (fun e => nm_r (nI_1 _) (ih (i + 1) c (by omega) (by omega) (by omega) (by rw [same (Or.inl e)]; exact hcs))) (fun e => ⟨vi, rl_br ei (fun hmi => nm_r (nI_1 _) (ih (i + 1) c (by omega) (by omega) (by omega) (by rw [same (Or.inr hmi)]; exact hcs))) (fun hmi => nm_r (nI_1 _) (nm_r (nI_1 _) (ih (i + 1) (c + 1) (by omega) (by omega) (by omega) ⟨fun y => by omega, fun y => absurd ⟨i, by omega, e, hmi⟩ y⟩)))⟩)
end
theorem i_vc_down {k : Nat} {u : SX} {v : SY} (I : i_Rel k u v) (hk : k + 7 ≤ 3584) (v1 : Int32) : wpX_down (fun r u' => wpY_down (fun r' v' => r' = r ∧ i_Rel (k + 7) u' v') v v1) u v1 := by
  refine rl_el (P := fun u v => wpX_down (fun r u' => wpY_down (fun r' v' => r' = r ∧ i_Rel (k + 7) u' v') v v1) u v1) ?_ I
  clear I u v
  intro f_leader f_inside f_now f_foundKey f_foundValue f_foundTomb f_foundWho f_foundSequence f_foundEra a_offset a_kind a_who a_key a_value a_tomb a_sequence a_era a_state a_decidedAt a_dead a_count a_end a_mark a_cleaned a_gone a_eraAt a_eraOf a_eras a_epoch a_latest a_last a_places a_baseEpoch a_baseLatest a_baseLast a_basePlaces a_base a_fetched g_leader g_now b_by b_kind b_seq b_key b_val b_era b_tomb b_gone b_top b_mark b_cleaned b_fetched b_works b_member b_shown I O G top mark cle fet bas mem wor L now h
  have hR := h
  obtain ⟨hn, hI, hX, hY, hS⟩ := h
  unfold wpX_down
  rcases rl_ix v1 (n := 3) (by omega) with hb | ⟨j, hj, rfl⟩
  · refine rl_outB (n := 3) hb (br_f (by decide) ?_)
    unfold wpY_down
    exact rl_amB (n := 3) hb (br_t rfl ⟨by trivial, rl_fold7 hR⟩)
  · have vj : vp_in (nI j) 3 := vp_in_nI hj (by omega)
    have cj : (nI j).toNatClampNeg = j := nI_clamp (by omega)
    obtain ⟨⟨x1, x2, x3⟩, x4, x5, x6⟩ := hX
    obtain ⟨⟨y1, y2⟩, y3, y4⟩ := hY
    obtain ⟨m1, m2, m3, m4⟩ := x6 j hj
    obtain ⟨q1, q2, q3, q4, q5⟩ := y4 j hj
    refine rl_outG (n := 3) hj (by omega) (br_t rfl ⟨vj, ?_⟩)
    simp only [cj]
    refine rl_br m3 (fun hw => ⟨vj, nm_e ?_⟩) (fun hw => ?_)
    · have hw2 : wor j := Classical.not_not.mp hw
      -- the new leader
      have key : ∀ L' : Nat, (L' < 3 → L' = L ∧ L ≠ j) → rl_ld L' = (if L = j then -1 else f_leader) → rl_ld L' = (if L = j then -1 else g_leader) →
          wX_down_42 (fun r u' => wpY_down (fun r' v' => r' = r ∧ i_Rel (k + 7) u' v') (g_leader, g_now, b_by, b_kind, b_seq, b_key, b_val, b_era, b_tomb, b_gone, b_top, b_mark, b_cleaned, b_fetched, b_works, b_member, b_shown) (nI j)) (nI j) (rl_ld L') f_inside f_now f_foundKey f_foundValue f_foundTomb f_foundWho f_foundSequence f_foundEra a_offset a_kind a_who a_key a_value a_tomb a_sequence a_era a_state a_decidedAt a_dead a_count a_end a_mark a_cleaned (upd a_gone j (vp_nar .boolean 1)) a_eraAt a_eraOf a_eras a_epoch a_latest a_last a_places a_baseEpoch a_baseLatest a_baseLast a_basePlaces a_base a_fetched := by
        intro L' hL' eX eY
        have hI2 : rl_IV I G top mark cle fet bas (rl_md mem j) L' now := by
          refine rl_iv_mem hI (fun s hs hm2 => hm2.1) ?_ (fun h => ?_)
          · by_cases hq : ∃ q, q < 3 ∧ q ≠ j ∧ mem q
            · obtain ⟨q, h1, h2, h3⟩ := hq
              exact ⟨q, h1, h3, fun y => absurd y h2⟩
            · obtain ⟨s, h1, h2⟩ := hI.2.2.2.2.1
              exact ⟨s, h1, h2, fun _ => hq⟩
          · obtain ⟨e1, e2⟩ := hL' h
            exact ⟨e1, hI.2.2.2.2.2.1 (by omega), fun y => absurd y e2⟩
        have fin : ∀ f_inside' : Int32, f_inside' = rl_in (rl_md mem j) → wX_down_62 (fun r u' => wpY_down (fun r' v' => r' = r ∧ i_Rel (k + 7) u' v') (g_leader, g_now, b_by, b_kind, b_seq, b_key, b_val, b_era, b_tomb, b_gone, b_top, b_mark, b_cleaned, b_fetched, b_works, b_member, b_shown) (nI j)) (rl_ld L') f_inside' f_now f_foundKey f_foundValue f_foundTomb f_foundWho f_foundSequence f_foundEra a_offset a_kind a_who a_key a_value a_tomb a_sequence a_era a_state a_decidedAt a_dead a_count a_end a_mark a_cleaned (upd a_gone j (vp_nar .boolean 1)) a_eraAt a_eraOf a_eras a_epoch a_latest a_last a_places a_baseEpoch a_baseLatest a_baseLast a_basePlaces a_base a_fetched := by
          intro fi hfi
          unfold wX_down_62
          refine rl_xs_adv (I := I) (O := O) (G := G) (top := top) (mark := mark) (cle := cle) (fet := fet) (bas := bas) (mem := rl_md mem j) (wor := rl_u wor j False) (L := L') (now := now) ⟨⟨rfl, hfi, x3⟩, x4, x5, fun r hr => ?_⟩ hI2 ?_
          · obtain ⟨a1, a2, a3, a4⟩ := x6 r hr
            refine ⟨a1, a2, ?_, a4⟩
            by_cases e : r = j
            · subst e; rw [pk_us, rl_us, rl_bt (fun y => y)]; rfl
            · rw [pk_un e, rl_un e]; exact a3
          · intro cm ca co cs hX2
            unfold wpY_down
            refine rl_amG (n := 3) hj (by omega) (br_f (by decide) ⟨vj, ?_⟩)
            simp only [cj]
            refine rl_br q4 (fun z => absurd hw2 z) (fun _ => ⟨vj, nm_e ?_⟩)
            have Y1 : ∀ c_member : Nat → Int32, (∀ r, r < 3 → c_member r = rl_b (rl_md mem j r)) → wY_down_85 (fun r' v' => r' = 0 ∧ i_Rel (k + 7) (rl_ld L', fi, f_now, f_foundKey, f_foundValue, f_foundTomb, f_foundWho, f_foundSequence, f_foundEra, a_offset, a_kind, a_who, a_key, a_value, a_tomb, a_sequence, a_era, a_state, a_decidedAt, a_dead, a_count, a_end, cm, a_cleaned, upd a_gone j (vp_nar .boolean 1), ca, co, cs, a_epoch, a_latest, a_last, a_places, a_baseEpoch, a_baseLatest, a_baseLast, a_basePlaces, a_base, a_fetched) v') (rl_ld L') g_now b_by b_kind b_seq b_key b_val b_era b_tomb b_gone b_top b_mark b_cleaned b_fetched (upd b_works j (vp_nar .boolean 0)) c_member b_shown := by
              intro cmem hcm
              unfold wY_down_85
              refine rl_ys_adv (I := I) (O := O) (G := G) (top := top) (mark := mark) (cle := cle) (fet := fet) (bas := bas) (mem := rl_md mem j) (wor := rl_u wor j False) (L := L') (now := now) ⟨⟨rfl, y2⟩, y3, fun r hr => ?_⟩ hI2 ?_
              · obtain ⟨a1, a2, a3, a4, a5⟩ := y4 r hr
                refine ⟨a1, a2, a3, ?_, hcm r hr⟩
                by_cases e : r = j
                · subst e; rw [pk_us, rl_us, rl_bf (fun y => y)]; rfl
                · rw [pk_un e, rl_un e]; exact a4
              · intro dm hY2
                exact ⟨by trivial, i_up (rl_fold (O := O) ⟨hn, rl_iv_adv hI2, hX2, hY2, hS⟩)⟩
            have Y2 := fun c_works c_leader => rl_y_do46 (mem := mem) (b_works := c_works) (g_leader := c_leader) (g_now := g_now) (b_by := b_by) (b_kind := b_kind) (b_seq := b_seq) (b_key := b_key) (b_val := b_val) (b_era := b_era) (b_tomb := b_tomb) (b_gone := b_gone) (b_top := b_top) (b_mark := b_mark) (b_cleaned := b_cleaned) (b_fetched := b_fetched) (b_member := b_member) (b_shown := b_shown) hj (fun r hr => (y4 r hr).2.2.2.2)
                (post := fun r' v' => r' = 0 ∧ i_Rel (k + 7) (rl_ld L', fi, f_now, f_foundKey, f_foundValue, f_foundTomb, f_foundWho, f_foundSequence, f_foundEra, a_offset, a_kind, a_who, a_key, a_value, a_tomb, a_sequence, a_era, a_state, a_decidedAt, a_dead, a_count, a_end, cm, a_cleaned, upd a_gone j (vp_nar .boolean 1), ca, co, cs, a_epoch, a_latest, a_last, a_places, a_baseEpoch, a_baseLatest, a_baseLast, a_basePlaces, a_base, a_fetched) v')
            have fin2 := Y2 (upd b_works j (vp_nar .boolean 0)) (rl_ld L') (fun hq => Y1 b_member (fun r hr => by rw [(y4 r hr).2.2.2.2]; exact rl_bcg (rl_md_0 hq r).symm))
              (fun hq => Y1 (upd b_member j 0) (fun r hr => by
                rw [rl_bcg (rl_md_1 hq r)]
                by_cases e : r = j
                · subst e; rw [pk_us, rl_us, rl_bf (fun y => y)]
                · rw [pk_un e, rl_un e]; exact (y4 r hr).2.2.2.2)) 4 0 0 (by omega) (by omega) (by omega) ⟨fun _ => fun ⟨q, h1, _⟩ => by omega, fun _ => rfl⟩
            have fin3 : ∀ cl : Int32, cl = rl_ld L' → wY_down_46 (fun r' v' => r' = 0 ∧ i_Rel (k + 7) (rl_ld L', fi, f_now, f_foundKey, f_foundValue, f_foundTomb, f_foundWho, f_foundSequence, f_foundEra, a_offset, a_kind, a_who, a_key, a_value, a_tomb, a_sequence, a_era, a_state, a_decidedAt, a_dead, a_count, a_end, cm, a_cleaned, upd a_gone j (vp_nar .boolean 1), ca, co, cs, a_epoch, a_latest, a_last, a_places, a_baseEpoch, a_baseLatest, a_baseLast, a_basePlaces, a_base, a_fetched) v') (nI j) cl g_now b_by b_kind b_seq b_key b_val b_era b_tomb b_gone b_top b_mark b_cleaned b_fetched (upd b_works j (vp_nar .boolean 0)) b_member b_shown 4 (nI 0) (nI 0) := by
              intro cl e
              subst e
              exact fin2
            by_cases hLj : L = j
            · have eg : g_leader = nI j := by rw [y1, hLj]; exact rl_ld_t hj
              rw [if_pos hLj] at eY
              exact br_t eg ⟨4, fin3 (-1) eY.symm⟩
            · have eg : ¬ g_leader = nI j := by
                rw [y1]
                by_cases h3 : L < 3
                · rw [rl_ld_t h3]; exact fun y => hLj ((nI_eq (by omega) (by omega)).mp y)
                · rw [rl_ld_f h3]; exact fun y => nI_pos (n := j) (by omega) (by rw [← y]; decide)
              rw [if_neg hLj] at eY
              exact br_f eg ⟨4, fin3 g_leader eY.symm⟩
        unfold wX_down_42
        refine nm_r (e' := rl_in (rl_u mem j False)) (by rw [x2]; exact rl_in_drop mem hj) ?_
        have e0 : rl_in (rl_u mem j False) = 0 ↔ ¬ ∃ q, q < 3 ∧ q ≠ j ∧ mem q := by
          rw [rl_in_0]
          refine not_congr ⟨fun ⟨q, h1, h2⟩ => ?_, fun ⟨q, h1, h2, h3⟩ => ⟨q, h1, by rw [rl_un h2]; exact h3⟩⟩
          by_cases e : q = j
          · subst e; rw [rl_us] at h2; exact h2.elim
          · rw [rl_un e] at h2; exact ⟨q, h1, e, h2⟩
        refine ⟨fun y => fin _ ?_, fun y => fin _ ?_⟩
        · rw [x2]; exact rl_in_cg (fun s => (rl_md_0 (e0.mp y) s).symm)
        · exact rl_in_cg (fun s => (rl_md_1 (Classical.byContradiction fun z => y (e0.mpr z)) s).symm)
      by_cases hLj : L = j
      · have eg : f_leader = nI j := by rw [x1, hLj]; exact rl_ld_t hj
        have := key 3 (fun h => by omega) (by rw [if_pos hLj]; rfl) (by rw [if_pos hLj]; rfl)
        exact br_t eg this
      · have eg : ¬ f_leader = nI j := by
          rw [x1]
          by_cases h3 : L < 3
          · rw [rl_ld_t h3]; exact fun y => hLj ((nI_eq (by omega) (by omega)).mp y)
          · rw [rl_ld_f h3]; exact fun y => nI_pos (n := j) (by omega) (by rw [← y]; decide)
        have := key L (fun h => ⟨rfl, hLj⟩) (by rw [if_neg hLj]; exact x1.symm) (by rw [if_neg hLj]; exact y1.symm)
        rw [← x1] at this
        exact br_f eg this
    · unfold wpY_down
      refine rl_amG (n := 3) hj (by omega) (br_f (by decide) ⟨vj, ?_⟩)
      simp only [cj]
      exact rl_br q4 (fun _ => ⟨by trivial, rl_fold7 hR⟩) (fun z => absurd z hw)
end
section

theorem i_vc0 : wpX_init (fun u => wpY_init (fun v => i_Rel 0 u v)) := by
  unfold wpX_init wpY_init
  have v0 : vp_in 0 3 := vp_in_nI (n := 0) (by omega) (by omega)
  have v1 : vp_in 1 3 := vp_in_nI (n := 1) (by omega) (by omega)
  have v2 : vp_in 2 3 := vp_in_nI (n := 2) (by omega) (by omega)
  refine ⟨4, br_f (by decide) ⟨v0, nm_e ⟨v0, nm_e (nm_r (e' := 1) (by decide) (br_f (by decide) ⟨v1, nm_e ⟨v1, nm_e (nm_r (e' := 2) (by decide) (br_f (by decide) ⟨v2, nm_e ⟨v2, nm_e (nm_r (e' := 3) (by decide) (br_t (by decide) ?_))⟩⟩))⟩⟩))⟩⟩⟩
  have b3 : ∀ r, r < 3 → upd (upd (upd (fun _ => (0 : Int32)) 0 (vp_nar .boolean 1)) 1 (vp_nar .boolean 1)) 2 (vp_nar .boolean 1) r = rl_b True := fun r hr => by
    rw [rl_bt trivial]
    have : r = 0 ∨ r = 1 ∨ r = 2 := by omega
    rcases this with e | e | e <;> subst e <;> rfl
  refine rl_fold (I := fun _ _ => (0, 0, 0, 0, 0, 0, 0)) (O := fun _ _ => False) (G := fun _ _ => False) (top := fun _ => 0) (mark := fun _ => 0) (cle := fun _ => 0) (fet := fun _ => 0) (bas := fun _ => 0) (mem := fun _ => True) (wor := fun _ => True) (L := 3) (now := 0) ⟨Nat.le_refl _, ?_, ?_, ?_, ⟨rfl, rfl, rfl, rfl, rfl, rfl⟩⟩
  · refine ⟨fun r hr => ⟨Nat.zero_le _, Nat.zero_le _, Nat.le_refl _, Nat.le_refl _, Nat.le_refl _, Nat.zero_le _, fun o ho => absurd ho (Nat.not_lt_zero _)⟩, fun r hr o ho => absurd ho (Nat.not_lt_zero _), fun r hr o o' _ ho => absurd ho (Nat.not_lt_zero _), fun r s _ _ a b ha => absurd ha (Nat.not_lt_zero _), ⟨0, by omega, trivial⟩, fun h => by omega, fun r s _ _ _ => ⟨Nat.le_refl _, Nat.le_refl _, fun o ho => rfl⟩, fun h => by omega, fun h => by omega, fun r hr o ho => absurd ho (Nat.not_lt_zero _)⟩
  · refine ⟨⟨rfl, ?_, rfl⟩, fun r hr => ⟨⟨by omega, Nat.zero_le _, Nat.zero_le _, fun o ho => absurd ho (Nat.not_lt_zero _)⟩, rfl, rfl, rfl, fun p hp => rfl, fun p hp => rfl⟩, fun r hr => ⟨0, fun _ => 0, fun _ => 0, Nat.zero_le _, rfl, fun k hk => absurd hk (Nat.not_lt_zero _), fun _ => rfl, fun h => absurd h (Nat.not_lt_zero _), fun k hk => absurd hk (Nat.not_lt_zero _), fun k hk => absurd hk (Nat.not_lt_zero _), fun h => absurd h (Nat.not_lt_zero _), fun k _ hk => absurd hk (Nat.not_lt_zero _)⟩, fun r hr => ⟨rfl, rfl, ?_, rfl⟩⟩
    · unfold rl_in
      rw [rl_it trivial, rl_it trivial, rl_it trivial]; rfl
    · rw [rl_bf (fun y => y trivial)]
  · refine ⟨⟨rfl, rfl⟩, ⟨by omega, fun r hr => ⟨Nat.zero_le _, rfl, fun o ho => absurd ho (Nat.not_lt_zero _)⟩⟩, fun r hr => ⟨rfl, rfl, rfl, b3 r hr, b3 r hr⟩⟩
theorem i_vc_found {k : Nat} {u : SX} {v : SY} (I : i_Rel k u v) (hk : k + 7 ≤ 3584) (v1 : Int32) : wpX_found (fun r => wpY_found (fun r' => r' = r ∧ i_Rel (k + 7) u v) v v1) u v1 := by
  refine rl_el (P := fun u v => wpX_found (fun r => wpY_found (fun r' => r' = r ∧ i_Rel (k + 7) u v) v v1) u v1) ?_ I
  clear I u v
  intro f_leader f_inside f_now f_foundKey f_foundValue f_foundTomb f_foundWho f_foundSequence f_foundEra a_offset a_kind a_who a_key a_value a_tomb a_sequence a_era a_state a_decidedAt a_dead a_count a_end a_mark a_cleaned a_gone a_eraAt a_eraOf a_eras a_epoch a_latest a_last a_places a_baseEpoch a_baseLatest a_baseLast a_basePlaces a_base a_fetched g_leader g_now b_by b_kind b_seq b_key b_val b_era b_tomb b_gone b_top b_mark b_cleaned b_fetched b_works b_member b_shown I O G top mark cle fet bas mem wor L now h
  have hR := rl_fold7 h
  obtain ⟨hn, hI, hX, hY, s0, s1, s2, s3, s4, s5⟩ := h
  unfold wpX_found
  rcases rl_ix v1 (n := 6) (by omega) with hb | ⟨j, hj, rfl⟩
  · have hy : ∀ q : Int32 → Prop, q 0 → wpY_found q (g_leader, g_now, b_by, b_kind, b_seq, b_key, b_val, b_era, b_tomb, b_gone, b_top, b_mark, b_cleaned, b_fetched, b_works, b_member, b_shown) v1 := fun q hq => by
      unfold wpY_found
      exact rl_amB (n := 6) hb (br_t rfl hq)
    rcases hb with hb | hb
    · exact br_t hb (hy _ ⟨rfl, hR⟩)
    · have h1 : ¬ v1 < 0 := by rw [Int32.not_lt]; exact Int32.le_trans (nI_pos' (n := 6) (by omega)) hb
      have h2 : 5 < v1 := by
        rw [Int32.le_iff_toInt_le, nI_toInt (by omega)] at hb
        rw [Int32.lt_iff_toInt_lt, show (5 : Int32).toInt = 5 from by decide]; omega
      exact br_f h1 (br_t h2 (hy _ ⟨rfl, hR⟩))
  · have vj : vp_in (nI j) 6 := vp_in_nI hj (by omega)
    have cj : (nI j).toNatClampNeg = j := nI_clamp (by omega)
    have hy : ∀ q : Int32 → Prop, q (b_shown j) → wpY_found q (g_leader, g_now, b_by, b_kind, b_seq, b_key, b_val, b_era, b_tomb, b_gone, b_top, b_mark, b_cleaned, b_fetched, b_works, b_member, b_shown) (nI j) := fun q hq => by
      unfold wpY_found
      refine rl_amG (n := 6) hj (by omega) (br_f (by decide) ⟨vj, ?_⟩)
      rw [cj]; exact hq
    have : j = 0 ∨ j = 1 ∨ j = 2 ∨ j = 3 ∨ j = 4 ∨ j = 5 := by omega
    rcases this with e | e | e | e | e | e <;> subst e
    · exact br_f (by decide) (br_f (by decide) (br_t (by decide) (hy _ ⟨s0, hR⟩)))
    · exact br_f (by decide) (br_f (by decide) (br_f (by decide) (br_t (by decide) (hy _ ⟨s1, hR⟩))))
    · exact br_f (by decide) (br_f (by decide) (br_f (by decide) (br_f (by decide) (br_t (by decide) (hy _ ⟨s2, hR⟩)))))
    · exact br_f (by decide) (br_f (by decide) (br_f (by decide) (br_f (by decide) (br_f (by decide) (br_t (by decide) (hy _ ⟨s3, hR⟩))))))
    · exact br_f (by decide) (br_f (by decide) (br_f (by decide) (br_f (by decide) (br_f (by decide) (br_f (by decide) (br_t (by decide) (hy _ ⟨s4, hR⟩)))))))
    · exact br_f (by decide) (br_f (by decide) (br_f (by decide) (br_f (by decide) (br_f (by decide) (br_f (by decide) (br_f (by decide) (br_t (by decide) (hy _ ⟨s5, hR⟩))))))))

theorem i_vc_about {k : Nat} {u : SX} {v : SY} (I : i_Rel k u v) (hk : k + 7 ≤ 3584) (v1 : Int32) (v2 : Int32) : wpX_about (fun r => wpY_about (fun r' => r' = r ∧ i_Rel (k + 7) u v) v v1 v2) u v1 v2 := by
  refine rl_el (P := fun u v => wpX_about (fun r => wpY_about (fun r' => r' = r ∧ i_Rel (k + 7) u v) v v1 v2) u v1 v2) ?_ I
  clear I u v
  intro f_leader f_inside f_now f_foundKey f_foundValue f_foundTomb f_foundWho f_foundSequence f_foundEra a_offset a_kind a_who a_key a_value a_tomb a_sequence a_era a_state a_decidedAt a_dead a_count a_end a_mark a_cleaned a_gone a_eraAt a_eraOf a_eras a_epoch a_latest a_last a_places a_baseEpoch a_baseLatest a_baseLast a_basePlaces a_base a_fetched g_leader g_now b_by b_kind b_seq b_key b_val b_era b_tomb b_gone b_top b_mark b_cleaned b_fetched b_works b_member b_shown I O G top mark cle fet bas mem wor L now h
  have hR := rl_fold7 h
  obtain ⟨hn, hI, hX, hY, hS⟩ := h
  unfold wpX_about
  rcases rl_ix v1 (n := 3) (by omega) with hb | ⟨j, hj, rfl⟩
  · refine rl_outB (n := 3) hb (br_f (by decide) ?_)
    unfold wpY_about
    exact rl_amB (n := 3) hb (br_t rfl ⟨by trivial, hR⟩)
  · have vj : vp_in (nI j) 3 := vp_in_nI hj (by omega)
    have cj : (nI j).toNatClampNeg = j := nI_clamp (by omega)
    obtain ⟨⟨x1, x2, x3⟩, x4, x5, x6⟩ := hX
    obtain ⟨⟨y1, y2⟩, y3, y4⟩ := hY
    obtain ⟨m1, m2, m3, m4⟩ := x6 j hj
    obtain ⟨q1, q2, q3, q4, q5⟩ := y4 j hj
    obtain ⟨t1, t2, t3, t4⟩ := x4 j hj
    obtain ⟨z1, z2, z3⟩ := y3.2 j hj
    have im := (hI.1 j hj).2.2.1
    refine rl_outG (n := 3) hj (by omega) (br_t rfl ?_)
    rcases rl_ix v2 (n := 8) (by omega) with hb | ⟨w, hw, rfl⟩
    · have hy : ∀ q : Int32 → Prop, q (-1) → wpY_about q (g_leader, g_now, b_by, b_kind, b_seq, b_key, b_val, b_era, b_tomb, b_gone, b_top, b_mark, b_cleaned, b_fetched, b_works, b_member, b_shown) (nI j) v2 := fun q hq => by
        unfold wpY_about
        exact rl_amG (n := 3) hj (by omega) (br_f (by decide) (rl_amB (n := 8) hb (br_t rfl hq)))
      rcases hb with hb | hb
      · exact br_t hb (hy _ ⟨rfl, hR⟩)
      · have h1 : ¬ v2 < 0 := by rw [Int32.not_lt]; exact Int32.le_trans (nI_pos' (n := 8) (by omega)) hb
        have h2 : 7 < v2 := by
          rw [Int32.le_iff_toInt_le, nI_toInt (by omega)] at hb
          rw [Int32.lt_iff_toInt_lt, show (7 : Int32).toInt = 7 from by decide]; omega
        exact br_f h1 (br_t h2 (hy _ ⟨rfl, hR⟩))
    · simp only [cj]
      have : w = 0 ∨ w = 1 ∨ w = 2 ∨ w = 3 ∨ w = 4 ∨ w = 5 ∨ w = 6 ∨ w = 7 := by omega
      rcases this with e | e | e | e | e | e | e | e <;> subst e <;> refine br_f (by decide) (br_f (by decide) ?_)
      · refine br_t (by decide) (⟨vj, ?_⟩)
        unfold wpY_about
        refine rl_amG (n := 3) hj (by omega) (br_f (by decide) (rl_amG (n := 8) hw (by omega) (br_f (by decide) ?_)))
        simp only [cj]
        exact br_t (by decide) (⟨vj, z2.trans t3.symm, hR⟩)
      · refine br_f (by decide) (br_t (by decide) (⟨vj, ?_⟩))
        unfold wpY_about
        refine rl_amG (n := 3) hj (by omega) (br_f (by decide) (rl_amG (n := 8) hw (by omega) (br_f (by decide) ?_)))
        simp only [cj]
        exact br_f (by decide) (br_t (by decide) (⟨vj, q1.trans m1.symm, hR⟩))
      · refine br_f (by decide) (br_f (by decide) (br_t (by decide) (rl_x_stable t1 hj t2 im m1 ?_)))
        unfold wpY_about
        refine rl_amG (n := 3) hj (by omega) (br_f (by decide) (rl_amG (n := 8) hw (by omega) (br_f (by decide) ?_)))
        simp only [cj]
        exact br_f (by decide) (br_f (by decide) (br_t (by decide) (rl_y_stable y3 hj q1 im ⟨by trivial, hR⟩)))
      · refine br_f (by decide) (br_f (by decide) (br_f (by decide) (br_t (by decide) (⟨vj, ?_⟩))))
        unfold wpY_about
        refine rl_amG (n := 3) hj (by omega) (br_f (by decide) (rl_amG (n := 8) hw (by omega) (br_f (by decide) ?_)))
        simp only [cj]
        exact br_f (by decide) (br_f (by decide) (br_f (by decide) (br_t (by decide) (⟨vj, q2.trans m2.symm, hR⟩))))
      · refine br_f (by decide) (br_f (by decide) (br_f (by decide) (br_f (by decide) (br_t (by decide) (⟨vj, ?_⟩)))))
        unfold wpY_about
        refine rl_amG (n := 3) hj (by omega) (br_f (by decide) (rl_amG (n := 8) hw (by omega) (br_f (by decide) ?_)))
        simp only [cj]
        exact br_f (by decide) (br_f (by decide) (br_f (by decide) (br_f (by decide) (br_t (by decide) (rl_y_held y3 hj ⟨t2.symm, hR⟩)))))
      · refine br_f (by decide) (br_f (by decide) (br_f (by decide) (br_f (by decide) (br_f (by decide) (br_t (by decide) ⟨vj, rl_br m3 (fun hw5 => ?_) (fun hw5 => ?_)⟩)))))
        · unfold wpY_about
          refine rl_amG (n := 3) hj (by omega) (br_f (by decide) (rl_amG (n := 8) hw (by omega) (br_f (by decide) ?_)))
          simp only [cj]
          exact br_f (by decide) (br_f (by decide) (br_f (by decide) (br_f (by decide) (br_f (by decide) (br_t (by decide) ⟨vj, by unfold wY_about_118; exact rl_br q4 (fun z => absurd z hw5) (fun z => ⟨by trivial, hR⟩)⟩)))))
        · unfold wpY_about
          refine rl_amG (n := 3) hj (by omega) (br_f (by decide) (rl_amG (n := 8) hw (by omega) (br_f (by decide) ?_)))
          simp only [cj]
          exact br_f (by decide) (br_f (by decide) (br_f (by decide) (br_f (by decide) (br_f (by decide) (br_t (by decide) ⟨vj, by unfold wY_about_118; exact rl_br q4 (fun z => ⟨by trivial, hR⟩) (fun z => absurd z hw5)⟩)))))
      · refine br_f (by decide) (br_f (by decide) (br_f (by decide) (br_f (by decide) (br_f (by decide) (br_f (by decide) (br_t (by decide) (rl_x_isIn x2 hj (rl_br rfl (fun hm => ?_) (fun hm => ?_)))))))))
        · unfold wpY_about
          refine rl_amG (n := 3) hj (by omega) (br_f (by decide) (rl_amG (n := 8) hw (by omega) (br_f (by decide) ?_)))
          simp only [cj]
          exact br_f (by decide) (br_f (by decide) (br_f (by decide) (br_f (by decide) (br_f (by decide) (br_f (by decide) (br_t (by decide) ⟨vj, by unfold wY_about_118; exact rl_br q5 (fun z => ⟨by trivial, hR⟩) (fun z => absurd z hm)⟩))))))
        · unfold wpY_about
          refine rl_amG (n := 3) hj (by omega) (br_f (by decide) (rl_amG (n := 8) hw (by omega) (br_f (by decide) ?_)))
          simp only [cj]
          exact br_f (by decide) (br_f (by decide) (br_f (by decide) (br_f (by decide) (br_f (by decide) (br_f (by decide) (br_t (by decide) ⟨vj, by unfold wY_about_118; exact rl_br q5 (fun z => absurd hm z) (fun z => ⟨by trivial, hR⟩)⟩))))))
      · have eq2 : g_leader = f_leader := y1.trans x1.symm
        refine br_f (by decide) (br_f (by decide) (br_f (by decide) (br_f (by decide) (br_f (by decide) (br_f (by decide) (br_f (by decide) (br_t (by decide) ⟨fun y => ?_, fun y => ?_⟩)))))))
        · unfold wpY_about
          refine rl_amG (n := 3) hj (by omega) (br_f (by decide) (rl_amG (n := 8) hw (by omega) (br_f (by decide) ?_)))
          simp only [cj]
          exact br_f (by decide) (br_f (by decide) (br_f (by decide) (br_f (by decide) (br_f (by decide) (br_f (by decide) (br_f (by decide) (br_t (eq2.trans y) (by unfold wY_about_118; exact br_f (by decide) ⟨by trivial, hR⟩))))))))
        · unfold wpY_about
          refine rl_amG (n := 3) hj (by omega) (br_f (by decide) (rl_amG (n := 8) hw (by omega) (br_f (by decide) ?_)))
          simp only [cj]
          exact br_f (by decide) (br_f (by decide) (br_f (by decide) (br_f (by decide) (br_f (by decide) (br_f (by decide) (br_f (by decide) (br_f (fun z => y (eq2.symm.trans z)) (by unfold wY_about_118; exact br_t rfl ⟨by trivial, hR⟩))))))))

theorem i_vc_producer {k : Nat} {u : SX} {v : SY} (I : i_Rel k u v) (hk : k + 7 ≤ 3584) (v1 : Int32) (v2 : Int32) (v3 : Int32) : wpX_producer (fun r => wpY_producer (fun r' => r' = r ∧ i_Rel (k + 7) u v) v v1 v2 v3) u v1 v2 v3 := by
  refine rl_el (P := fun u v => wpX_producer (fun r => wpY_producer (fun r' => r' = r ∧ i_Rel (k + 7) u v) v v1 v2 v3) u v1 v2 v3) ?_ I
  clear I u v
  intro f_leader f_inside f_now f_foundKey f_foundValue f_foundTomb f_foundWho f_foundSequence f_foundEra a_offset a_kind a_who a_key a_value a_tomb a_sequence a_era a_state a_decidedAt a_dead a_count a_end a_mark a_cleaned a_gone a_eraAt a_eraOf a_eras a_epoch a_latest a_last a_places a_baseEpoch a_baseLatest a_baseLast a_basePlaces a_base a_fetched g_leader g_now b_by b_kind b_seq b_key b_val b_era b_tomb b_gone b_top b_mark b_cleaned b_fetched b_works b_member b_shown I O G top mark cle fet bas mem wor L now h
  have hR := rl_fold7 h
  obtain ⟨hn, hI, hX, hY, hS⟩ := h
  unfold wpX_producer
  rcases rl_ix v1 (n := 3) (by omega) with hb | ⟨j, hj, rfl⟩
  · refine rl_outB (n := 3) hb (br_f (by decide) ?_)
    unfold wpY_producer
    exact rl_amB (n := 3) hb (br_t rfl ⟨by trivial, hR⟩)
  refine rl_outG (n := 3) hj (by omega) (br_t rfl ?_)
  rcases rl_ix v2 (n := 4) (by omega) with hb | ⟨p, hp, rfl⟩
  · refine rl_outB (n := 4) hb (br_f (by decide) ?_)
    unfold wpY_producer
    exact rl_amG (n := 3) hj (by omega) (br_f (by decide) (rl_amB (n := 4) hb (br_t rfl ⟨by trivial, hR⟩)))
  refine rl_outG (n := 4) hp (by omega) (br_t rfl ?_)
  rcases rl_ix v3 (n := 3) (by omega) with hb | ⟨w, hw, rfl⟩
  · refine rl_outB (n := 3) hb (br_f (by decide) ?_)
    unfold wpY_producer
    exact rl_amG (n := 3) hj (by omega) (br_f (by decide) (rl_amG (n := 4) hp (by omega) (br_f (by decide) (rl_amB (n := 3) hb (br_t rfl ⟨by trivial, hR⟩)))))
  refine rl_outG (n := 3) hw (by omega) (br_t rfl ?_)
  have vj : vp_in (nI j) 3 := vp_in_nI hj (by omega)
  have cj : (nI j).toNatClampNeg = j := nI_clamp (by omega)
  obtain ⟨⟨x1, x2, x3⟩, x4, x5, x6⟩ := hX
  obtain ⟨⟨y1, y2⟩, y3, y4⟩ := hY
  obtain ⟨t1, t2, t3, t4, t5, t6⟩ := x4 j hj
  obtain ⟨z1, z2, z3⟩ := y3.2 j hj
  have hsq := (hI.1 j hj).2.2.2.2.2.2
  have e4 : (4 : Int32) * nI j + nI p = nI (4 * j + p) := by rw [rl_4, nI_add]
  have c4 : (nI (4 * j + p)).toNatClampNeg = 4 * j + p := nI_clamp (by omega)
  have hv := t5 p hp
  simp only [rl_pv, rl_pe, Prod.mk.injEq] at hv
  simp only [e4, c4]
  have : w = 0 ∨ w = 1 ∨ w = 2 := by omega
  rcases this with e | e | e <;> subst e
  · refine br_t (by decide) ⟨vp_in_nI (by omega) (by omega), ?_⟩
    unfold wpY_producer
    exact rl_amG (n := 3) hj (by omega) (br_f (by decide) (rl_amG (n := 4) hp (by omega) (br_f (by decide) (rl_amG (n := 3) hw (by omega) (br_f (by decide) (br_t (by decide) (rl_y_epoch y3 hj hp ⟨hv.1.symm, hR⟩)))))))
  · refine br_f (by decide) (br_t (by decide) (rl_x_next hp hj t5 ?_))
    unfold wpY_producer
    exact rl_amG (n := 3) hj (by omega) (br_f (by decide) (rl_amG (n := 4) hp (by omega) (br_f (by decide) (rl_amG (n := 3) hw (by omega) (br_f (by decide) (br_f (by decide) (br_t (by decide) (rl_y_nextSeq y3 hj hp hsq ⟨by trivial, hR⟩))))))))
  · refine br_f (by decide) (br_f (by decide) (rl_x_firstUndecided t1 hj t2 hp ?_))
    have hy : ∀ q : Int32 → Prop, (nI (rl_ud (I j) (O j) (G j) (top j) p) = nI (top j) → q (-11)) → (¬ nI (rl_ud (I j) (O j) (G j) (top j) p) = nI (top j) → q (nI (rl_ud (I j) (O j) (G j) (top j) p))) → wpY_producer q (g_leader, g_now, b_by, b_kind, b_seq, b_key, b_val, b_era, b_tomb, b_gone, b_top, b_mark, b_cleaned, b_fetched, b_works, b_member, b_shown) (nI j) (nI p) (nI 2) := fun q h1 h2 => by
      unfold wpY_producer
      refine rl_amG (n := 3) hj (by omega) (br_f (by decide) (rl_amG (n := 4) hp (by omega) (br_f (by decide) (rl_amG (n := 3) hw (by omega) (br_f (by decide) (br_f (by decide) (br_f (by decide) (rl_y_undecided y3 hj hp ⟨vj, ?_⟩))))))))
      rw [cj, z2]; exact ⟨h1, h2⟩
    have hu := (rl_fs_sp (rl_up (I j) (O j) (G j) (top j) p) (top j)).1
    have hu2 : rl_ud (I j) (O j) (G j) (top j) p ≤ top j := hu
    by_cases z : rl_ud (I j) (O j) (G j) (top j) p < top j
    · have e : rl_uv (top j) (rl_ud (I j) (O j) (G j) (top j) p) = nI (rl_ud (I j) (O j) (G j) (top j) p) := if_pos z
      rw [e]
      refine br_t (nI_pos' (by omega)) (hy _ (fun y => ?_) (fun _ => ⟨rfl, hR⟩))
      have := (nI_eq (by omega) (by omega)).mp y
      omega
    · have e : rl_uv (top j) (rl_ud (I j) (O j) (G j) (top j) p) = -1 := if_neg z
      rw [e]
      refine br_f (by decide) (hy _ (fun _ => ⟨rfl, hR⟩) (fun y => absurd (congrArg nI (show rl_ud (I j) (O j) (G j) (top j) p = top j by omega)) y))
section
variable {g_leader g_now : Int32} {b_by b_kind b_seq b_key b_val b_era b_tomb b_gone b_top b_mark b_cleaned b_fetched b_works b_member b_shown : Nat → Int32} {I : Nat → Nat → rl_ID} {O G : Nat → Nat → Prop} {top : Nat → Nat} {now : Nat}
theorem rl_y_en28a (h : rl_YL b_by b_kind b_seq b_key b_val b_era b_tomb b_gone b_top I O G top now) {r w i : Nat} (hr : r < 3) (hi : rl_rk (G r) (top r) ≤ i) (hi2 : i < 2 ^ 31) {post : Int32 → Prop} (hq : post (-1)) :
    ∀ n o, o ≤ top r → top r - o < n → wY_entry_28 post (nI r) (nI w) g_leader g_now b_by b_kind b_seq b_key b_val b_era b_tomb b_gone b_top b_mark b_cleaned b_fetched b_works b_member b_shown n (nI (i - rl_rk (G r) o)) (nI o) := by
  obtain ⟨t1, t2, t3, t4⟩ := rl_yt h hr
  intro n
  induction n with
  | zero => intro o h1 h2; omega
  | succ n ih =>
    intro o ho hn
    refine ⟨t1, pk_le (top r) o (fun z => hq) (fun z => nm_r (e' := nI (620 * r + o)) (by rw [rl_620, nI_add]) ?_) t3⟩
    obtain ⟨v0, -, -, -, -, -, -, -, vG⟩ := rl_yr h hr z
    have ih1 := ih (o + 1) (by omega) (by omega)
    refine ⟨v0, rl_br vG (fun hg => ?_) (fun hg => nm_r (nI_1 _) ?_)⟩
    · have hlt := rl_rk_lt z hg
      rw [rl_rk_f hg] at ih1
      refine br_f ?_ (nm_r (e' := nI (i - (rl_rk (G r) o + 1))) ?_ (nm_r (nI_1 _) ih1))
      · exact fun y => by have := (nI_eq (a := i - rl_rk (G r) o) (b := 0) (by omega) (by omega)).mp y; omega
      · rw [rl_m1 (by omega)]; exact congrArg nI (by omega)
    · rw [rl_rk_t hg] at ih1; exact ih1
noncomputable def rl_ev (I : Nat → rl_ID) (O : Nat → Prop) (o w : Nat) : Int32 := if w = 0 then nI o else if w = 1 then nI (rl_kd (rl_C (I o)) (O o)) else if w = 2 then nI (rl_B (I o)) else nI (rl_E (I o))
theorem rl_y_en28b (h : rl_YL b_by b_kind b_seq b_key b_val b_era b_tomb b_gone b_top I O G top now) {r w o0 : Nat} (hr : r < 3) (hw : w < 4) (ho0 : o0 < top r) (hg0 : ¬ G r o0) {post : Int32 → Prop} (hq : post (rl_ev (I r) (O r) o0 w)) :
    ∀ n o, o ≤ o0 → o0 - o < n → wY_entry_28 post (nI r) (nI w) g_leader g_now b_by b_kind b_seq b_key b_val b_era b_tomb b_gone b_top b_mark b_cleaned b_fetched b_works b_member b_shown n (nI (rl_rk (G r) o0 - rl_rk (G r) o)) (nI o) := by
  obtain ⟨t1, t2, t3, t4⟩ := rl_yt h hr
  have hk := rl_rk_le (G r) o0
  intro n
  induction n with
  | zero => intro o h1 h2; omega
  | succ n ih =>
    intro o ho hn
    refine ⟨t1, pk_le (top r) o (fun z => by omega) (fun z => nm_r (e' := nI (620 * r + o)) (by rw [rl_620, nI_add]) ?_) t3⟩
    obtain ⟨v0, vB, vK, -, -, -, vE, -, vG⟩ := rl_yr h hr z
    rcases Nat.lt_or_ge o o0 with y | y
    · have ih1 := ih (o + 1) (by omega) (by omega)
      refine ⟨v0, rl_br vG (fun hg => ?_) (fun hg => nm_r (nI_1 _) ?_)⟩
      · have hlt := rl_rk_lt y hg
        rw [rl_rk_f hg] at ih1
        refine br_f ?_ (nm_r (e' := nI (rl_rk (G r) o0 - (rl_rk (G r) o + 1))) ?_ (nm_r (nI_1 _) ih1))
        · exact fun y => by have := (nI_eq (a := rl_rk (G r) o0 - rl_rk (G r) o) (b := 0) (by omega) (by omega)).mp y; omega
        · rw [rl_m1 (by omega)]; exact congrArg nI (by omega)
      · rw [rl_rk_t hg] at ih1; exact ih1
    · have e : o = o0 := by omega
      subst e
      refine ⟨v0, rl_br vG (fun hg => ?_) (fun hg => absurd hg hg0)⟩
      refine br_t (by rw [Nat.sub_self]; rfl) ?_
      have : w = 0 ∨ w = 1 ∨ w = 2 ∨ w = 3 := by omega
      rcases this with e | e | e | e <;> subst e
      · exact br_t rfl hq
      · exact br_f (by decide) (br_t rfl ⟨v0, by rw [vK]; exact hq⟩)
      · exact br_f (by decide) (br_f (by decide) (br_t rfl ⟨v0, by rw [vB]; exact hq⟩))
      · exact br_f (by decide) (br_f (by decide) (br_f (by decide) ⟨v0, by rw [vE]; exact hq⟩))
end
theorem i_vc_entry {k : Nat} {u : SX} {v : SY} (I : i_Rel k u v) (hk : k + 7 ≤ 3584) (v1 : Int32) (v2 : Int32) (v3 : Int32) : wpX_entry (fun r => wpY_entry (fun r' => r' = r ∧ i_Rel (k + 7) u v) v v1 v2 v3) u v1 v2 v3 := by
  refine rl_el (P := fun u v => wpX_entry (fun r => wpY_entry (fun r' => r' = r ∧ i_Rel (k + 7) u v) v v1 v2 v3) u v1 v2 v3) ?_ I
  clear I u v
  intro f_leader f_inside f_now f_foundKey f_foundValue f_foundTomb f_foundWho f_foundSequence f_foundEra a_offset a_kind a_who a_key a_value a_tomb a_sequence a_era a_state a_decidedAt a_dead a_count a_end a_mark a_cleaned a_gone a_eraAt a_eraOf a_eras a_epoch a_latest a_last a_places a_baseEpoch a_baseLatest a_baseLast a_basePlaces a_base a_fetched g_leader g_now b_by b_kind b_seq b_key b_val b_era b_tomb b_gone b_top b_mark b_cleaned b_fetched b_works b_member b_shown I O G top mark cle fet bas mem wor L now h
  have hR := rl_fold7 h
  obtain ⟨hn, hI, hX, hY, hS⟩ := h
  unfold wpX_entry
  rcases rl_ix v1 (n := 3) (by omega) with hb | ⟨j, hj, rfl⟩
  · refine rl_outB (n := 3) hb (br_f (by decide) ?_)
    unfold wpY_entry
    exact rl_amB (n := 3) hb (br_t rfl ⟨by trivial, hR⟩)
  have vj : vp_in (nI j) 3 := vp_in_nI hj (by omega)
  have cj : (nI j).toNatClampNeg = j := nI_clamp (by omega)
  obtain ⟨⟨x1, x2, x3⟩, x4, x5, x6⟩ := hX
  obtain ⟨⟨y1, y2⟩, y3, y4⟩ := hY
  obtain ⟨t1, t2, t3, t4, t5, t6⟩ := x4 j hj
  obtain ⟨z1, z2, z3⟩ := y3.2 j hj
  refine rl_outG (n := 3) hj (by omega) (br_t rfl ⟨vj, ?_⟩)
  rw [cj, t2]
  have hrk := t1.2.2.1
  rcases rl_ix v2 (n := rl_rk (G j) (top j)) (by omega) with hb | ⟨i, hi, rfl⟩
  · refine rl_outB hb (br_f (by decide) ?_)
    unfold wpY_entry
    refine rl_amG (n := 3) hj (by omega) (br_f (by decide) ?_)
    by_cases hneg : v2 < 0
    · exact br_t hneg ⟨by trivial, hR⟩
    · refine br_f hneg ?_
      rcases rl_ix v3 (n := 4) (by omega) with hb3 | ⟨w, hw, rfl⟩
      · exact rl_amB (n := 4) hb3 (br_t rfl ⟨by trivial, hR⟩)
      · obtain ⟨i, hi, rfl⟩ := nI_of hneg
        have hle : rl_rk (G j) (top j) ≤ i := by
          rcases hb with hb | hb
          · exact absurd hb hneg
          · exact (nI_leI (by omega) hi).mp hb
        refine rl_amG (n := 4) hw (by omega) (br_f (by decide) ⟨top j + 1, ?_⟩)
        exact rl_y_en28a y3 hj hle hi ⟨by trivial, hR⟩ (top j + 1) 0 (by omega) (by omega)
  · refine rl_outG hi (by omega) (br_t rfl ?_)
    rcases rl_ix v3 (n := 4) (by omega) with hb3 | ⟨w, hw, rfl⟩
    · refine rl_outB (n := 4) hb3 (br_f (by decide) ?_)
      unfold wpY_entry
      exact rl_amG (n := 3) hj (by omega) (br_f (by decide) (br_f (nI_pos (by omega)) (rl_amB (n := 4) hb3 (br_t rfl ⟨by trivial, hR⟩))))
    · obtain ⟨o, ho, hg, rfl⟩ := rl_rk_ex hi
      have hy : ∀ q : Int32 → Prop, q (rl_ev (I j) (O j) o w) → wpY_entry q (g_leader, g_now, b_by, b_kind, b_seq, b_key, b_val, b_era, b_tomb, b_gone, b_top, b_mark, b_cleaned, b_fetched, b_works, b_member, b_shown) (nI j) (nI (rl_rk (G j) o)) (nI w) := fun q hq => by
        unfold wpY_entry
        exact rl_amG (n := 3) hj (by omega) (br_f (by decide) (br_f (nI_pos (by omega)) (rl_amG (n := 4) hw (by omega) (br_f (by decide) ⟨o + 1, rl_y_en28b y3 hj hw ho hg hq (o + 1) 0 (by omega) (by omega)⟩))))
      obtain ⟨v0, vO, vK, vW, -, -, -, -, vE, vS, -⟩ := rl_xr t1 hj ho hg
      obtain ⟨w1, w2, -⟩ := rl_xw t1 ho
      refine rl_outG (n := 4) hw (by omega) (br_t rfl (nm_r (e' := nI (40 * j + rl_rk (G j) o)) (by rw [rl_40, nI_add]) ?_))
      have : w = 0 ∨ w = 1 ∨ w = 2 ∨ w = 3 := by omega
      rcases this with e | e | e | e <;> subst e
      · exact br_f (by decide) (br_f (by decide) (br_t (by decide) ⟨v0, hy _ ⟨vO.symm, hR⟩⟩))
      · have hst := rl_st_sp (I j) (O j) (top j) o
        have hkd := rl_kd_lt (P := O j o) w2
        refine br_f (by decide) (br_f (by decide) (br_f (by decide) (br_t (by decide) ⟨v0, pk_eq (rl_C (I j o) - 1) 0 (fun hc => ⟨v0, pk_eq (rl_st (I j) (O j) (top j) o) 0 (fun hs => hy _ ⟨?_, hR⟩) (fun hs => hy _ ⟨?_, hR⟩) vS rfl (by have := rl_st_le (I j) (O j) (top j) o; omega)⟩) (fun hc => ⟨v0, hy _ ⟨?_, hR⟩⟩) vK rfl (by omega)⟩)))
        · have hc0 : rl_C (I j o) = 0 := by omega
          have hno : ¬ O j o := fun y => (hst.1.mp hs) ⟨hc0, y⟩
          show nI (rl_kd (rl_C (I j o)) (O j o)) = 0
          rw [hc0, rl_kd0 hno]; rfl
        · have hc0 : rl_C (I j o) = 0 := by omega
          have hyes : O j o := Classical.byContradiction fun y => hs (hst.1.mpr (fun z => y z.2))
          show nI (rl_kd (rl_C (I j o)) (O j o)) = 1
          rw [hc0, rl_kd1 hyes]; rfl
        · show nI (rl_kd (rl_C (I j o)) (O j o)) = a_kind (nI (40 * j + rl_rk (G j) o)).toNatClampNeg + 1
          rw [rl_kdc (by omega), vK, nI_1]; exact congrArg nI (by omega)
      · exact br_f (by decide) (br_f (by decide) (br_f (by decide) (br_f (by decide) (br_t (by decide) ⟨v0, hy _ ⟨vW.symm, hR⟩⟩))))
      · exact br_f (by decide) (br_t (by decide) ⟨v0, hy _ ⟨vE.symm, hR⟩⟩)
end
section
def rl_shw (x : rl_ID) (c_shown : Nat → Int32) : Prop := c_shown 0 = nI (rl_K x) ∧ c_shown 1 = rl_V x ∧ c_shown 2 = nI (rl_T x) ∧ c_shown 3 = nI (rl_B x) ∧ c_shown 4 = rl_S x ∧ c_shown 5 = nI (rl_E x)
def rl_rp (I : Nat → rl_ID) (O G : Nat → Prop) (t a : Nat) (s : Int32) (o : Nat) : Prop := a ≤ o ∧ ¬ G o ∧ rl_C (I o) = 0 ∧ ¬ (s ≠ 0 ∧ rl_ab I O t o)
def rl_gp (I : Nat → rl_ID) (O G : Nat → Prop) (t k o : Nat) : Prop := ¬ G o ∧ rl_C (I o) = 0 ∧ rl_K (I o) = k ∧ ¬ rl_ab I O t o
theorem rl_last (P : Nat → Prop) : ∀ n, (∃ o, o < n ∧ P o ∧ ∀ j, o < j → j < n → ¬ P j) ∨ ∀ j, j < n → ¬ P j
  | 0 => Or.inr (fun j hj => absurd hj (Nat.not_lt_zero _))
  | n + 1 => by
    rcases Classical.em (P n) with h | h
    · exact Or.inl ⟨n, by omega, h, fun j h1 h2 => by omega⟩
    · rcases rl_last P n with ⟨o, h1, h2, h3⟩ | h1
      · refine Or.inl ⟨o, by omega, h2, fun j h4 h5 => ?_⟩
        rcases Nat.lt_or_ge j n with y | y
        · exact h3 j h4 y
        · have e : j = n := by omega
          rw [e]; exact h
      · refine Or.inr (fun j h5 => ?_)
        rcases Nat.lt_or_ge j n with y | y
        · exact h1 j y
        · have e : j = n := by omega
          rw [e]; exact h
section
variable {f_leader f_inside f_now f_foundKey f_foundValue f_foundTomb f_foundWho f_foundSequence f_foundEra : Int32} {a_offset a_kind a_who a_key a_value a_tomb a_sequence a_era a_state a_decidedAt a_dead a_count a_end a_mark a_cleaned a_gone a_eraAt a_eraOf a_eras a_epoch a_latest a_last a_places a_baseEpoch a_baseLatest a_baseLast a_basePlaces a_base a_fetched : Nat → Int32} {I : Nat → rl_ID} {O G : Nat → Prop} {L t now : Nat}
theorem rl_x_find (h : rl_TB a_offset a_kind a_who a_key a_value a_tomb a_sequence a_era a_state a_decidedAt L t I O G now) (hL : L < 3) {o : Nat} (ho : o < t) (hg : ¬ G o) {post : Int32 → SX → Prop}
    (k : post (nI o) (f_leader, f_inside, f_now, nI (rl_K (I o)), rl_V (I o), nI (rl_T (I o)), nI (rl_B (I o)), rl_S (I o), nI (rl_E (I o)), a_offset, a_kind, a_who, a_key, a_value, a_tomb, a_sequence, a_era, a_state, a_decidedAt, a_dead, a_count, a_end, a_mark, a_cleaned, a_gone, a_eraAt, a_eraOf, a_eras, a_epoch, a_latest, a_last, a_places, a_baseEpoch, a_baseLatest, a_baseLast, a_basePlaces, a_base, a_fetched)) :
    wpX_find post (f_leader, f_inside, f_now, f_foundKey, f_foundValue, f_foundTomb, f_foundWho, f_foundSequence, f_foundEra, a_offset, a_kind, a_who, a_key, a_value, a_tomb, a_sequence, a_era, a_state, a_decidedAt, a_dead, a_count, a_end, a_mark, a_cleaned, a_gone, a_eraAt, a_eraOf, a_eras, a_epoch, a_latest, a_last, a_places, a_baseEpoch, a_baseLatest, a_baseLast, a_basePlaces, a_base, a_fetched) (nI (40 * L + rl_rk G o)) := by
  obtain ⟨v0, vO, vK, vW, vY, vV, vT, vQ, vE, vS, -⟩ := rl_xr h hL ho hg
  obtain ⟨w1, w2, w3, w4, w5⟩ := rl_xw h ho
  unfold wpX_find
  have fin : ∀ z : Int32, z = nI (rl_T (I o)) → wX_find_35 post (nI (40 * L + rl_rk G o)) z f_leader f_inside f_now (nI (rl_K (I o))) (rl_V (I o)) f_foundTomb f_foundWho f_foundSequence f_foundEra a_offset a_kind a_who a_key a_value a_tomb a_sequence a_era a_state a_decidedAt a_dead a_count a_end a_mark a_cleaned a_gone a_eraAt a_eraOf a_eras a_epoch a_latest a_last a_places a_baseEpoch a_baseLatest a_baseLast a_basePlaces a_base a_fetched := fun z hz => by
    subst hz
    unfold wX_find_35
    refine ⟨v0, nm_r vW ⟨v0, nm_r vQ ⟨v0, nm_r vE ⟨v0, ?_⟩⟩⟩⟩
    rw [vO]; exact k
  refine ⟨v0, nm_r vY ⟨v0, nm_r vV ⟨v0, pk_eq (rl_T (I o)) 0 (fun z => fin 0 (by rw [z]; rfl)) (fun z => fin 1 (by rw [show rl_T (I o) = 1 by omega]; rfl)) vT⟩⟩⟩
theorem rl_x_rd104 (h : rl_TB a_offset a_kind a_who a_key a_value a_tomb a_sequence a_era a_state a_decidedAt L t I O G now) (hL : L < 3) {a lim : Nat} (hlim : lim ≤ t) {s : Int32} {post : Int32 → SX → Prop}
    (k1 : ∀ o, o < t → rl_fs (rl_rp I O G t a s) lim = o → o < lim → ¬ G o → post (nI o) (f_leader, f_inside, f_now, nI (rl_K (I o)), rl_V (I o), nI (rl_T (I o)), nI (rl_B (I o)), rl_S (I o), nI (rl_E (I o)), a_offset, a_kind, a_who, a_key, a_value, a_tomb, a_sequence, a_era, a_state, a_decidedAt, a_dead, a_count, a_end, a_mark, a_cleaned, a_gone, a_eraAt, a_eraOf, a_eras, a_epoch, a_latest, a_last, a_places, a_baseEpoch, a_baseLatest, a_baseLast, a_basePlaces, a_base, a_fetched))
    (k0 : ¬ rl_fs (rl_rp I O G t a s) lim < lim → post (-11) (f_leader, f_inside, f_now, f_foundKey, f_foundValue, f_foundTomb, f_foundWho, f_foundSequence, f_foundEra, a_offset, a_kind, a_who, a_key, a_value, a_tomb, a_sequence, a_era, a_state, a_decidedAt, a_dead, a_count, a_end, a_mark, a_cleaned, a_gone, a_eraAt, a_eraOf, a_eras, a_epoch, a_latest, a_last, a_places, a_baseEpoch, a_baseLatest, a_baseLast, a_basePlaces, a_base, a_fetched)) :
    ∀ d o n, o + d = t → rl_rk G t - rl_rk G o < n → (∀ j, j < o → j < lim → ¬ rl_rp I O G t a s j) → a ≤ o ∨ o = t → wX_read_104 post s (nI (40 * L + rl_rk G t)) (nI lim) f_leader f_inside f_now f_foundKey f_foundValue f_foundTomb f_foundWho f_foundSequence f_foundEra a_offset a_kind a_who a_key a_value a_tomb a_sequence a_era a_state a_decidedAt a_dead a_count a_end a_mark a_cleaned a_gone a_eraAt a_eraOf a_eras a_epoch a_latest a_last a_places a_baseEpoch a_baseLatest a_baseLast a_basePlaces a_base a_fetched n (nI (40 * L + rl_rk G o)) := by
  have hrk := h.2.2.1
  have ht := h.2.1
  intro d
  induction d with
  | zero =>
    intro o n ho hn hj ha
    obtain ⟨m, rfl⟩ : ∃ m, n = m + 1 := ⟨n - 1, by omega⟩
    have eo : o = t := by omega
    refine br_t (by rw [eo]; exact nI_le (Nat.le_refl _) (by omega)) (k0 ?_)
    have e : rl_fs (rl_rp I O G t a s) lim = lim := rl_fs_eq (Nat.le_refl _) (fun j hjm => hj j (by omega) hjm) (fun y => absurd y (Nat.lt_irrefl _))
    omega
  | succ d ih =>
    intro o n ho hn hj ha
    have hot : o < t := by omega
    have hao : a ≤ o := by omega
    have nx : ¬ rl_rp I O G t a s o → ∀ j, j < o + 1 → j < lim → ¬ rl_rp I O G t a s j := fun hno j hjd hjm => by
      rcases Nat.lt_or_ge j o with y | y
      · exact hj j y hjm
      · have e : j = o := by omega
        rw [e]; exact hno
    rcases Classical.em (G o) with hg | hg
    · have e := rl_rk_t hg
      rw [← e] at hn ⊢
      exact ih (o + 1) n (by omega) hn (nx (fun y => y.2.1 hg)) (Or.inl (by omega))
    · obtain ⟨m, rfl⟩ : ∃ m, n = m + 1 := ⟨n - 1, by omega⟩
      have e := rl_rk_f hg
      have hlt := rl_rk_lt hot hg
      obtain ⟨v0, vO, vK, vW, -, -, -, -, -, vS, vD⟩ := rl_xr h hL hot hg
      obtain ⟨w1, w2, -⟩ := rl_xw h hot
      have hs3 := rl_st_le I O t o
      have go : ¬ rl_rp I O G t a s o → wX_read_104 post s (nI (40 * L + rl_rk G t)) (nI lim) f_leader f_inside f_now f_foundKey f_foundValue f_foundTomb f_foundWho f_foundSequence f_foundEra a_offset a_kind a_who a_key a_value a_tomb a_sequence a_era a_state a_decidedAt a_dead a_count a_end a_mark a_cleaned a_gone a_eraAt a_eraOf a_eras a_epoch a_latest a_last a_places a_baseEpoch a_baseLatest a_baseLast a_basePlaces a_base a_fetched m (nI (40 * L + rl_rk G o + 1)) := fun hno => by
        have := ih (o + 1) m (by omega) (by omega) (nx hno) (Or.inl (by omega))
        rw [e] at this; exact this
      have yes : o < lim → rl_rp I O G t a s o → wX_read_148 post (nI (40 * L + rl_rk G o)) f_leader f_inside f_now f_foundKey f_foundValue f_foundTomb f_foundWho f_foundSequence f_foundEra a_offset a_kind a_who a_key a_value a_tomb a_sequence a_era a_state a_decidedAt a_dead a_count a_end a_mark a_cleaned a_gone a_eraAt a_eraOf a_eras a_epoch a_latest a_last a_places a_baseEpoch a_baseLatest a_baseLast a_basePlaces a_base a_fetched := fun hol y => by
        have e : rl_fs (rl_rp I O G t a s) lim = o := rl_fs_eq (by omega) (fun j hjo => hj j hjo (by omega)) (fun _ => y)
        unfold wX_read_148
        exact rl_x_find h hL hot hg (k1 o hot e hol hg)
      refine pk_le (40 * L + rl_rk G t) (40 * L + rl_rk G o) (fun z => by omega) (fun z => ⟨v0, pk_le lim o (fun z1 => k0 ?_) (fun z1 => ⟨v0, pk_eq (rl_C (I o) - 1) 0 (fun hc => ⟨fun hs => yes z1 ?_, fun hs => ⟨v0, pk_eq (rl_st I O t o) 3 (fun s3 => nm_r (nI_1 _) (go (fun y => y.2.2.2 ⟨hs, (rl_ab_st I O t o).mp s3⟩))) (fun s3 => yes z1 ?_) vS⟩⟩) (fun hc => nm_r (nI_1 _) (go (fun y => hc (by rw [y.2.2.1])))) vK rfl (by omega)⟩) rfl vO⟩)
      · have e : rl_fs (rl_rp I O G t a s) lim = lim := rl_fs_eq (Nat.le_refl _) (fun j hjm => hj j (by omega) hjm) (fun y => absurd y (Nat.lt_irrefl _))
        omega
      · exact ⟨hao, hg, by omega, fun y => y.1 hs⟩
      · exact ⟨hao, hg, by omega, fun y => s3 ((rl_ab_st I O t o).mpr y.2)⟩
theorem rl_x_rd35 (h : rl_TB a_offset a_kind a_who a_key a_value a_tomb a_sequence a_era a_state a_decidedAt L t I O G now) (hL : L < 3) (hl : f_leader = nI L) (hc : a_count L = nI (rl_rk G t)) {m a lim : Nat} (hm : m ≤ t) (em : a_mark L = nI m) {s x : Int32} (hx : ∀ j, j ≤ 600 → (x ≤ nI j ↔ a ≤ j))
    (hlim : (s = 0 → lim = m) ∧ (¬ s = 0 → lim = rl_sb I O G t m)) (hlt : lim ≤ t) {post : Int32 → SX → Prop}
    (k1 : ∀ o, o < t → rl_fs (rl_rp I O G t a s) lim = o → o < lim → ¬ G o → post (nI o) (f_leader, f_inside, f_now, nI (rl_K (I o)), rl_V (I o), nI (rl_T (I o)), nI (rl_B (I o)), rl_S (I o), nI (rl_E (I o)), a_offset, a_kind, a_who, a_key, a_value, a_tomb, a_sequence, a_era, a_state, a_decidedAt, a_dead, a_count, a_end, a_mark, a_cleaned, a_gone, a_eraAt, a_eraOf, a_eras, a_epoch, a_latest, a_last, a_places, a_baseEpoch, a_baseLatest, a_baseLast, a_basePlaces, a_base, a_fetched))
    (k0 : ¬ rl_fs (rl_rp I O G t a s) lim < lim → post (-11) (f_leader, f_inside, f_now, f_foundKey, f_foundValue, f_foundTomb, f_foundWho, f_foundSequence, f_foundEra, a_offset, a_kind, a_who, a_key, a_value, a_tomb, a_sequence, a_era, a_state, a_decidedAt, a_dead, a_count, a_end, a_mark, a_cleaned, a_gone, a_eraAt, a_eraOf, a_eras, a_epoch, a_latest, a_last, a_places, a_baseEpoch, a_baseLatest, a_baseLast, a_basePlaces, a_base, a_fetched)) :
    ∀ n lo hi, lo ≤ hi → hi ≤ rl_rk G t → hi - lo < n → (∀ j, j < t → ¬ G j → rl_rk G j < lo → j < a) → (∀ j, j < t → ¬ G j → hi ≤ rl_rk G j → a ≤ j) →
      wX_read_35 post x s (nI (40 * L + rl_rk G t)) f_leader f_inside f_now f_foundKey f_foundValue f_foundTomb f_foundWho f_foundSequence f_foundEra a_offset a_kind a_who a_key a_value a_tomb a_sequence a_era a_state a_decidedAt a_dead a_count a_end a_mark a_cleaned a_gone a_eraAt a_eraOf a_eras a_epoch a_latest a_last a_places a_baseEpoch a_baseLatest a_baseLast a_basePlaces a_base a_fetched n (nI (40 * L + lo)) (nI (40 * L + hi)) := by
  have hrk := h.2.2.1
  have ht := h.2.1
  have vL : vp_in (nI L) 3 := vp_in_nI hL (by omega)
  have cL : (nI L).toNatClampNeg = L := nI_clamp (by omega)
  subst hl
  intro n
  induction n with
  | zero => intro lo hi h1 h2 h3; omega
  | succ n ih =>
    intro lo hi hlh hhr hn hA hB
    refine pk_le (40 * L + hi) (40 * L + lo) (fun z => ?_) (fun z => ?_)
    · have e : lo = hi := by omega
      subst e
      -- the place is the rank of min a t
      have hat : lo = rl_rk G (min a t) := by
        rcases Nat.lt_trichotomy lo (rl_rk G (min a t)) with y | y | y
        · obtain ⟨j, j1, j2, j3⟩ := rl_rk_ex y
          have := hB j (by omega) j2 (by omega); omega
        · exact y
        · obtain ⟨j, j1, j2, j3⟩ := rl_rk_ex (G := G) (i := rl_rk G (min a t)) (n := t) (by omega)
          have j4 := hA j j1 j2 (by omega)
          have := rl_rk_lt (G := G) (a := j) (b := min a t) (by omega) j2
          omega
      have scan : wX_read_104 post s (nI (40 * L + rl_rk G t)) (nI lim) (nI L) f_inside f_now f_foundKey f_foundValue f_foundTomb f_foundWho f_foundSequence f_foundEra a_offset a_kind a_who a_key a_value a_tomb a_sequence a_era a_state a_decidedAt a_dead a_count a_end a_mark a_cleaned a_gone a_eraAt a_eraOf a_eras a_epoch a_latest a_last a_places a_baseEpoch a_baseLatest a_baseLast a_basePlaces a_base a_fetched (rl_rk G t + 1) (nI (40 * L + lo)) := by
        rw [hat]
        exact rl_x_rd104 h hL hlt k1 k0 (t - min a t) (min a t) (rl_rk G t + 1) (by omega) (by omega) (fun j hj hj2 y => by have := y.1; omega) (by omega)
      refine ⟨fun hs => ⟨vL, nm_r (e' := nI lim) ?_ ⟨_, scan⟩⟩, fun hs => rl_x_stable h hL hc hm em ?_⟩
      · rw [cL, em, hlim.1 hs]
      · rw [← hlim.2 hs]; exact ⟨_, scan⟩
    · have e1 : ((nI (40 * L + lo) + nI (40 * L + hi)).toUInt32 >>> ((1 : Int32).toUInt32 &&& Int32.toUInt32 31)).toInt32 = nI (40 * L + (lo + hi) / 2) := by
        rw [nI_add, pk_ushrN (by omega) 1 1 (by decide)]
        exact congrArg nI (by omega)
      have hmid : (lo + hi) / 2 < rl_rk G t := by omega
      obtain ⟨j, j1, j2, j3⟩ := rl_rk_ex hmid
      obtain ⟨v0, vO, -⟩ := rl_xr h hL j1 j2
      rw [j3] at v0 vO
      refine nm_r e1 ⟨v0, ?_⟩
      rw [vO]
      refine ⟨fun y => ?_, fun y => nm_r (nI_1 _) ?_⟩
      · have ha := (hx j (by omega)).mp y
        refine ih lo ((lo + hi) / 2) (by omega) (by omega) (by omega) hA (fun q q1 q2 q3 => ?_)
        rcases Nat.lt_or_ge q j with z2 | z2
        · have := rl_rk_lt z2 q2; omega
        · omega
      · have ha : ¬ a ≤ j := fun z2 => y ((hx j (by omega)).mpr z2)
        refine ih ((lo + hi) / 2 + 1) hi (by omega) (by omega) (by omega) (fun q q1 q2 q3 => ?_) hB
        rcases Nat.lt_or_ge j q with z2 | z2
        · have := rl_rk_lt z2 j2; omega
        · omega
theorem rl_x_read (h : rl_TB a_offset a_kind a_who a_key a_value a_tomb a_sequence a_era a_state a_decidedAt L t I O G now) (hL : L < 3) (hl : f_leader = nI L) (hc : a_count L = nI (rl_rk G t)) {m a lim : Nat} (hm : m ≤ t) (em : a_mark L = nI m) {s x : Int32} (hx : ∀ j, j ≤ 600 → (x ≤ nI j ↔ a ≤ j))
    (hlim : (s = 0 → lim = m) ∧ (¬ s = 0 → lim = rl_sb I O G t m)) (hlt : lim ≤ t) {post : Int32 → SX → Prop}
    (k1 : ∀ o, o < t → rl_fs (rl_rp I O G t a s) lim = o → o < lim → ¬ G o → post (nI o) (f_leader, f_inside, f_now, nI (rl_K (I o)), rl_V (I o), nI (rl_T (I o)), nI (rl_B (I o)), rl_S (I o), nI (rl_E (I o)), a_offset, a_kind, a_who, a_key, a_value, a_tomb, a_sequence, a_era, a_state, a_decidedAt, a_dead, a_count, a_end, a_mark, a_cleaned, a_gone, a_eraAt, a_eraOf, a_eras, a_epoch, a_latest, a_last, a_places, a_baseEpoch, a_baseLatest, a_baseLast, a_basePlaces, a_base, a_fetched))
    (k0 : ¬ rl_fs (rl_rp I O G t a s) lim < lim → post (-11) (f_leader, f_inside, f_now, f_foundKey, f_foundValue, f_foundTomb, f_foundWho, f_foundSequence, f_foundEra, a_offset, a_kind, a_who, a_key, a_value, a_tomb, a_sequence, a_era, a_state, a_decidedAt, a_dead, a_count, a_end, a_mark, a_cleaned, a_gone, a_eraAt, a_eraOf, a_eras, a_epoch, a_latest, a_last, a_places, a_baseEpoch, a_baseLatest, a_baseLast, a_basePlaces, a_base, a_fetched)) : wpX_read post (f_leader, f_inside, f_now, f_foundKey, f_foundValue, f_foundTomb, f_foundWho, f_foundSequence, f_foundEra, a_offset, a_kind, a_who, a_key, a_value, a_tomb, a_sequence, a_era, a_state, a_decidedAt, a_dead, a_count, a_end, a_mark, a_cleaned, a_gone, a_eraAt, a_eraOf, a_eras, a_epoch, a_latest, a_last, a_places, a_baseEpoch, a_baseLatest, a_baseLast, a_basePlaces, a_base, a_fetched) x s := by
  have hrk := h.2.2.1
  have ht := h.2.1
  have hl2 := hl
  subst hl
  have vL : vp_in (nI L) 3 := vp_in_nI hL (by omega)
  have cL : (nI L).toNatClampNeg = L := nI_clamp (by omega)
  unfold wpX_read
  refine br_t (nI_pos' (by omega)) (nm_r (rl_40 L) ⟨vL, nm_r (e' := nI (40 * L + rl_rk G t)) (by rw [cL, hc, nI_add]) ⟨rl_rk G t + 1, ?_⟩⟩)
  exact rl_x_rd35 h hL hl2 hc hm em hx hlim hlt k1 k0 (rl_rk G t + 1) 0 (rl_rk G t) (by omega) (by omega) (by omega) (fun j _ _ y => absurd y (Nat.not_lt_zero _)) (fun j j1 j2 j3 => by have := rl_rk_lt j1 j2; omega)
/-! get -/
theorem rl_x_gt50 (h : rl_TB a_offset a_kind a_who a_key a_value a_tomb a_sequence a_era a_state a_decidedAt L t I O G now) (hL : L < 3) (hl : f_leader = nI L) {kk lim : Nat} (hkk : kk < 8) (hlim : lim ≤ 600) {post : Int32 → SX → Prop} {o0 : Nat}
    (k1 : ∀ o, o < t → o < lim → rl_gp I O G t kk o → (∀ j, o < j → j < lim → ¬ rl_gp I O G t kk j) → (rl_T (I o) = 0 → post (nI o) (f_leader, f_inside, f_now, nI (rl_K (I o)), rl_V (I o), nI (rl_T (I o)), nI (rl_B (I o)), rl_S (I o), nI (rl_E (I o)), a_offset, a_kind, a_who, a_key, a_value, a_tomb, a_sequence, a_era, a_state, a_decidedAt, a_dead, a_count, a_end, a_mark, a_cleaned, a_gone, a_eraAt, a_eraOf, a_eras, a_epoch, a_latest, a_last, a_places, a_baseEpoch, a_baseLatest, a_baseLast, a_basePlaces, a_base, a_fetched)) ∧ (¬ rl_T (I o) = 0 → post (-11) (f_leader, f_inside, f_now, f_foundKey, f_foundValue, f_foundTomb, f_foundWho, f_foundSequence, f_foundEra, a_offset, a_kind, a_who, a_key, a_value, a_tomb, a_sequence, a_era, a_state, a_decidedAt, a_dead, a_count, a_end, a_mark, a_cleaned, a_gone, a_eraAt, a_eraOf, a_eras, a_epoch, a_latest, a_last, a_places, a_baseEpoch, a_baseLatest, a_baseLast, a_basePlaces, a_base, a_fetched)))
    (k0 : (∀ j, j < t → j < lim → ¬ rl_gp I O G t kk j) → post (-11) (f_leader, f_inside, f_now, f_foundKey, f_foundValue, f_foundTomb, f_foundWho, f_foundSequence, f_foundEra, a_offset, a_kind, a_who, a_key, a_value, a_tomb, a_sequence, a_era, a_state, a_decidedAt, a_dead, a_count, a_end, a_mark, a_cleaned, a_gone, a_eraAt, a_eraOf, a_eras, a_epoch, a_latest, a_last, a_places, a_baseEpoch, a_baseLatest, a_baseLast, a_basePlaces, a_base, a_fetched)) :
    ∀ o n, o ≤ t → rl_rk G o < n → (∀ j, o ≤ j → j < t → j < lim → ¬ rl_gp I O G t kk j) → (∀ j, t ≤ j → j < lim → False) → wX_get_50 post (nI kk) (nI lim) f_leader f_inside f_now f_foundKey f_foundValue f_foundTomb f_foundWho f_foundSequence f_foundEra a_offset a_kind a_who a_key a_value a_tomb a_sequence a_era a_state a_decidedAt a_dead a_count a_end a_mark a_cleaned a_gone a_eraAt a_eraOf a_eras a_epoch a_latest a_last a_places a_baseEpoch a_baseLatest a_baseLast a_basePlaces a_base a_fetched n (nI (40 * L + rl_rk G o) - 1) := by
  have hrk := h.2.2.1
  have ht := h.2.1
  subst hl
  intro o
  induction o with
  | zero =>
    intro n _ hn hj hlt
    obtain ⟨m, rfl⟩ : ∃ m, n = m + 1 := ⟨n - 1, by omega⟩
    refine br_t ?_ (k0 (fun j h1 h2 => hj j (by omega) h1 h2))
    rw [rl_40]; exact rl_p1 (n := 40 * L) (by omega)
  | succ o ih =>
    intro n ho hn hj hlt
    have hot : o < t := by omega
    have nx : ¬ (o < lim ∧ rl_gp I O G t kk o) → ∀ j, o ≤ j → j < t → j < lim → ¬ rl_gp I O G t kk j := fun hno j h1 h2 h3 => by
      rcases Nat.lt_or_ge o j with y | y
      · exact hj j (by omega) h2 h3
      · have e : j = o := by omega
        rw [e] at h3 ⊢; exact fun z => hno ⟨h3, z⟩
    rcases Classical.em (G o) with hg | hg
    · have e := rl_rk_t hg
      rw [e] at hn ⊢
      exact ih n (by omega) hn (nx (fun y => y.2.1 hg)) hlt
    · obtain ⟨m, rfl⟩ : ∃ m, n = m + 1 := ⟨n - 1, by omega⟩
      have e := rl_rk_f hg
      have hltk := rl_rk_lt hot hg
      obtain ⟨v0, vO, vK, vW, vY, -, vT, -, -, vS, vD⟩ := rl_xr h hL hot hg
      obtain ⟨w1, w2, w3, w4, -⟩ := rl_xw h hot
      have hs3 := rl_st_le I O t o
      have e1 : nI (40 * L + rl_rk G (o + 1)) - 1 = nI (40 * L + rl_rk G o) := by rw [e, rl_s1 (by omega)]; exact congrArg nI (by omega)
      have e2 : nI (40 * L + rl_rk G o) + (-1) = nI (40 * L + rl_rk G o) - 1 := (Int32.sub_eq_add_neg _ _).symm
      have go : ¬ (o < lim ∧ rl_gp I O G t kk o) → wX_get_50 post (nI kk) (nI lim) (nI L) f_inside f_now f_foundKey f_foundValue f_foundTomb f_foundWho f_foundSequence f_foundEra a_offset a_kind a_who a_key a_value a_tomb a_sequence a_era a_state a_decidedAt a_dead a_count a_end a_mark a_cleaned a_gone a_eraAt a_eraOf a_eras a_epoch a_latest a_last a_places a_baseEpoch a_baseLatest a_baseLast a_basePlaces a_base a_fetched m (nI (40 * L + rl_rk G o) - 1) := fun hno =>
        ih m (by omega) (by omega) (nx hno) hlt
      rw [e1]
      refine br_f (by rw [rl_40]; exact nI_nlt (by omega) (by omega)) ⟨v0, pk_le lim o (fun z => nm_r e2 (go (fun y => by omega))) (fun z => ⟨v0, pk_eq (rl_C (I o) - 1) 0 (fun hc => ⟨v0, pk_eq (rl_K (I o)) kk (fun hk => ⟨v0, pk_eq (rl_st I O t o) 3 (fun s3 => nm_r e2 (go (fun y => y.2.2.2.2 ((rl_ab_st I O t o).mp s3)))) (fun s3 => ?_) vS⟩) (fun hk => nm_r e2 (go (fun y => hk y.2.2.2.1))) vY⟩) (fun hc => nm_r e2 (go (fun y => hc (by rw [y.2.2.1])))) vK rfl (by omega)⟩) rfl vO⟩
      have hP : rl_gp I O G t kk o := ⟨hg, by omega, hk, fun y => s3 ((rl_ab_st I O t o).mpr y)⟩
      have hk1 := k1 o hot z hP (fun j h1 h2 => by
        rcases Nat.lt_or_ge j t with y | y
        · exact hj j (by omega) y h2
        · exact (hlt j y h2).elim)
      exact ⟨v0, pk_eq (rl_T (I o)) 0 (fun z2 => rl_x_find h hL hot hg (hk1.1 z2)) (fun z2 => hk1.2 z2) vT⟩
end
section
variable {g_leader g_now : Int32} {b_by b_kind b_seq b_key b_val b_era b_tomb b_gone b_top b_mark b_cleaned b_fetched b_works b_member b_shown : Nat → Int32} {I : Nat → Nat → rl_ID} {O G : Nat → Nat → Prop} {top mark : Nat → Nat} {now L : Nat}
theorem rl_y_show (h : rl_YL b_by b_kind b_seq b_key b_val b_era b_tomb b_gone b_top I O G top now) {r o : Nat} (hr : r < 3) (ho : o < top r) {post : SY → Prop}
    (k : ∀ c_shown : Nat → Int32, rl_shw (I r o) c_shown → post (g_leader, g_now, b_by, b_kind, b_seq, b_key, b_val, b_era, b_tomb, b_gone, b_top, b_mark, b_cleaned, b_fetched, b_works, b_member, c_shown)) : wpY_show post (g_leader, g_now, b_by, b_kind, b_seq, b_key, b_val, b_era, b_tomb, b_gone, b_top, b_mark, b_cleaned, b_fetched, b_works, b_member, b_shown) (nI (620 * r + o)) := by
  obtain ⟨v0, vB, vK, vS, vY, vV, vE, vT, vG⟩ := rl_yr h hr ho
  obtain ⟨w1, w2, w3, w4, w5⟩ := rl_yw h hr ho
  unfold wpY_show
  have v2 : vp_in 2 6 := vp_in_nI (n := 2) (by omega) (by omega)
  have fin : ∀ z : Int32, z = nI (rl_T (I r o)) → wY_show_43 post (nI (620 * r + o)) z 2 g_leader g_now b_by b_kind b_seq b_key b_val b_era b_tomb b_gone b_top b_mark b_cleaned b_fetched b_works b_member (upd (upd b_shown 0 (nI (rl_K (I r o)))) 1 (rl_V (I r o))) := fun z hz => by
    subst hz
    unfold wY_show_43
    rw [vB, vS, vE]
    exact ⟨v2, nm_e ⟨v0, nm_e ⟨v0, nm_e ⟨v0, nm_e (k _ ⟨rfl, rfl, rfl, rfl, rfl, rfl⟩)⟩⟩⟩⟩
  dsimp only
  rw [vY, vV]
  exact ⟨v0, nm_e ⟨v0, nm_e ⟨v0, pk_eq (rl_T (I r o)) 0 (fun z => fin 0 (by rw [z]; rfl)) (fun z => fin 1 (by rw [show rl_T (I r o) = 1 by omega]; rfl)) vT⟩⟩⟩
theorem rl_y_rd46 (h : rl_YL b_by b_kind b_seq b_key b_val b_era b_tomb b_gone b_top I O G top now) (hL : L < 3) (hl : g_leader = nI L) {a lim : Nat} (hlt : lim ≤ top L) (ha : a < 2 ^ 31) {s : Int32} {post : Int32 → SY → Prop}
    (k1 : ∀ o, rl_fs (rl_rp (I L) (O L) (G L) (top L) a s) lim = o → o < lim → ∀ c_shown : Nat → Int32, rl_shw (I L o) c_shown → post (nI o) (g_leader, g_now, b_by, b_kind, b_seq, b_key, b_val, b_era, b_tomb, b_gone, b_top, b_mark, b_cleaned, b_fetched, b_works, b_member, c_shown))
    (k0 : ¬ rl_fs (rl_rp (I L) (O L) (G L) (top L) a s) lim < lim → post (-11) (g_leader, g_now, b_by, b_kind, b_seq, b_key, b_val, b_era, b_tomb, b_gone, b_top, b_mark, b_cleaned, b_fetched, b_works, b_member, b_shown)) :
    ∀ n o, o < 2 ^ 31 → lim - o < n → a ≤ o → (∀ j, j < o → j < lim → ¬ rl_rp (I L) (O L) (G L) (top L) a s j) → wY_read_46 post s (nI lim) g_leader g_now b_by b_kind b_seq b_key b_val b_era b_tomb b_gone b_top b_mark b_cleaned b_fetched b_works b_member b_shown n (nI o) := by
  have ht := (h.2 L hL).1
  subst hl
  intro n
  induction n with
  | zero => intro o _ h1; omega
  | succ n ih =>
    intro o ho31 hn hao hj
    refine pk_le lim o (fun z => k0 ?_) (fun z => nm_r (e' := nI (620 * L + o)) (by rw [rl_620, nI_add]) ?_)
    · have e : rl_fs (rl_rp (I L) (O L) (G L) (top L) a s) lim = lim := rl_fs_eq (Nat.le_refl _) (fun j hjm => hj j (by omega) hjm) (fun y => absurd y (Nat.lt_irrefl _))
      omega
    · have hot : o < top L := by omega
      obtain ⟨v0, vB, vK, vS, vY, vV, vE, vT, vG⟩ := rl_yr h hL hot
      obtain ⟨w1, w2, w3, w4, w5⟩ := rl_yw h hL hot
      have go : ¬ rl_rp (I L) (O L) (G L) (top L) a s o → wY_read_46 post s (nI lim) (nI L) g_now b_by b_kind b_seq b_key b_val b_era b_tomb b_gone b_top b_mark b_cleaned b_fetched b_works b_member b_shown n (nI (o + 1)) := fun hno =>
        ih (o + 1) (by omega) (by omega) (by omega) (fun j hjd hjm => by
          rcases Nat.lt_or_ge j o with y | y
          · exact hj j y hjm
          · have e : j = o := by omega
            rw [e]; exact hno)
      have yes : rl_rp (I L) (O L) (G L) (top L) a s o → wY_read_106 post (nI o) (nI (620 * L + o)) (nI L) g_now b_by b_kind b_seq b_key b_val b_era b_tomb b_gone b_top b_mark b_cleaned b_fetched b_works b_member b_shown := fun y => by
        have e : rl_fs (rl_rp (I L) (O L) (G L) (top L) a s) lim = o := rl_fs_eq (by omega) (fun j hjo => hj j hjo (by omega)) (fun _ => y)
        unfold wY_read_106
        exact rl_y_show h hL hot (fun cs hcs => k1 o e z cs hcs)
      refine ⟨v0, rl_k1lt w2 vK (fun hc => nm_r (nI_1 _) (go (fun y => hc y.2.2.1))) (fun hc => ⟨v0, rl_br vG (fun hg => ⟨fun hs => yes ⟨hao, hg, hc, fun y => y.1 hs⟩, fun hs => rl_y_aborted h hL hot (rl_br rfl (fun hb => yes ⟨hao, hg, hc, fun y => hb y.2⟩) (fun hb => nm_r (nI_1 _) (go (fun y => y.2.2.2 ⟨hs, hb⟩))))⟩) (fun hg => nm_r (nI_1 _) (go (fun y => y.2.1 hg)))⟩)⟩
theorem rl_y_read (h : rl_YL b_by b_kind b_seq b_key b_val b_era b_tomb b_gone b_top I O G top now) (hL : L < 3) (hl : g_leader = nI L) (hm : b_mark L = nI (mark L)) (hmt : mark L ≤ top L) {a lim : Nat} (ha : a < 2 ^ 31) {s x : Int32} (hx : (x < 0 ∧ a = 0) ∨ x = nI a)
    (hlim : (s = 0 → lim = mark L) ∧ (¬ s = 0 → lim = rl_sb (I L) (O L) (G L) (top L) (mark L))) (hlt : lim ≤ top L) {post : Int32 → SY → Prop}
    (k1 : ∀ o, rl_fs (rl_rp (I L) (O L) (G L) (top L) a s) lim = o → o < lim → ∀ c_shown : Nat → Int32, rl_shw (I L o) c_shown → post (nI o) (g_leader, g_now, b_by, b_kind, b_seq, b_key, b_val, b_era, b_tomb, b_gone, b_top, b_mark, b_cleaned, b_fetched, b_works, b_member, c_shown))
    (k0 : ¬ rl_fs (rl_rp (I L) (O L) (G L) (top L) a s) lim < lim → post (-11) (g_leader, g_now, b_by, b_kind, b_seq, b_key, b_val, b_era, b_tomb, b_gone, b_top, b_mark, b_cleaned, b_fetched, b_works, b_member, b_shown)) : wpY_read post (g_leader, g_now, b_by, b_kind, b_seq, b_key, b_val, b_era, b_tomb, b_gone, b_top, b_mark, b_cleaned, b_fetched, b_works, b_member, b_shown) x s := by
  have hl2 := hl
  have ht := (h.2 L hL).1
  subst hl
  have vL : vp_in (nI L) 3 := vp_in_nI hL (by omega)
  have cL : (nI L).toNatClampNeg = L := nI_clamp (by omega)
  have fin : wY_read_34 post x s (nI lim) (nI L) g_now b_by b_kind b_seq b_key b_val b_era b_tomb b_gone b_top b_mark b_cleaned b_fetched b_works b_member b_shown := by
    unfold wY_read_34
    have scan := rl_y_rd46 h hL hl2 hlt ha k1 k0 (lim + 1) a ha (by omega) (Nat.le_refl _) (fun j hj _ y => by have := y.1; omega)
    rcases hx with ⟨h1, h2⟩ | h1
    · subst h2; exact br_f (Int32.not_le.mpr h1) ⟨_, scan⟩
    · subst h1; exact br_t (nI_pos' ha) ⟨_, scan⟩
  unfold wpY_read
  refine br_t (nI_pos' (by omega)) ⟨fun hs => ⟨vL, ?_⟩, fun hs => rl_y_stable h hL hm hmt ?_⟩
  · rw [cL, hm, ← hlim.1 hs]; exact fin
  · rw [← hlim.2 hs]; exact fin
/-! get -/
noncomputable def rl_bs (P : Nat → Prop) (b : Nat) : Nat → Int32
  | 0 => -1
  | n + 1 => @ite Int32 (P n) (Classical.propDecidable _) (nI (b + n)) (rl_bs P b n)
theorem rl_bs_t {P : Nat → Prop} {b n : Nat} (h : P n) : rl_bs P b (n + 1) = nI (b + n) := if_pos h
theorem rl_bs_f {P : Nat → Prop} {b n : Nat} (h : ¬ P n) : rl_bs P b (n + 1) = rl_bs P b n := if_neg h
theorem rl_bs_a {P : Nat → Prop} {b o : Nat} (hp : P o) : ∀ n, o < n → (∀ j, o < j → j < n → ¬ P j) → rl_bs P b n = nI (b + o)
  | 0, h, _ => absurd h (Nat.not_lt_zero _)
  | n + 1, h, hj => by
    rcases Nat.lt_or_ge o n with y | y
    · rw [rl_bs_f (hj n y (by omega))]; exact rl_bs_a hp n y (fun j h1 h2 => hj j h1 (by omega))
    · have e : n = o := by omega
      subst e; exact rl_bs_t hp
theorem rl_bs_n {P : Nat → Prop} {b : Nat} : ∀ n, (∀ j, j < n → ¬ P j) → rl_bs P b n = -1
  | 0, _ => rfl
  | n + 1, hj => by rw [rl_bs_f (hj n (by omega))]; exact rl_bs_n n (fun j h => hj j (by omega))
theorem rl_y_gt35 (h : rl_YL b_by b_kind b_seq b_key b_val b_era b_tomb b_gone b_top I O G top now) (hL : L < 3) (hl : g_leader = nI L) {kk lim : Nat} (hkk : kk < 8) (hlt : lim ≤ top L) {post : Int32 → SY → Prop}
    (k1 : ∀ o, o < lim → rl_gp (I L) (O L) (G L) (top L) kk o → (∀ j, o < j → j < lim → ¬ rl_gp (I L) (O L) (G L) (top L) kk j) → (rl_T (I L o) = 0 → ∀ c_shown : Nat → Int32, rl_shw (I L o) c_shown → post (nI o) (g_leader, g_now, b_by, b_kind, b_seq, b_key, b_val, b_era, b_tomb, b_gone, b_top, b_mark, b_cleaned, b_fetched, b_works, b_member, c_shown)) ∧ (¬ rl_T (I L o) = 0 → post (-11) (g_leader, g_now, b_by, b_kind, b_seq, b_key, b_val, b_era, b_tomb, b_gone, b_top, b_mark, b_cleaned, b_fetched, b_works, b_member, b_shown)))
    (k0 : (∀ j, j < lim → ¬ rl_gp (I L) (O L) (G L) (top L) kk j) → post (-11) (g_leader, g_now, b_by, b_kind, b_seq, b_key, b_val, b_era, b_tomb, b_gone, b_top, b_mark, b_cleaned, b_fetched, b_works, b_member, b_shown)) :
    ∀ n o, o ≤ lim → lim - o < n → wY_get_35 post (nI kk) (nI lim) g_leader g_now b_by b_kind b_seq b_key b_val b_era b_tomb b_gone b_top b_mark b_cleaned b_fetched b_works b_member b_shown n (rl_bs (rl_gp (I L) (O L) (G L) (top L) kk) (620 * L) o) (nI o) := by
  have ht := (h.2 L hL).1
  subst hl
  intro n
  induction n with
  | zero => intro o h1 h2; omega
  | succ n ih =>
    intro o ho hn
    refine pk_le lim o (fun z => ?_) (fun z => nm_r (e' := nI (620 * L + o)) (by rw [rl_620, nI_add]) ?_)
    · have e : o = lim := by omega
      subst e
      rcases rl_last (rl_gp (I L) (O L) (G L) (top L) kk) o with ⟨o0, h1, h2, h3⟩ | h1
      · rw [rl_bs_a h2 o h1 h3]
        have hk1 := k1 o0 h1 h2 h3
        obtain ⟨v0, vB, vK, vS, vY, vV, vE, vT, vG⟩ := rl_yr h hL (o := o0) (by omega)
        obtain ⟨w1, w2, w3, w4, w5⟩ := rl_yw h hL (o := o0) (by omega)
        refine br_f (nI_pos (by omega)) ⟨v0, pk_eq (rl_T (I L o0)) 0 (fun z2 => rl_y_show h hL (by omega) (fun cs hcs => ?_)) (fun z2 => hk1.2 z2) vT⟩
        have := hk1.1 z2 cs hcs
        have e2 : nI (620 * L + o0) - 620 * nI L = nI o0 := by rw [rl_620, pk_sub (by omega)]; exact congrArg nI (by omega)
        show post (nI (620 * L + o0) - 620 * nI L) _
        rw [e2]; exact this
      · rw [rl_bs_n o h1]
        exact br_t (by decide) (k0 h1)
    · have hot : o < top L := by omega
      obtain ⟨v0, vB, vK, vS, vY, vV, vE, vT, vG⟩ := rl_yr h hL hot
      obtain ⟨w1, w2, w3, w4, w5⟩ := rl_yw h hL hot
      have ih1 := ih (o + 1) (by omega) (by omega)
      have no : ¬ rl_gp (I L) (O L) (G L) (top L) kk o → wY_get_35 post (nI kk) (nI lim) (nI L) g_now b_by b_kind b_seq b_key b_val b_era b_tomb b_gone b_top b_mark b_cleaned b_fetched b_works b_member b_shown n (rl_bs (rl_gp (I L) (O L) (G L) (top L) kk) (620 * L) o) (nI (o + 1)) := fun y => by
        rw [rl_bs_f y] at ih1; exact ih1
      have n90 : ¬ rl_gp (I L) (O L) (G L) (top L) kk o → wY_get_90 post (wY_get_35 post (nI kk) (nI lim) (nI L) g_now b_by b_kind b_seq b_key b_val b_era b_tomb b_gone b_top b_mark b_cleaned b_fetched b_works b_member b_shown n) (nI kk) (rl_bs (rl_gp (I L) (O L) (G L) (top L) kk) (620 * L) o) (nI lim) (nI o) (nI (620 * L + o)) (nI L) g_now b_by b_kind b_seq b_key b_val b_era b_tomb b_gone b_top b_mark b_cleaned b_fetched b_works b_member b_shown := fun y => by
        unfold wY_get_90 wY_get_91
        exact br_t rfl (nm_r (nI_1 _) (no y))
      refine ⟨v0, rl_k2le w2 vK (fun hc => n90 (fun y => hc y.2.1)) (fun hc => ⟨v0, rl_br vG (fun hg => ⟨v0, pk_eq (rl_K (I L o)) kk (fun hk => ?_) (fun hk => n90 (fun y => hk y.2.2.1)) vY⟩) (fun hg => n90 (fun y => y.1 hg))⟩)⟩
      unfold wY_get_91
      refine br_f (by decide) (rl_y_aborted h hL hot (rl_br rfl (fun hb => nm_r (nI_1 _) ?_) (fun hb => nm_r (nI_1 _) (no (fun y => y.2.2.2 hb)))))
      rw [rl_bs_t (P := rl_gp (I L) (O L) (G L) (top L) kk) (n := o) ⟨hg, hc, hk, hb⟩] at ih1
      exact ih1
end
theorem rl_sb_le (I : Nat → rl_ID) (O G : Nat → Prop) (t m : Nat) : rl_sb I O G t m ≤ m := (rl_fs_sp _ m).1
theorem i_vc_read {k : Nat} {u : SX} {v : SY} (I : i_Rel k u v) (hk : k + 7 ≤ 3584) (v1 : Int32) (v2 : Int32) : wpX_read (fun r u' => wpY_read (fun r' v' => r' = r ∧ i_Rel (k + 7) u' v') v v1 (lw_bz v2)) u v1 (lw_bz v2) := by
  refine rl_el (P := fun u v => wpX_read (fun r u' => wpY_read (fun r' v' => r' = r ∧ i_Rel (k + 7) u' v') v v1 (lw_bz v2)) u v1 (lw_bz v2)) ?_ I
  clear I u v
  intro f_leader f_inside f_now f_foundKey f_foundValue f_foundTomb f_foundWho f_foundSequence f_foundEra a_offset a_kind a_who a_key a_value a_tomb a_sequence a_era a_state a_decidedAt a_dead a_count a_end a_mark a_cleaned a_gone a_eraAt a_eraOf a_eras a_epoch a_latest a_last a_places a_baseEpoch a_baseLatest a_baseLast a_basePlaces a_base a_fetched g_leader g_now b_by b_kind b_seq b_key b_val b_era b_tomb b_gone b_top b_mark b_cleaned b_fetched b_works b_member b_shown I O G top mark cle fet bas mem wor L now h
  have hR := rl_fold7 h
  obtain ⟨hn, hI, hX, hY, hS⟩ := h
  have hX0 := hX
  have hY0 := hY
  obtain ⟨⟨x1, x2, x3⟩, x4, x5, x6⟩ := hX
  obtain ⟨⟨y1, y2⟩, y3, y4⟩ := hY
  generalize lw_bz v2 = s
  by_cases hL : L < 3
  · have eX : f_leader = nI L := x1.trans (rl_ld_t hL)
    have eY : g_leader = nI L := y1.trans (rl_ld_t hL)
    obtain ⟨m1, m2, m3, m4⟩ := x6 L hL
    obtain ⟨q1, q2, q3, q4, q5⟩ := y4 L hL
    obtain ⟨t1, t2, t3, t4, t5, t6⟩ := x4 L hL
    have im := (hI.1 L hL).2.2.1
    obtain ⟨lim, hlim⟩ : ∃ lim, (s = 0 → lim = mark L) ∧ (¬ s = 0 → lim = rl_sb (I L) (O L) (G L) (top L) (mark L)) := by
      by_cases hs : s = 0
      · exact ⟨mark L, fun _ => rfl, fun y => absurd hs y⟩
      · exact ⟨_, fun y => absurd y hs, fun _ => rfl⟩
    have hlt : lim ≤ top L := by
      by_cases hs : s = 0
      · rw [hlim.1 hs]; exact im
      · rw [hlim.2 hs]; exact Nat.le_trans (rl_sb_le _ _ _ _ _) im
    obtain ⟨a, ha, hxa, hya⟩ : ∃ a, a < 2 ^ 31 ∧ (∀ j, j ≤ 600 → (v1 ≤ nI j ↔ a ≤ j)) ∧ ((v1 < 0 ∧ a = 0) ∨ v1 = nI a) := by
      by_cases hneg : v1 < 0
      · refine ⟨0, by omega, fun j hj => ⟨fun _ => Nat.zero_le _, fun _ => ?_⟩, Or.inl ⟨hneg, rfl⟩⟩
        exact Int32.le_of_lt (Int32.lt_of_lt_of_le hneg (nI_pos' (by omega)))
      · obtain ⟨a, ha, rfl⟩ := nI_of hneg
        exact ⟨a, ha, fun j hj => nI_leI ha (by omega), Or.inr rfl⟩
    refine rl_x_read t1 hL eX t2 im m1 hxa hlim hlt (fun o ho e hol hg => ?_) (fun e => ?_)
    · refine rl_y_read y3 hL eY q1 im ha hya hlim hlt (fun o' e' _ cs hcs => ?_) (fun e' => absurd (by rw [e]; exact hol) e')
      have eo : o' = o := e'.symm.trans e
      subst eo
      exact ⟨rfl, i_up (rl_fold ⟨hn, hI, hX0, hY0, hcs⟩)⟩
    · refine rl_y_read y3 hL eY q1 im ha hya hlim hlt (fun o' e' hol => absurd (by rw [e']; exact hol) e) (fun _ => ⟨rfl, hR⟩)
  · have eX : f_leader = -1 := x1.trans (rl_ld_f hL)
    have eY : g_leader = -1 := y1.trans (rl_ld_f hL)
    unfold wpX_read
    refine br_f (by rw [eX]; decide) ?_
    unfold wpY_read
    exact br_f (by rw [eY]; decide) ⟨rfl, hR⟩
theorem i_vc_get {k : Nat} {u : SX} {v : SY} (I : i_Rel k u v) (hk : k + 7 ≤ 3584) (v1 : Int32) : wpX_get (fun r u' => wpY_get (fun r' v' => r' = r ∧ i_Rel (k + 7) u' v') v v1) u v1 := by
  refine rl_el (P := fun u v => wpX_get (fun r u' => wpY_get (fun r' v' => r' = r ∧ i_Rel (k + 7) u' v') v v1) u v1) ?_ I
  clear I u v
  intro f_leader f_inside f_now f_foundKey f_foundValue f_foundTomb f_foundWho f_foundSequence f_foundEra a_offset a_kind a_who a_key a_value a_tomb a_sequence a_era a_state a_decidedAt a_dead a_count a_end a_mark a_cleaned a_gone a_eraAt a_eraOf a_eras a_epoch a_latest a_last a_places a_baseEpoch a_baseLatest a_baseLast a_basePlaces a_base a_fetched g_leader g_now b_by b_kind b_seq b_key b_val b_era b_tomb b_gone b_top b_mark b_cleaned b_fetched b_works b_member b_shown I O G top mark cle fet bas mem wor L now h
  have hR := rl_fold7 h
  obtain ⟨hn, hI, hX, hY, hS⟩ := h
  have hX0 := hX
  have hY0 := hY
  obtain ⟨⟨x1, x2, x3⟩, x4, x5, x6⟩ := hX
  obtain ⟨⟨y1, y2⟩, y3, y4⟩ := hY
  unfold wpX_get
  rcases rl_ix v1 (n := 8) (by omega) with hb | ⟨kk, hkk, rfl⟩
  · refine rl_outB (n := 8) hb (br_f (by decide) ?_)
    unfold wpY_get
    exact rl_amB (n := 8) hb (br_t rfl ⟨by trivial, hR⟩)
  refine rl_outG (n := 8) hkk (by omega) (br_t rfl ?_)
  by_cases hL : L < 3
  · have eX : f_leader = nI L := x1.trans (rl_ld_t hL)
    have eY : g_leader = nI L := y1.trans (rl_ld_t hL)
    obtain ⟨m1, m2, m3, m4⟩ := x6 L hL
    obtain ⟨q1, q2, q3, q4, q5⟩ := y4 L hL
    obtain ⟨t1, t2, t3, t4, t5, t6⟩ := x4 L hL
    have im := (hI.1 L hL).2.2.1
    have it := (hI.1 L hL).1
    have vL : vp_in (nI L) 3 := vp_in_nI hL (by omega)
    have cL : (nI L).toNatClampNeg = L := nI_clamp (by omega)
    have hls := rl_sb_le (I L) (O L) (G L) (top L) (mark L)
    have hY1 : ∀ q : Int32 → SY → Prop,
        (∀ o, o < rl_sb (I L) (O L) (G L) (top L) (mark L) → rl_gp (I L) (O L) (G L) (top L) kk o → (∀ j, o < j → j < rl_sb (I L) (O L) (G L) (top L) (mark L) → ¬ rl_gp (I L) (O L) (G L) (top L) kk j) → (rl_T (I L o) = 0 → ∀ c_shown : Nat → Int32, rl_shw (I L o) c_shown → q (nI o) (g_leader, g_now, b_by, b_kind, b_seq, b_key, b_val, b_era, b_tomb, b_gone, b_top, b_mark, b_cleaned, b_fetched, b_works, b_member, c_shown)) ∧ (¬ rl_T (I L o) = 0 → q (-11) (g_leader, g_now, b_by, b_kind, b_seq, b_key, b_val, b_era, b_tomb, b_gone, b_top, b_mark, b_cleaned, b_fetched, b_works, b_member, b_shown))) →
        ((∀ j, j < rl_sb (I L) (O L) (G L) (top L) (mark L) → ¬ rl_gp (I L) (O L) (G L) (top L) kk j) → q (-11) (g_leader, g_now, b_by, b_kind, b_seq, b_key, b_val, b_era, b_tomb, b_gone, b_top, b_mark, b_cleaned, b_fetched, b_works, b_member, b_shown)) → wpY_get q (g_leader, g_now, b_by, b_kind, b_seq, b_key, b_val, b_era, b_tomb, b_gone, b_top, b_mark, b_cleaned, b_fetched, b_works, b_member, b_shown) (nI kk) := fun q h1 h0 => by
      unfold wpY_get
      have hy2 := rl_y_gt35 y3 hL eY hkk (lim := rl_sb (I L) (O L) (G L) (top L) (mark L)) (by omega) h1 h0 (rl_sb (I L) (O L) (G L) (top L) (mark L) + 1) 0 (by omega) (by omega)
      refine rl_amG (n := 8) hkk (by omega) (br_f (by decide) (br_t (by rw [eY]; exact nI_pos' (by omega)) ?_))
      rw [eY] at hy2 ⊢
      exact rl_y_stable y3 hL q1 im ⟨_, hy2⟩
    have hX1 := rl_x_gt50 t1 hL eX hkk (lim := rl_sb (I L) (O L) (G L) (top L) (mark L)) (by omega) (o0 := 0)
      (post := fun r u' => wpY_get (fun r' v' => r' = r ∧ i_Rel (k + 7) u' v') (g_leader, g_now, b_by, b_kind, b_seq, b_key, b_val, b_era, b_tomb, b_gone, b_top, b_mark, b_cleaned, b_fetched, b_works, b_member, b_shown) (nI kk))
      (fun o ho hol hP hlast => ⟨fun hT => hY1 _ (fun o' h1 h2 h3 => ⟨fun _ cs hcs => by
          have eo : o' = o := by
            rcases Nat.lt_trichotomy o' o with y | y | y
            · exact absurd hP (h3 o y hol)
            · exact y
            · exact absurd h2 (hlast o' y h1)
          subst eo
          exact ⟨rfl, i_up (rl_fold ⟨hn, hI, hX0, hY0, hcs⟩)⟩, fun z => by
          have eo : o' = o := by
            rcases Nat.lt_trichotomy o' o with y | y | y
            · exact absurd hP (h3 o y hol)
            · exact y
            · exact absurd h2 (hlast o' y h1)
          subst eo; exact absurd hT z⟩) (fun z => absurd hP (z o hol)), fun hT => hY1 _ (fun o' h1 h2 h3 => ⟨fun z => by
          have eo : o' = o := by
            rcases Nat.lt_trichotomy o' o with y | y | y
            · exact absurd hP (h3 o y hol)
            · exact y
            · exact absurd h2 (hlast o' y h1)
          subst eo; exact absurd z hT, fun _ => ⟨rfl, hR⟩⟩) (fun _ => ⟨rfl, hR⟩)⟩)
      (fun hno => hY1 _ (fun o h1 h2 _ => absurd h2 (hno o (by omega) h1)) (fun _ => ⟨rfl, hR⟩))
      (top L) (rl_rk (G L) (top L) + 1) (Nat.le_refl _) (by omega) (fun j h1 h2 => by omega) (fun j h1 h2 => by omega)
    refine br_t (by rw [eX]; exact nI_pos' (by omega)) ?_
    rw [eX] at hX1 ⊢
    refine rl_x_stable t1 hL t2 im m1 ⟨vL, nm_r (e' := nI (40 * L + rl_rk (G L) (top L)) - 1) (by rw [cL, t2, rl_40, nI_add]) ⟨_, hX1⟩⟩
  · have eX : f_leader = -1 := x1.trans (rl_ld_f hL)
    have eY : g_leader = -1 := y1.trans (rl_ld_f hL)
    refine br_f (by rw [eX]; decide) ?_
    unfold wpY_get
    exact rl_amG (n := 8) hkk (by omega) (br_f (by decide) (br_f (by rw [eY]; decide) ⟨rfl, hR⟩))
end
section
/-! frames of the table -/
def rl_rw (a_offset a_kind a_who a_key a_value a_tomb a_sequence a_era a_state a_decidedAt : Nat → Int32) (i : Nat) : Int32 × Int32 × Int32 × Int32 × Int32 × Int32 × Int32 × Int32 × Int32 × Int32 :=
  (a_offset i, a_kind i, a_who i, a_key i, a_value i, a_tomb i, a_sequence i, a_era i, a_state i, a_decidedAt i)
theorem rl_TB_fr {a_offset a_kind a_who a_key a_value a_tomb a_sequence a_era a_state a_decidedAt c_offset c_kind c_who c_key c_value c_tomb c_sequence c_era c_state c_decidedAt : Nat → Int32} {r t now : Nat} {I : Nat → rl_ID} {O G : Nat → Prop}
    (h : rl_TB a_offset a_kind a_who a_key a_value a_tomb a_sequence a_era a_state a_decidedAt r t I O G now) (e : ∀ i, 40 * r ≤ i → i < 40 * r + rl_rk G t → rl_rw c_offset c_kind c_who c_key c_value c_tomb c_sequence c_era c_state c_decidedAt i = rl_rw a_offset a_kind a_who a_key a_value a_tomb a_sequence a_era a_state a_decidedAt i) :
    rl_TB c_offset c_kind c_who c_key c_value c_tomb c_sequence c_era c_state c_decidedAt r t I O G now := by
  obtain ⟨h1, h2, h3, h4⟩ := h
  refine ⟨h1, h2, h3, fun o ho => ⟨(h4 o ho).1, fun hg => ?_⟩⟩
  have := rl_rk_lt ho hg
  exact rl_TX_cg ((h4 o ho).2 hg) (e _ (by omega) (by omega))
theorem rl_TB_cg {a_offset a_kind a_who a_key a_value a_tomb a_sequence a_era a_state a_decidedAt : Nat → Int32} {r t now : Nat} {I J : Nat → rl_ID} {O Q G H : Nat → Prop}
    (h : rl_TB a_offset a_kind a_who a_key a_value a_tomb a_sequence a_era a_state a_decidedAt r t I O G now) (e1 : ∀ o, o < t → I o = J o) (e2 : ∀ o, o < t → (O o ↔ Q o)) (e3 : ∀ o, o < t → (G o ↔ H o)) : rl_TB a_offset a_kind a_who a_key a_value a_tomb a_sequence a_era a_state a_decidedAt r t J Q H now := by
  obtain ⟨h1, h2, h3, h4⟩ := h
  refine ⟨h1, h2, by rw [← rl_rk_cg e3]; exact h3, fun o ho => ⟨by rw [← e1 o ho]; exact (h4 o ho).1, fun hg => ?_⟩⟩
  have hx := (h4 o ho).2 (fun y => hg ((e3 o ho).mp y))
  rw [rl_rk_cg (n := o) (fun j hj => e3 j (by omega))] at hx
  unfold rl_TX at hx ⊢
  rw [rl_st_cg ho e1 (e2 o ho), e1 o ho, rl_de_cg ho e1] at hx
  exact hx
theorem rl_PR_cg {a_epoch a_latest a_last a_places : Nat → Int32} {r t : Nat} {I J : Nat → rl_ID} (h : rl_PR a_epoch a_latest a_last a_places r t I) (e : ∀ o, o < t → I o = J o) : rl_PR a_epoch a_latest a_last a_places r t J :=
  fun p hp => by rw [← rl_ps_cg e]; exact h p hp
theorem rl_PR_fr {a_epoch a_latest a_last a_places c_epoch c_latest c_last c_places : Nat → Int32} {r t : Nat} {I : Nat → rl_ID} (h : rl_PR a_epoch a_latest a_last a_places r t I) (e : ∀ q, 4 * r ≤ q → q < 4 * r + 4 → rl_pv c_epoch c_latest c_last c_places q = rl_pv a_epoch a_latest a_last a_places q) : rl_PR c_epoch c_latest c_last c_places r t I :=
  fun p hp => by rw [e _ (by omega) (by omega)]; exact h p hp
theorem rl_sq_cg {I J : Nat → rl_ID} {t : Nat} (h : rl_sq I t) (e : ∀ o, o < t → I o = J o) : rl_sq J t := fun o ho hc => by
  rw [← e o ho] at hc ⊢
  rw [← rl_ps_cg (fun j hj => e j (by omega))]
  exact h o ho hc
section
variable {f_leader f_inside f_now f_foundKey f_foundValue f_foundTomb f_foundWho f_foundSequence f_foundEra : Int32} {a_offset a_kind a_who a_key a_value a_tomb a_sequence a_era a_state a_decidedAt a_dead a_count a_end a_mark a_cleaned a_gone a_eraAt a_eraOf a_eras a_epoch a_latest a_last a_places a_baseEpoch a_baseLatest a_baseLast a_basePlaces a_base a_fetched : Nat → Int32} {I : Nat → rl_ID} {O G : Nat → Prop} {r t now : Nat}
theorem rl_x_settle2 (h : rl_TB a_offset a_kind a_who a_key a_value a_tomb a_sequence a_era a_state a_decidedAt r t I O G now) (hr : r < 3) (hp : rl_PL a_offset a_kind a_who a_key a_value a_tomb a_sequence a_era a_state r t I O G now) (hP : rl_PR a_epoch a_latest a_last a_places r t I) {i : Nat} (hi : 40 * r + rl_rk G t = i) {post : SX → Prop}
    (k : ∀ c_state c_decidedAt c_epoch c_latest c_last c_places : Nat → Int32, rl_TB a_offset a_kind a_who a_key a_value a_tomb a_sequence a_era c_state c_decidedAt r (t + 1) I O G now → rl_PR c_epoch c_latest c_last c_places r (t + 1) I →
      (∀ i, (i < 40 * r ∨ 40 * r + 40 ≤ i) → c_state i = a_state i ∧ c_decidedAt i = a_decidedAt i) → (∀ q, (q < 4 * r ∨ 4 * r + 4 ≤ q) → rl_pv c_epoch c_latest c_last c_places q = rl_pv a_epoch a_latest a_last a_places q) →
      post (f_leader, f_inside, f_now, f_foundKey, f_foundValue, f_foundTomb, f_foundWho, f_foundSequence, f_foundEra, a_offset, a_kind, a_who, a_key, a_value, a_tomb, a_sequence, a_era, c_state, c_decidedAt, a_dead, a_count, a_end, a_mark, a_cleaned, a_gone, a_eraAt, a_eraOf, a_eras, c_epoch, c_latest, c_last, c_places, a_baseEpoch, a_baseLatest, a_baseLast, a_basePlaces, a_base, a_fetched)) :
    wpX_settle post (f_leader, f_inside, f_now, f_foundKey, f_foundValue, f_foundTomb, f_foundWho, f_foundSequence, f_foundEra, a_offset, a_kind, a_who, a_key, a_value, a_tomb, a_sequence, a_era, a_state, a_decidedAt, a_dead, a_count, a_end, a_mark, a_cleaned, a_gone, a_eraAt, a_eraOf, a_eras, a_epoch, a_latest, a_last, a_places, a_baseEpoch, a_baseLatest, a_baseLast, a_basePlaces, a_base, a_fetched) (nI r) (nI i) := by
  subst hi; exact rl_x_settle h hr hp hP k
theorem rl_x_decide2 (h : rl_TB a_offset a_kind a_who a_key a_value a_tomb a_sequence a_era a_state a_decidedAt r t I O G now) (hr : r < 3) (hp : rl_PL a_offset a_kind a_who a_key a_value a_tomb a_sequence a_era a_state r t I O G now) {i : Nat} (hi : 40 * r + rl_rk G t = i) {post : SX → Prop}
    (k : ∀ c_state c_decidedAt : Nat → Int32, rl_TB a_offset a_kind a_who a_key a_value a_tomb a_sequence a_era c_state c_decidedAt r (t + 1) I O G now → (∀ i, (i < 40 * r ∨ 40 * r + 40 ≤ i) → c_state i = a_state i ∧ c_decidedAt i = a_decidedAt i) → post (f_leader, f_inside, f_now, f_foundKey, f_foundValue, f_foundTomb, f_foundWho, f_foundSequence, f_foundEra, a_offset, a_kind, a_who, a_key, a_value, a_tomb, a_sequence, a_era, c_state, c_decidedAt, a_dead, a_count, a_end, a_mark, a_cleaned, a_gone, a_eraAt, a_eraOf, a_eras, a_epoch, a_latest, a_last, a_places, a_baseEpoch, a_baseLatest, a_baseLast, a_basePlaces, a_base, a_fetched)) :
    wpX_decide post (f_leader, f_inside, f_now, f_foundKey, f_foundValue, f_foundTomb, f_foundWho, f_foundSequence, f_foundEra, a_offset, a_kind, a_who, a_key, a_value, a_tomb, a_sequence, a_era, a_state, a_decidedAt, a_dead, a_count, a_end, a_mark, a_cleaned, a_gone, a_eraAt, a_eraOf, a_eras, a_epoch, a_latest, a_last, a_places, a_baseEpoch, a_baseLatest, a_baseLast, a_basePlaces, a_base, a_fetched) (nI r) (nI i) := by
  subst hi; exact rl_x_decide h hr hp k
end
/-- the new record's tables -/
noncomputable def rl_aI (I : Nat → Nat → rl_ID) (top : Nat → Nat) (L : Nat) (x : rl_ID) : Nat → Nat → rl_ID := rl_u I L (rl_u (I L) (top L) x)
noncomputable def rl_aP (O : Nat → Nat → Prop) (top : Nat → Nat) (L : Nat) (x : Prop) : Nat → Nat → Prop := rl_u O L (rl_u (O L) (top L) x)
section
variable {I : Nat → Nat → rl_ID} {O G : Nat → Nat → Prop} {top mark cle fet bas : Nat → Nat} {mem wor : Nat → Prop} {L now : Nat} {x : rl_ID} {op : Prop}
theorem rl_aI_n (r : Nat) (h : r ≠ L) : rl_aI I top L x r = I r := rl_un h
theorem rl_aI_o (o : Nat) (h : o ≠ top L) : rl_aI I top L x L o = I L o := by unfold rl_aI; rw [rl_us, rl_un h]
theorem rl_aI_t : rl_aI I top L x L (top L) = x := by unfold rl_aI; rw [rl_us, rl_us]
theorem rl_aP_n (r : Nat) (h : r ≠ L) : rl_aP O top L op r = O r := rl_un h
theorem rl_aP_o (o : Nat) (h : o ≠ top L) : rl_aP O top L op L o = O L o := by unfold rl_aP; rw [rl_us, rl_un h]
theorem rl_aP_t : rl_aP O top L op L (top L) = op := by unfold rl_aP; rw [rl_us, rl_us]
theorem rl_aI_lt {r o : Nat} (h : o < top r) : rl_aI I top L x r o = I r o := by
  by_cases e : r = L
  · subst e; exact rl_aI_o o (by omega)
  · rw [rl_aI_n r e]
theorem rl_iv_add (hi : rl_IV I G top mark cle fet bas mem L now) (hL : L < 3) (ht : top L < 600) (hl : top L - rl_ls mark < 60) (hW : rl_W x now) (hE : rl_E x = now) (hS : rl_C x = 0 → rl_S x = rl_nx (rl_ps (I L) (rl_B x) (top L))) :
    rl_IV (rl_aI I top L x) (rl_aP G top L False) (rl_u top L (top L + 1)) mark cle fet bas mem L now := by
  obtain ⟨i1, i2, i3, i4, i5, i6, i7, i8, i9, i10⟩ := hi
  have tl : ∀ r, top r ≤ rl_u top L (top L + 1) r := fun r => by
    by_cases e : r = L
    · subst e; rw [rl_us]; omega
    · rw [rl_un e]; omega
  have tn : ∀ r, r ≠ L → rl_u top L (top L + 1) r = top r := fun r e => rl_un e
  have tL : rl_u top L (top L + 1) L = top L + 1 := rl_us
  -- a record below the new top is an old one or the new one
  have cs : ∀ r o, o < rl_u top L (top L + 1) r → o < top r ∨ (r = L ∧ o = top L) := fun r o ho => by
    by_cases e : r = L
    · subst e; rw [tL] at ho; omega
    · rw [tn r e] at ho; exact Or.inl ho
  have hmls : rl_ls mark ≤ top L := by have := (i1 L hL).2.2.1; have := rl_ls_le (mark := mark) hL; omega
  refine ⟨fun r hr => ?_, fun r hr o ho => ?_, fun r hr o o' hoo ho => ?_, fun r s hr hs a b ha hb he o h1 h2 => ?_, i5, i6, fun r s hr hs hm => ?_, fun _ s hs o ho he => ?_, fun _ s hs hn => ?_, fun r hr o ho hg => ?_⟩
  · obtain ⟨a1, a2, a3, a4, a5, a6, a7⟩ := i1 r hr
    have tr := tl r
    refine ⟨?_, ?_, by omega, a4, by omega, a6, ?_⟩
    · by_cases e : r = L
      · rw [e, tL]; omega
      · rw [tn r e]; exact a1
    · by_cases e : r = L
      · rw [e, tL]; omega
      · rw [tn r e]; exact a2
    · intro o ho hc
      rcases cs r o ho with y | ⟨y1, y2⟩
      · rw [rl_aI_lt y] at hc ⊢
        rw [rl_ps_cg (I := rl_aI I top L x r) (J := I r) (fun j hj => rl_aI_lt (by omega))]
        exact a7 o y hc
      · subst y1; subst y2
        rw [rl_aI_t] at hc ⊢
        rw [rl_ps_cg (I := rl_aI I top r x r) (J := I r) (fun j hj => rl_aI_lt (by omega))]
        exact hS hc
  · rcases cs r o ho with y | ⟨y1, y2⟩
    · rw [rl_aI_lt y]; exact i2 r hr o y
    · subst y1; subst y2; rw [rl_aI_t]; exact hW
  · rcases cs r o' ho with y | ⟨y1, y2⟩
    · rw [rl_aI_lt y, rl_aI_lt (show o < top r by omega)]; exact i3 r hr o o' hoo y
    · subst y1; subst y2
      rcases Nat.lt_or_ge o (top r) with y | y
      · rw [rl_aI_lt y, rl_aI_t, hE]; exact (i2 r hr o y).2.2.2.2
      · have e : o = top r := by omega
        rw [e]; exact Nat.le_refl _
  · by_cases ers : r = s
    · rw [ers]
    · rcases cs r a ha with y | ⟨y1, y2⟩
      · rcases cs s b hb with z | ⟨z1, z2⟩
        · rw [rl_aI_lt y, rl_aI_lt z] at he
          rw [rl_aI_lt (show o < top r by omega), rl_aI_lt (show o < top s by omega)]
          exact i4 r s hr hs a b y z he o h1 h2
        · subst z1; subst z2
          rw [rl_aI_lt y, rl_aI_t, hE] at he
          obtain ⟨g1, g2⟩ := i8 hL r hr a y he
          rw [rl_aI_lt (show o < top r by omega), rl_aI_lt (show o < top s by omega)]
          exact i4 r s hr hs a a y g1 (by rw [he, g2]) o h1 h1
      · subst y1; subst y2
        have hbs : b < top s := by
          rcases cs s b hb with z | ⟨z1, z2⟩
          · exact z
          · exact absurd z1.symm ers
        rw [rl_aI_lt hbs, rl_aI_t, hE] at he
        obtain ⟨g1, g2⟩ := i8 hL s hs b hbs he.symm
        rw [rl_aI_lt (show o < top r by omega), rl_aI_lt (show o < top s by omega)]
        exact i4 r s hr hs b b g1 hbs (by rw [g2]; exact he) o h2 h2
  · obtain ⟨m1, m2, m3⟩ := i7 r s hr hs hm
    have tr := tl s
    refine ⟨by omega, by omega, fun o ho => ?_⟩
    obtain ⟨a1, a2, a3, a4, a5, -⟩ := i1 r hr
    rw [rl_aI_lt (show o < top r by omega), rl_aI_lt (show o < top s by omega)]
    exact m3 o ho
  · rcases cs s o ho with y | ⟨y1, y2⟩
    · rw [rl_aI_lt y] at he
      obtain ⟨g1, g2⟩ := i8 hL s hs o y he
      rw [tL, rl_aI_lt g1]; exact ⟨by omega, g2⟩
    · subst y2; rw [tL, rl_aI_t]; exact ⟨by omega, hE⟩
  · obtain ⟨f1, f2, f3⟩ := i9 hL s hs hn
    rw [tL, tn s hn]
    refine ⟨f1, by omega, fun o ho => ?_⟩
    rw [rl_aI_lt (show o < top s by omega), rl_aI_lt (show o < top L by omega)]; exact f3 o ho
  · rcases cs r o ho with y | ⟨y1, y2⟩
    · rw [rl_aI_lt y]
      refine i10 r hr o y ?_
      by_cases e : r = L
      · subst e; rw [rl_aP_o o (by omega)] at hg; exact hg
      · rw [rl_aP_n r e] at hg; exact hg
    · subst y1; subst y2; rw [rl_aP_t] at hg; exact hg.elim
end
section
variable {f_leader f_inside f_now f_foundKey f_foundValue f_foundTomb f_foundWho f_foundSequence f_foundEra : Int32} {a_offset a_kind a_who a_key a_value a_tomb a_sequence a_era a_state a_decidedAt a_dead a_count a_end a_mark a_cleaned a_gone a_eraAt a_eraOf a_eras a_epoch a_latest a_last a_places a_baseEpoch a_baseLatest a_baseLast a_basePlaces a_base a_fetched : Nat → Int32} {g_leader g_now : Int32} {b_by b_kind b_seq b_key b_val b_era b_tomb b_gone b_top b_mark b_cleaned b_fetched b_works b_member b_shown : Nat → Int32} {I : Nat → Nat → rl_ID} {O G : Nat → Nat → Prop} {top mark cle fet bas : Nat → Nat} {mem wor : Nat → Prop} {L now : Nat} {x : rl_ID} {op : Prop}
/-! the reference's add -/
theorem rl_yl_add (h : rl_YL b_by b_kind b_seq b_key b_val b_era b_tomb b_gone b_top I O G top now) (hL : L < 3) (ht : top L < 600) (hW : rl_W x now) (hE : rl_E x = now) :
    rl_YL (upd b_by (620 * L + top L) (nI (rl_B x))) (upd b_kind (620 * L + top L) (nI (rl_kd (rl_C x) op))) (upd b_seq (620 * L + top L) (rl_S x)) (upd b_key (620 * L + top L) (nI (rl_K x))) (upd b_val (620 * L + top L) (rl_V x))
      (upd b_era (620 * L + top L) (nI now)) (upd b_tomb (620 * L + top L) (nI (rl_T x))) (upd b_gone (620 * L + top L) 0) (upd b_top L (nI (top L + 1))) (rl_aI I top L x) (rl_aP O top L op) (rl_aP G top L False) (rl_u top L (top L + 1)) now := by
  refine ⟨h.1, fun r hr => ?_⟩
  obtain ⟨h1, h2, h3⟩ := h.2 r hr
  by_cases e : r = L
  · subst e
    rw [rl_us, pk_us]
    refine ⟨by omega, rfl, fun o ho => ?_⟩
    rcases Nat.lt_or_ge o (top r) with y | y
    · have hn : 620 * r + o ≠ 620 * r + top r := by omega
      unfold rl_YR
      rw [pk_un hn, pk_un hn, pk_un hn, pk_un hn, pk_un hn, pk_un hn, pk_un hn, pk_un hn, rl_aI_o o (by omega), rl_aP_o o (by omega), rl_aP_o o (by omega)]
      exact h3 o y
    · have eo : o = top r := by omega
      subst eo
      unfold rl_YR
      rw [pk_us, pk_us, pk_us, pk_us, pk_us, pk_us, pk_us, pk_us, rl_aI_t, rl_aP_t, rl_aP_t, rl_bf (fun y => y), hE]
      exact ⟨⟨rfl, rfl, rfl, rfl, rfl, rfl, rfl, rfl⟩, hW⟩
  · rw [rl_un e, pk_un e]
    refine ⟨h1, h2, fun o ho => ?_⟩
    have hn : 620 * r + o ≠ 620 * L + top L := by omega
    unfold rl_YR
    rw [pk_un hn, pk_un hn, pk_un hn, pk_un hn, pk_un hn, pk_un hn, pk_un hn, pk_un hn, rl_aI_n r e, rl_aP_n r e, rl_aP_n r e]
    exact h3 o ho
theorem rl_y_add (h : rl_YS g_leader g_now b_by b_kind b_seq b_key b_val b_era b_tomb b_gone b_top b_mark b_cleaned b_fetched b_works b_member I O G top mark cle fet bas mem wor L now) (hL : L < 3) (ht : top L < 600) (hW : rl_W x now) (hE : rl_E x = now)
    (hi : rl_IV (rl_aI I top L x) (rl_aP G top L False) (rl_u top L (top L + 1)) mark cle fet bas mem L now) {q0 q1 q2 q3 q4 q5 : Int32} (e0 : q0 = nI (rl_B x)) (e1 : q1 = nI (rl_kd (rl_C x) op)) (e2 : q2 = rl_S x) (e3 : q3 = nI (rl_K x)) (e4 : q4 = rl_V x) (e5 : q5 = nI (rl_T x)) {post : Int32 → SY → Prop}
    (k : ∀ c_by c_kind c_seq c_key c_val c_era c_tomb c_gone c_top c_mark : Nat → Int32, rl_YS g_leader g_now c_by c_kind c_seq c_key c_val c_era c_tomb c_gone c_top c_mark b_cleaned b_fetched b_works b_member
      (rl_aI I top L x) (rl_aP O top L op) (rl_aP G top L False) (rl_u top L (top L + 1)) (rl_mq (rl_u top L (top L + 1)) mark fet mem L) cle fet bas mem wor L now →
      post (nI (top L)) (g_leader, g_now, c_by, c_kind, c_seq, c_key, c_val, c_era, c_tomb, c_gone, c_top, c_mark, b_cleaned, b_fetched, b_works, b_member, b_shown)) :
    wpY_add post (g_leader, g_now, b_by, b_kind, b_seq, b_key, b_val, b_era, b_tomb, b_gone, b_top, b_mark, b_cleaned, b_fetched, b_works, b_member, b_shown) q0 q1 q2 q3 q4 q5 := by
  subst e0 e1 e2 e3 e4 e5
  obtain ⟨⟨y1, y2⟩, y3, y4⟩ := h
  have eY : g_leader = nI L := y1.trans (rl_ld_t hL)
  have vL : vp_in (nI L) 3 := vp_in_nI hL (by omega)
  have cL : (nI L).toNatClampNeg = L := nI_clamp (by omega)
  have vc : vp_in (nI (620 * L + top L)) 1860 := vp_in_nI (by omega) (by omega)
  have cc : (nI (620 * L + top L)).toNatClampNeg = 620 * L + top L := nI_clamp (by omega)
  have eT := (y3.2 L hL).2.1
  have hT1 := hW.2.2.2.1
  have nT : vp_nar .boolean (nI (rl_T x)) = nI (rl_T x) := by
    have : rl_T x = 0 ∨ rl_T x = 1 := by omega
    rcases this with e | e <;> rw [e] <;> rfl
  have nG : vp_nar .boolean 0 = 0 := rfl
  have ec : (620 : Int32) * nI L + nI (top L) = nI (620 * L + top L) := by rw [rl_620, nI_add]
  have h2 := y2
  subst eY
  unfold wpY_add
  simp only [cL, eT, nT, nG, nI_1]
  refine ⟨vL, nm_e ?_⟩
  simp only [ec]
  refine nm_e ?_
  simp only [cc]
  refine ⟨vc, nm_e ⟨vc, nm_e ⟨vc, nm_e ⟨vc, nm_e ⟨vc, nm_e ⟨vc, nm_e ⟨vc, nm_e ⟨vc, nm_r (e' := upd b_era (620 * L + top L) (nI now)) (by rw [y2]) ⟨vL, vL, nm_e ?_⟩⟩⟩⟩⟩⟩⟩⟩⟩
  refine rl_ys_adv (I := rl_aI I top L x) (O := rl_aP O top L op) (G := rl_aP G top L False) (top := rl_u top L (top L + 1)) (mark := mark) (cle := cle) (fet := fet) (bas := bas) (mem := mem) (wor := wor) (L := L) (now := now) ⟨⟨y1, y2⟩, rl_yl_add y3 hL ht hW hE, y4⟩ hi ?_
  intro cm hY2
  exact k _ _ _ _ _ _ _ _ _ _ hY2
/-! the component's appended -/
theorem rl_x_appended (h : rl_XS f_leader f_inside f_now a_offset a_kind a_who a_key a_value a_tomb a_sequence a_era a_state a_decidedAt a_count a_end a_mark a_cleaned a_gone a_eraAt a_eraOf a_eras a_epoch a_latest a_last a_places a_baseEpoch a_baseLatest a_baseLast a_basePlaces a_base a_fetched I O G top mark cle fet bas mem wor L now) (hi0 : rl_IV I G top mark cle fet bas mem L now) (hL : L < 3) (ht : top L < 600) (hrk : rl_rk (G L) (top L) < 40) (hW : rl_W x now) (hE : rl_E x = now)
    (hi : rl_IV (rl_aI I top L x) (rl_aP G top L False) (rl_u top L (top L + 1)) mark cle fet bas mem L now)
    {c_offset c_kind c_who c_key c_value c_tomb c_sequence c_state : Nat → Int32}
    (hne : ∀ i, i ≠ 40 * L + rl_rk (G L) (top L) → c_offset i = a_offset i ∧ c_kind i = a_kind i ∧ c_who i = a_who i ∧ c_key i = a_key i ∧ c_value i = a_value i ∧ c_tomb i = a_tomb i ∧ c_sequence i = a_sequence i ∧ c_state i = a_state i)
    (r1 : c_offset (40 * L + rl_rk (G L) (top L)) = nI (top L)) (r2 : c_kind (40 * L + rl_rk (G L) (top L)) = nI (rl_C x - 1)) (r3 : c_who (40 * L + rl_rk (G L) (top L)) = nI (rl_B x)) (r4 : c_key (40 * L + rl_rk (G L) (top L)) = nI (rl_K x))
    (r5 : c_value (40 * L + rl_rk (G L) (top L)) = rl_V x) (r6 : c_tomb (40 * L + rl_rk (G L) (top L)) = nI (rl_T x)) (r7 : c_sequence (40 * L + rl_rk (G L) (top L)) = rl_S x) (r8 : c_state (40 * L + rl_rk (G L) (top L)) = nI (rl_i (rl_C x = 0 ∧ op) 1 0)) {post : Int32 → SX → Prop}
    (k : ∀ c_era c_state2 c_decidedAt c_count c_end c_mark c_eraAt c_eraOf c_eras c_epoch c_latest c_last c_places : Nat → Int32,
      rl_XS f_leader f_inside f_now c_offset c_kind c_who c_key c_value c_tomb c_sequence c_era c_state2 c_decidedAt c_count c_end c_mark a_cleaned a_gone c_eraAt c_eraOf c_eras c_epoch c_latest c_last c_places a_baseEpoch a_baseLatest a_baseLast a_basePlaces a_base a_fetched
        (rl_aI I top L x) (rl_aP O top L op) (rl_aP G top L False) (rl_u top L (top L + 1)) (rl_mq (rl_u top L (top L + 1)) mark fet mem L) cle fet bas mem wor L now →
      post (nI (top L)) (f_leader, f_inside, f_now, f_foundKey, f_foundValue, f_foundTomb, f_foundWho, f_foundSequence, f_foundEra, c_offset, c_kind, c_who, c_key, c_value, c_tomb, c_sequence, c_era, c_state2, c_decidedAt, a_dead, c_count, c_end, c_mark, a_cleaned, a_gone, c_eraAt, c_eraOf, c_eras, c_epoch, c_latest, c_last, c_places, a_baseEpoch, a_baseLatest, a_baseLast, a_basePlaces, a_base, a_fetched)) :
    wpX_appended post (f_leader, f_inside, f_now, f_foundKey, f_foundValue, f_foundTomb, f_foundWho, f_foundSequence, f_foundEra, c_offset, c_kind, c_who, c_key, c_value, c_tomb, c_sequence, a_era, c_state, a_decidedAt, a_dead, upd a_count L (nI (rl_rk (G L) (top L) + 1)), a_end, a_mark, a_cleaned, a_gone, a_eraAt, a_eraOf, a_eras, a_epoch, a_latest, a_last, a_places, a_baseEpoch, a_baseLatest, a_baseLast, a_basePlaces, a_base, a_fetched) (nI (40 * L + rl_rk (G L) (top L))) := by
  obtain ⟨⟨x1, x2, x3⟩, x4, x5, x6⟩ := h
  have eX : f_leader = nI L := x1.trans (rl_ld_t hL)
  obtain ⟨i1, i2, i3, i4, i5, i6, i7, i8, i9, i10⟩ := hi0
  have vL : vp_in (nI L) 3 := vp_in_nI hL (by omega)
  have cL : (nI L).toNatClampNeg = L := nI_clamp (by omega)
  have vi : vp_in (nI (40 * L + rl_rk (G L) (top L))) 120 := vp_in_nI (by omega) (by omega)
  have ci : (nI (40 * L + rl_rk (G L) (top L))).toNatClampNeg = 40 * L + rl_rk (G L) (top L) := nI_clamp (by omega)
  obtain ⟨t1, t2, t3, t4, t5, t6⟩ := x4 L hL
  obtain ⟨n, ea, eo, hn, hER⟩ := x5 L hL
  have hnow : now ≤ 4000 := t1.1
  have hls : rl_ls mark ≤ top L := by have := (i1 L hL).2.2.1; have := rl_ls_le (mark := mark) hL; omega
  have ht60 : rl_u top L (top L + 1) L = top L + 1 := rl_us
  have h60 := (hi.1 L hL).2.1
  rw [ht60] at h60
  have hn2 := rl_ER_n hER (by omega)
  subst eX
  subst x3
  unfold wpX_appended
  simp only [ci, cL, t3]
  refine ⟨vi, nm_e ⟨vL, ?_⟩⟩
  have hER2 : rl_ER a_eraAt a_eraOf a_eras L (top L) (rl_ls mark) (fun o => rl_E (rl_aI I top L x L o)) n ea eo := rl_ER_E hER (fun o ho => by show rl_E (I L o) = rl_E (rl_aI I top L x L o); rw [rl_aI_lt ho])
  refine rl_x_beginEra (E := fun o => rl_E (rl_aI I top L x L o)) hL hER2 (by omega) (by omega) (fun o ho => ?_) (t' := top L + 1) (by omega) (fun o h1 h2 => ?_) hnow (fun h0 => ?_) hls ?_
  · show rl_E (rl_aI I top L x L o) ≤ 4000
    rw [rl_aI_lt ho]; have := (i2 L hL o ho).2.2.2.2; omega
  · have e : o = top L := by omega
    show rl_E (rl_aI I top L x L o) = now
    rw [e, rl_aI_t]; exact hE
  · show rl_E (rl_aI I top L x L (top L - 1)) ≤ now
    rw [rl_aI_lt (show top L - 1 < top L by omega)]; exact (i2 L hL _ (by omega)).2.2.2.2
  intro ca co cs n' ea' eo' hE' hn' hEF
  simp only [cL]
  refine ⟨vL, vL, nm_r (e' := upd a_end L (nI (top L + 1))) (by rw [t3, nI_1]) ?_⟩
  -- the table before settle
  have hTB : rl_TB c_offset c_kind c_who c_key c_value c_tomb c_sequence (upd a_era (40 * L + rl_rk (G L) (top L)) (nI now)) c_state a_decidedAt L (top L) (rl_aI I top L x L) (rl_aP O top L op L) (rl_aP G top L False L) now := by
    refine rl_TB_cg (rl_TB_fr t1 (fun i h1 h2 => ?_)) (fun o ho => (rl_aI_lt ho).symm) (fun o ho => by rw [rl_aP_o o (by omega)]) (fun o ho => by rw [rl_aP_o o (by omega)])
    obtain ⟨n1, n2, n3, n4, n5, n6, n7, n8⟩ := hne i (by omega)
    unfold rl_rw
    rw [n1, n2, n3, n4, n5, n6, n7, n8, pk_un (by omega)]
  have erk : rl_rk (rl_aP G top L False L) (top L) = rl_rk (G L) (top L) := rl_rk_cg (fun o ho => by rw [rl_aP_o o (by omega)])
  have hst : rl_st (rl_aI I top L x L) (rl_aP O top L op L) (top L + 1) (top L) = rl_i (rl_C x = 0 ∧ op) 1 0 := by
    unfold rl_st
    rw [rl_de_last, rl_aI_t, rl_aP_t, rl_if (P := top L + 1 < top L + 1) (Nat.lt_irrefl _)]
  have hPL : rl_PL c_offset c_kind c_who c_key c_value c_tomb c_sequence (upd a_era (40 * L + rl_rk (G L) (top L)) (nI now)) c_state L (top L) (rl_aI I top L x L) (rl_aP O top L op L) (rl_aP G top L False L) now := by
    unfold rl_PL rl_T0
    rw [erk, rl_aI_t, rl_aP_t, hst, pk_us, r1, r2, r3, r4, r5, r6, r7, r8, hE]
    exact ⟨hrk, ht, hW, fun y => y, ⟨rfl, rfl, rfl, rfl, rfl, rfl, rfl, rfl⟩, rfl⟩
  have hPR : rl_PR a_epoch a_latest a_last a_places L (top L) (rl_aI I top L x L) := rl_PR_cg t5 (fun o ho => (rl_aI_lt ho).symm)
  refine rl_x_settle2 hTB hL hPL hPR (congrArg (40 * L + ·) erk) ?_
  intro cs2 cd2 ce cl cla cp hT2 hP2 hf1 hf2
  have hX2 : rl_XS (nI L) f_inside (nI now) c_offset c_kind c_who c_key c_value c_tomb c_sequence (upd a_era (40 * L + rl_rk (G L) (top L)) (nI now)) cs2 cd2 (upd a_count L (nI (rl_rk (G L) (top L) + 1))) (upd a_end L (nI (top L + 1))) a_mark a_cleaned a_gone ca co cs ce cl cla cp a_baseEpoch a_baseLatest a_baseLast a_basePlaces a_base a_fetched
        (rl_aI I top L x) (rl_aP O top L op) (rl_aP G top L False) (rl_u top L (top L + 1)) mark cle fet bas mem wor L now := by
    refine ⟨⟨(rl_ld_t hL).symm, x2, rfl⟩, fun r hr => ?_, fun r hr => ?_, x6⟩
    · by_cases e : r = L
      · subst e
        rw [ht60]
        refine ⟨hT2, ?_, pk_us, t4, hP2, rl_PR_cg t6 (fun o ho => ?_)⟩
        · rw [pk_us, rl_rk_f (by rw [rl_aP_t]; exact fun y => y), erk]
        · have := (i1 r hL).2.2.2.1; have := (i1 r hL).2.2.2.2.1
          exact (rl_aI_lt (by omega)).symm
      · obtain ⟨s1, s2, s3, s4, s5, s6⟩ := x4 r hr
        rw [rl_un e, rl_aI_n r e, rl_aP_n r e, rl_aP_n r e]
        refine ⟨rl_TB_fr s1 (fun i h1 h2 => ?_), by rw [pk_un e]; exact s2, by rw [pk_un e]; exact s3, s4, rl_PR_fr s5 (fun q h1 h2 => hf2 q (by omega)), s6⟩
        have := s1.2.2.1
        obtain ⟨n1, n2, n3, n4, n5, n6, n7, n8⟩ := hne i (by omega)
        obtain ⟨f1, f2⟩ := hf1 i (by omega)
        unfold rl_rw
        rw [n1, n2, n3, n4, n5, n6, n7, f1, f2, n8, pk_un (by omega)]
    · by_cases e : r = L
      · subst e
        rw [ht60]
        have := rl_ER_n hE' (by omega)
        exact ⟨n', ea', eo', by omega, hE'⟩
      · obtain ⟨n0, ea0, eo0, h1, h2⟩ := x5 r hr
        rw [rl_un e, rl_aI_n r e]
        exact ⟨n0, ea0, eo0, h1, rl_ER_cg h2 (by omega) (hEF.1 r e) (fun i h1 h2 => hEF.2 i (by omega))⟩
  refine rl_xs_adv hX2 hi ?_
  intro cm ca2 co2 cs3 hX3
  refine ⟨vi, ?_⟩
  have fin := k _ _ _ _ _ _ _ _ _ _ _ _ _ hX3
  rw [← r1] at fin
  exact fin
end
end
section
theorem rl_h1 : ∀ h : Fin 4, ((nI h.val &&& 1 = 0) ↔ h.val % 2 = 0) ∧ ((nI h.val &&& 2 = 0) ↔ h.val < 2) ∧ nI h.val &&& 1 = nI (h.val % 2) := by decide
theorem rl_how {h : Nat} (hh : h < 4) : ((nI h &&& 1 = 0) ↔ h % 2 = 0) ∧ ((nI h &&& 2 = 0) ↔ h < 2) ∧ nI h &&& 1 = nI (h % 2) := rl_h1 ⟨h, hh⟩
theorem rl_fu_n {G : Nat → Nat → Prop} {top mark : Nat → Nat} {L : Nat} (h : ¬ rl_fu G top mark L) : rl_rk (G L) (top L) < 40 ∧ top L < 600 ∧ top L - rl_ls mark < 60 := by
  refine ⟨Nat.lt_of_not_le fun y => h (Or.inl y), Nat.lt_of_not_le fun y => h (Or.inr (Or.inl y)), Nat.lt_of_not_le fun y => h (Or.inr (Or.inr y))⟩
section
variable {f_leader f_inside f_now f_foundKey f_foundValue f_foundTomb f_foundWho f_foundSequence f_foundEra : Int32} {a_offset a_kind a_who a_key a_value a_tomb a_sequence a_era a_state a_decidedAt a_dead a_count a_end a_mark a_cleaned a_gone a_eraAt a_eraOf a_eras a_epoch a_latest a_last a_places a_baseEpoch a_baseLatest a_baseLast a_basePlaces a_base a_fetched : Nat → Int32} {g_leader g_now : Int32} {b_by b_kind b_seq b_key b_val b_era b_tomb b_gone b_top b_mark b_cleaned b_fetched b_works b_member b_shown : Nat → Int32} {I : Nat → Nat → rl_ID} {O G : Nat → Nat → Prop} {top mark cle fet bas : Nat → Nat} {mem wor : Nat → Prop} {L now : Nat}
/-- place and appended together, for a control record -/
theorem rl_x_ctl {x : rl_ID} {post : Int32 → SX → Prop} (h : rl_XS f_leader f_inside f_now a_offset a_kind a_who a_key a_value a_tomb a_sequence a_era a_state a_decidedAt a_count a_end a_mark a_cleaned a_gone a_eraAt a_eraOf a_eras a_epoch a_latest a_last a_places a_baseEpoch a_baseLatest a_baseLast a_basePlaces a_base a_fetched I O G top mark cle fet bas mem wor L now) (hi0 : rl_IV I G top mark cle fet bas mem L now) (hL : L < 3) (hf : ¬ rl_fu G top mark L) (hW : rl_W x now)
    (hE : rl_E x = now) (hC : rl_C x ≠ 0) (hS : rl_S x = 0) (hK : rl_K x = 0) (hV : rl_V x = 0) (hT : rl_T x = 0)
    (k : ∀ c_offset c_kind c_who c_key c_value c_tomb c_sequence c_era c_state2 c_decidedAt c_count c_end c_mark c_eraAt c_eraOf c_eras c_epoch c_latest c_last c_places : Nat → Int32,
      rl_XS f_leader f_inside f_now c_offset c_kind c_who c_key c_value c_tomb c_sequence c_era c_state2 c_decidedAt c_count c_end c_mark a_cleaned a_gone c_eraAt c_eraOf c_eras c_epoch c_latest c_last c_places a_baseEpoch a_baseLatest a_baseLast a_basePlaces a_base a_fetched
        (rl_aI I top L x) (rl_aP O top L False) (rl_aP G top L False) (rl_u top L (top L + 1)) (rl_mq (rl_u top L (top L + 1)) mark fet mem L) cle fet bas mem wor L now →
      post (nI (top L)) (f_leader, f_inside, f_now, f_foundKey, f_foundValue, f_foundTomb, f_foundWho, f_foundSequence, f_foundEra, c_offset, c_kind, c_who, c_key, c_value, c_tomb, c_sequence, c_era, c_state2, c_decidedAt, a_dead, c_count, c_end, c_mark, a_cleaned, a_gone, c_eraAt, c_eraOf, c_eras, c_epoch, c_latest, c_last, c_places, a_baseEpoch, a_baseLatest, a_baseLast, a_basePlaces, a_base, a_fetched)) :
    wpX_place (fun r u => wpX_appended post u r) (f_leader, f_inside, f_now, f_foundKey, f_foundValue, f_foundTomb, f_foundWho, f_foundSequence, f_foundEra, a_offset, a_kind, a_who, a_key, a_value, a_tomb, a_sequence, a_era, a_state, a_decidedAt, a_dead, a_count, a_end, a_mark, a_cleaned, a_gone, a_eraAt, a_eraOf, a_eras, a_epoch, a_latest, a_last, a_places, a_baseEpoch, a_baseLatest, a_baseLast, a_basePlaces, a_base, a_fetched) (nI L) (nI (rl_C x - 1)) (nI (rl_B x)) (nI (top L)) := by
  obtain ⟨f1, f2, f3⟩ := rl_fu_n hf
  have hB := hW.1
  have hc := hW.2.1
  refine rl_x_place hL f1 (by omega) (by omega) (h.2.1 L hL).2.1 ?_
  refine rl_x_appended (x := x) (op := False) h hi0 hL f2 f1 hW hE (rl_iv_add hi0 hL f2 f3 hW hE (fun y => absurd y hC)) (fun i hi => ⟨pk_un hi, pk_un hi, pk_un hi, pk_un hi, pk_un hi, pk_un hi, pk_un hi, pk_un hi⟩) pk_us pk_us pk_us (pk_us.trans (by rw [hK]; rfl)) (pk_us.trans hV.symm) (pk_us.trans (by rw [hT]; rfl)) (pk_us.trans hS.symm) (pk_us.trans (by rw [rl_if (fun y => y.2)]; rfl)) ?_
  intro c_era c_state2 c_decidedAt c_count c_end c_mark c_eraAt c_eraOf c_eras c_epoch c_latest c_last c_places h2
  exact k _ _ _ _ _ _ _ _ _ _ _ _ _ _ _ _ _ _ _ _ h2
theorem rl_x_full2 {post : Int32 → Prop} (h : rl_XS f_leader f_inside f_now a_offset a_kind a_who a_key a_value a_tomb a_sequence a_era a_state a_decidedAt a_count a_end a_mark a_cleaned a_gone a_eraAt a_eraOf a_eras a_epoch a_latest a_last a_places a_baseEpoch a_baseLatest a_baseLast a_basePlaces a_base a_fetched I O G top mark cle fet bas mem wor L now) (hi0 : rl_IV I G top mark cle fet bas mem L now) (hL : L < 3) (hq : post (rl_b (rl_fu G top mark L))) : wpX_full post (f_leader, f_inside, f_now, f_foundKey, f_foundValue, f_foundTomb, f_foundWho, f_foundSequence, f_foundEra, a_offset, a_kind, a_who, a_key, a_value, a_tomb, a_sequence, a_era, a_state, a_decidedAt, a_dead, a_count, a_end, a_mark, a_cleaned, a_gone, a_eraAt, a_eraOf, a_eras, a_epoch, a_latest, a_last, a_places, a_baseEpoch, a_baseLatest, a_baseLast, a_basePlaces, a_base, a_fetched) := by
  obtain ⟨⟨x1, x2, x3⟩, x4, x5, x6⟩ := h
  obtain ⟨t1, t2, t3, t4⟩ := x4 L hL
  exact rl_x_full hL (x1.trans (rl_ld_t hL)) t1.2.2.1 t1.2.1 t2 t3 (fun r hr => ⟨(x6 r hr).1, (hi0.2.2.2.2.2.2.1 r L hr hL (hi0.2.2.2.2.2.1 hL)).1⟩) hq
theorem rl_y_full2 {post : Int32 → Prop} (h : rl_YS g_leader g_now b_by b_kind b_seq b_key b_val b_era b_tomb b_gone b_top b_mark b_cleaned b_fetched b_works b_member I O G top mark cle fet bas mem wor L now) (hi0 : rl_IV I G top mark cle fet bas mem L now) (hL : L < 3) (hq : post (rl_b (rl_fu G top mark L))) : wpY_full post (g_leader, g_now, b_by, b_kind, b_seq, b_key, b_val, b_era, b_tomb, b_gone, b_top, b_mark, b_cleaned, b_fetched, b_works, b_member, b_shown) := by
  obtain ⟨⟨y1, y2⟩, y3, y4⟩ := h
  exact rl_y_full y3 hL (fun r hr => ⟨(y4 r hr).1, (hi0.2.2.2.2.2.2.1 r L hr hL (hi0.2.2.2.2.2.1 hL)).1⟩) (y1.trans (rl_ld_t hL)) hq
end
theorem i_vc_fence {k : Nat} {u : SX} {v : SY} (I : i_Rel k u v) (hk : k + 7 ≤ 3584) (v1 : Int32) : wpX_fence (fun r u' => wpY_fence (fun r' v' => r' = r ∧ i_Rel (k + 7) u' v') v v1) u v1 := by
  refine rl_el (P := fun u v => wpX_fence (fun r u' => wpY_fence (fun r' v' => r' = r ∧ i_Rel (k + 7) u' v') v v1) u v1) ?_ I
  clear I u v
  intro f_leader f_inside f_now f_foundKey f_foundValue f_foundTomb f_foundWho f_foundSequence f_foundEra a_offset a_kind a_who a_key a_value a_tomb a_sequence a_era a_state a_decidedAt a_dead a_count a_end a_mark a_cleaned a_gone a_eraAt a_eraOf a_eras a_epoch a_latest a_last a_places a_baseEpoch a_baseLatest a_baseLast a_basePlaces a_base a_fetched g_leader g_now b_by b_kind b_seq b_key b_val b_era b_tomb b_gone b_top b_mark b_cleaned b_fetched b_works b_member b_shown I O G top mark cle fet bas mem wor L now h
  have hR := rl_fold7 h
  obtain ⟨hn, hI, hX, hY, hS⟩ := h
  have x1 := hX.1.1
  have y1 := hY.1.1
  unfold wpX_fence
  rcases rl_ix v1 (n := 4) (by omega) with hb | ⟨p, hp, rfl⟩
  · refine rl_outB (n := 4) hb (br_f (by decide) ?_)
    unfold wpY_fence
    exact rl_amB (n := 4) hb (br_t rfl ⟨by trivial, hR⟩)
  refine rl_outG (n := 4) hp (by omega) (br_t rfl ?_)
  by_cases hL : L < 3
  · have eX : f_leader = nI L := x1.trans (rl_ld_t hL)
    have eY : g_leader = nI L := y1.trans (rl_ld_t hL)
    subst eX eY
    have vL : vp_in (nI L) 3 := vp_in_nI hL (by omega)
    have cL : (nI L).toNatClampNeg = L := nI_clamp (by omega)
    have e4 : (4 : Int32) * nI L + nI p = nI (4 * L + p) := by rw [rl_4, nI_add]
    have c4 : (nI (4 * L + p)).toNatClampNeg = 4 * L + p := nI_clamp (by omega)
    refine br_t (nI_pos' (by omega)) (rl_x_full2 hX hI hL (rl_br rfl (fun hf => nm_r e4 ⟨vL, ?_⟩) (fun hf => ?_)))
    · obtain ⟨f1, f2, f3⟩ := rl_fu_n hf
      rw [cL, (hX.2.1 L hL).2.2.1]
      have hnow : now ≤ 4000 := (hX.2.1 L hL).1.1
      have hW : rl_W (p, 4, 0, 0, 0, now, 0) now := ⟨hp, Or.inr (Or.inr (Or.inr rfl)), by show (0 : Nat) < 8; omega, Nat.zero_le _, Nat.le_refl _⟩
      have hIa := rl_iv_add (x := (p, 4, 0, 0, 0, now, 0)) hI hL f2 f3 hW rfl (fun y => by exact absurd (show (4 : Nat) = 0 from y) (by decide))
      refine rl_x_ctl (x := (p, 4, 0, 0, 0, now, 0)) hX hI hL hf hW rfl (by show (4 : Nat) ≠ 0; decide) rfl rfl rfl rfl ?_
      intro c_offset c_kind c_who c_key c_value c_tomb c_sequence c_era c_state2 c_decidedAt c_count c_end c_mark c_eraAt c_eraOf c_eras c_epoch c_latest c_last c_places hX3
      refine ⟨vp_in_nI (by omega) (by omega), ?_⟩
      unfold wpY_fence
      refine rl_amG (n := 4) hp (by omega) (br_f (by decide) (br_t (nI_pos' (by omega)) (rl_y_full2 hY hI hL (rl_br rfl (fun _ => ?_) (fun z => absurd z hf)))))
      refine rl_y_add (x := (p, 4, 0, 0, 0, now, 0)) (op := False) hY hL f2 hW rfl hIa rfl (by show (4 : Int32) = nI (rl_kd 4 False); rw [rl_kdc (by decide)]; rfl) rfl rfl rfl rfl ?_
      intro d_by d_kind d_seq d_key d_val d_era d_tomb d_gone d_top d_mark hY3
      refine rl_y_epoch hY3.2.1 hL hp ⟨?_, i_up (rl_fold (O := rl_aP O top L False) ⟨hn, rl_iv_adv hIa, hX3, hY3, hS⟩)⟩
      have hv := (hX3.2.1 L hL).2.2.2.2.1 p hp
      simp only [rl_pv, rl_pe, Prod.mk.injEq] at hv
      rw [c4]; exact hv.1.symm
    · unfold wpY_fence
      exact rl_amG (n := 4) hp (by omega) (br_f (by decide) (br_t (nI_pos' (by omega)) (rl_y_full2 hY hI hL (rl_br rfl (fun z => absurd hf z) (fun _ => ⟨by trivial, hR⟩)))))
  · have eX : f_leader = -1 := x1.trans (rl_ld_f hL)
    have eY : g_leader = -1 := y1.trans (rl_ld_f hL)
    refine br_f (by rw [eX]; decide) ?_
    unfold wpY_fence
    exact rl_amG (n := 4) hp (by omega) (br_f (by decide) (br_f (by rw [eY]; decide) ⟨by trivial, hR⟩))
theorem i_vc_end {k : Nat} {u : SX} {v : SY} (I : i_Rel k u v) (hk : k + 7 ≤ 3584) (v1 : Int32) (v2 : Int32) (v3 : Int32) : wpX_end (fun r u' => wpY_end (fun r' v' => r' = r ∧ i_Rel (k + 7) u' v') v v1 v2 (lw_bz v3)) u v1 v2 (lw_bz v3) := by
  generalize lw_bz v3 = w3
  refine rl_el (P := fun u v => wpX_end (fun r u' => wpY_end (fun r' v' => r' = r ∧ i_Rel (k + 7) u' v') v v1 v2 w3) u v1 v2 w3) ?_ I
  clear I u v
  intro f_leader f_inside f_now f_foundKey f_foundValue f_foundTomb f_foundWho f_foundSequence f_foundEra a_offset a_kind a_who a_key a_value a_tomb a_sequence a_era a_state a_decidedAt a_dead a_count a_end a_mark a_cleaned a_gone a_eraAt a_eraOf a_eras a_epoch a_latest a_last a_places a_baseEpoch a_baseLatest a_baseLast a_basePlaces a_base a_fetched g_leader g_now b_by b_kind b_seq b_key b_val b_era b_tomb b_gone b_top b_mark b_cleaned b_fetched b_works b_member b_shown I O G top mark cle fet bas mem wor L now h
  have hR := rl_fold7 h
  obtain ⟨hn, hI, hX, hY, hS⟩ := h
  have x1 := hX.1.1
  have y1 := hY.1.1
  unfold wpX_end
  rcases rl_ix v1 (n := 4) (by omega) with hb | ⟨p, hp, rfl⟩
  · refine rl_outB (n := 4) hb (br_f (by decide) ?_)
    unfold wpY_end
    exact rl_amB (n := 4) hb (br_t rfl ⟨by trivial, hR⟩)
  refine rl_outG (n := 4) hp (by omega) (br_t rfl ?_)
  by_cases hL : L < 3
  · have eX : f_leader = nI L := x1.trans (rl_ld_t hL)
    have eY : g_leader = nI L := y1.trans (rl_ld_t hL)
    subst eX eY
    have vL : vp_in (nI L) 3 := vp_in_nI hL (by omega)
    have cL : (nI L).toNatClampNeg = L := nI_clamp (by omega)
    have e4 : (4 : Int32) * nI L + nI p = nI (4 * L + p) := by rw [rl_4, nI_add]
    have c4 : (nI (4 * L + p)).toNatClampNeg = 4 * L + p := nI_clamp (by omega)
    obtain ⟨t1, t2, t3, t4, t5, t6⟩ := hX.2.1 L hL
    have hv := t5 p hp
    simp only [rl_pv, rl_pe, Prod.mk.injEq] at hv
    have ee : a_epoch ((4 : Int32) * nI L + nI p).toNatClampNeg = nI (rl_ps (I L) p (top L)).1 := by rw [e4, c4]; exact hv.1
    have eT : b_top (nI L).toNatClampNeg = nI (top L) := by rw [cL]; exact (hY.2.1.2 L hL).2.1
    have hu : rl_ud (I L) (O L) (G L) (top L) p ≤ top L := (rl_fs_sp _ _).1
    have ht6 := t1.2.1
    refine br_t (nI_pos' (by omega)) ⟨by rw [e4]; exact vp_in_nI (by omega) (by omega), ?_⟩
    rw [ee]
    refine ⟨fun he => rl_x_firstUndecided t1 hL t2 hp ?_, fun he => ?_⟩
    · have hYs : ∀ q : Int32 → SY → Prop, (nI (rl_ud (I L) (O L) (G L) (top L) p) = nI (top L) → q (-9) (nI L, g_now, b_by, b_kind, b_seq, b_key, b_val, b_era, b_tomb, b_gone, b_top, b_mark, b_cleaned, b_fetched, b_works, b_member, b_shown)) → (¬ nI (rl_ud (I L) (O L) (G L) (top L) p) = nI (top L) → wpY_full (fun r_43 => (((r_43 = 0 → (((w3 = 0 → (wY_end_81 q 3 (nI p) (nI L) g_now b_by b_kind b_seq b_key b_val b_era b_tomb b_gone b_top b_mark b_cleaned b_fetched b_works b_member b_shown)) ∧ (¬ w3 = 0 → (wY_end_81 q 2 (nI p) (nI L) g_now b_by b_kind b_seq b_key b_val b_era b_tomb b_gone b_top b_mark b_cleaned b_fetched b_works b_member b_shown))))) ∧ (¬ r_43 = 0 → (q (-10) (nI L, g_now, b_by, b_kind, b_seq, b_key, b_val, b_era, b_tomb, b_gone, b_top, b_mark, b_cleaned, b_fetched, b_works, b_member, b_shown)))))) (nI L, g_now, b_by, b_kind, b_seq, b_key, b_val, b_era, b_tomb, b_gone, b_top, b_mark, b_cleaned, b_fetched, b_works, b_member, b_shown)) → wpY_end q (nI L, g_now, b_by, b_kind, b_seq, b_key, b_val, b_era, b_tomb, b_gone, b_top, b_mark, b_cleaned, b_fetched, b_works, b_member, b_shown) (nI p) v2 w3 := fun q h1 h2 => by
        unfold wpY_end
        refine rl_amG (n := 4) hp (by omega) (br_f (by decide) (br_t (nI_pos' (by omega)) (rl_y_epoch hY.2.1 hL hp (br_t he (rl_y_undecided hY.2.1 hL hp ⟨vL, ?_⟩)))))
        rw [eT]; exact ⟨h1, h2⟩
      by_cases z : rl_ud (I L) (O L) (G L) (top L) p < top L
      · have e : rl_uv (top L) (rl_ud (I L) (O L) (G L) (top L) p) = nI (rl_ud (I L) (O L) (G L) (top L) p) := if_pos z
        rw [e]
        have zn : ¬ nI (rl_ud (I L) (O L) (G L) (top L) p) = nI (top L) := fun y => by
          have := (nI_eq (by omega) (by omega)).mp y; omega
        refine br_t (nI_pos' (by omega)) (rl_x_full2 hX hI hL (rl_br rfl (fun hf => ?_) (fun hf => hYs _ (fun y => absurd y zn) (fun _ => rl_y_full2 hY hI hL (rl_br rfl (fun y => absurd hf y) (fun _ => ⟨rfl, hR⟩))))))
        obtain ⟨f1, f2, f3⟩ := rl_fu_n hf
        have go : ∀ c : Nat, c = 2 ∨ c = 3 → (∀ q : Int32 → SY → Prop, wY_end_81 q (nI c) (nI p) (nI L) g_now b_by b_kind b_seq b_key b_val b_era b_tomb b_gone b_top b_mark b_cleaned b_fetched b_works b_member b_shown → wpY_end q (nI L, g_now, b_by, b_kind, b_seq, b_key, b_val, b_era, b_tomb, b_gone, b_top, b_mark, b_cleaned, b_fetched, b_works, b_member, b_shown) (nI p) v2 w3) → wX_end_79 (fun r u' => wpY_end (fun r' v' => r' = r ∧ i_Rel (k + 7) u' v') (nI L, g_now, b_by, b_kind, b_seq, b_key, b_val, b_era, b_tomb, b_gone, b_top, b_mark, b_cleaned, b_fetched, b_works, b_member, b_shown) (nI p) v2 w3) (nI p) (nI (c - 1)) (nI L) (nI L) f_inside f_now f_foundKey f_foundValue f_foundTomb f_foundWho f_foundSequence f_foundEra a_offset a_kind a_who a_key a_value a_tomb a_sequence a_era a_state a_decidedAt a_dead a_count a_end a_mark a_cleaned a_gone a_eraAt a_eraOf a_eras a_epoch a_latest a_last a_places a_baseEpoch a_baseLatest a_baseLast a_basePlaces a_base a_fetched := fun c hc hq => by
          have hW : rl_W (p, c, 0, 0, 0, now, 0) now := ⟨hp, by show c = 0 ∨ c = 2 ∨ c = 3 ∨ c = 4; omega, by show (0 : Nat) < 8; omega, Nat.zero_le _, Nat.le_refl _⟩
          have hIa := rl_iv_add (x := (p, c, 0, 0, 0, now, 0)) hI hL f2 f3 hW rfl (fun y => by exact absurd (show c = 0 from y) (by omega))
          unfold wX_end_79
          refine ⟨vL, ?_⟩
          rw [cL, t3]
          refine rl_x_ctl (x := (p, c, 0, 0, 0, now, 0)) hX hI hL hf hW rfl (by show c ≠ 0; omega) rfl rfl rfl rfl ?_
          intro c_offset c_kind c_who c_key c_value c_tomb c_sequence c_era c_state2 c_decidedAt c_count c_end c_mark c_eraAt c_eraOf c_eras c_epoch c_latest c_last c_places hX3
          refine hq _ ?_
          unfold wY_end_81
          refine rl_y_add (x := (p, c, 0, 0, 0, now, 0)) (op := False) hY hL f2 hW rfl hIa rfl (by show nI c = nI (rl_kd c False); rw [rl_kdc (by omega)]) rfl rfl rfl rfl ?_
          intro d_by d_kind d_seq d_key d_val d_era d_tomb d_gone d_top d_mark hY3
          exact ⟨rfl, i_up (rl_fold (O := rl_aP O top L False) ⟨hn, rl_iv_adv hIa, hX3, hY3, hS⟩)⟩
        refine ⟨fun hw => go 3 (Or.inr rfl) (fun q hq => hYs q (fun y => absurd y zn) (fun _ => rl_y_full2 hY hI hL (rl_br rfl (fun _ => br_t hw hq) (fun y => absurd y hf)))), fun hw => go 2 (Or.inl rfl) (fun q hq => hYs q (fun y => absurd y zn) (fun _ => rl_y_full2 hY hI hL (rl_br rfl (fun _ => br_f hw hq) (fun y => absurd y hf))))⟩
      · have e : rl_uv (top L) (rl_ud (I L) (O L) (G L) (top L) p) = -1 := if_neg z
        rw [e]
        exact br_f (by decide) (hYs _ (fun _ => ⟨rfl, hR⟩) (fun y => absurd (congrArg nI (show rl_ud (I L) (O L) (G L) (top L) p = top L by omega)) y))
    · unfold wpY_end
      exact rl_amG (n := 4) hp (by omega) (br_f (by decide) (br_t (nI_pos' (by omega)) (rl_y_epoch hY.2.1 hL hp (br_f he ⟨by trivial, hR⟩))))
  · have eX : f_leader = -1 := x1.trans (rl_ld_f hL)
    have eY : g_leader = -1 := y1.trans (rl_ld_f hL)
    refine br_f (by rw [eX]; decide) ?_
    unfold wpY_end
    exact rl_amG (n := 4) hp (by omega) (br_f (by decide) (br_f (by rw [eY]; decide) ⟨by trivial, hR⟩))
end
section
section
variable {f_leader f_inside f_now f_foundKey f_foundValue f_foundTomb f_foundWho f_foundSequence f_foundEra : Int32} {a_offset a_kind a_who a_key a_value a_tomb a_sequence a_era a_state a_decidedAt a_dead a_count a_end a_mark a_cleaned a_gone a_eraAt a_eraOf a_eras a_epoch a_latest a_last a_places a_baseEpoch a_baseLatest a_baseLast a_basePlaces a_base a_fetched : Nat → Int32} {g_leader g_now : Int32} {b_by b_kind b_seq b_key b_val b_era b_tomb b_gone b_top b_mark b_cleaned b_fetched b_works b_member b_shown : Nat → Int32} {I : Nat → Nat → rl_ID} {O G : Nat → Nat → Prop} {top mark cle fet bas : Nat → Nat} {mem wor : Nat → Prop} {L now : Nat}
theorem rl_x_ap139 {p kk h : Nat} {s v : Int32} {post : Int32 → SX → Prop} (hX : rl_XS f_leader f_inside f_now a_offset a_kind a_who a_key a_value a_tomb a_sequence a_era a_state a_decidedAt a_count a_end a_mark a_cleaned a_gone a_eraAt a_eraOf a_eras a_epoch a_latest a_last a_places a_baseEpoch a_baseLatest a_baseLast a_basePlaces a_base a_fetched I O G top mark cle fet bas mem wor L now) (hi0 : rl_IV I G top mark cle fet bas mem L now) (hL : L < 3) (hl : f_leader = nI L)
    (hp : p < 4) (hkk : kk < 8) (hh : h < 4) {x : rl_ID} (ex : x = (p, 0, s, kk, if h < 2 then v else 0, now, if h < 2 then 0 else 1)) (hs : s = rl_nx (rl_ps (I L) p (top L)))
    (kf : rl_fu G top mark L → post (-10) (f_leader, f_inside, f_now, f_foundKey, f_foundValue, f_foundTomb, f_foundWho, f_foundSequence, f_foundEra, a_offset, a_kind, a_who, a_key, a_value, a_tomb, a_sequence, a_era, a_state, a_decidedAt, a_dead, a_count, a_end, a_mark, a_cleaned, a_gone, a_eraAt, a_eraOf, a_eras, a_epoch, a_latest, a_last, a_places, a_baseEpoch, a_baseLatest, a_baseLast, a_basePlaces, a_base, a_fetched))
    (k : ¬ rl_fu G top mark L → ∀ c_offset c_kind c_who c_key c_value c_tomb c_sequence c_era c_state2 c_decidedAt c_count c_end c_mark c_eraAt c_eraOf c_eras c_epoch c_latest c_last c_places : Nat → Int32,
      rl_XS f_leader f_inside f_now c_offset c_kind c_who c_key c_value c_tomb c_sequence c_era c_state2 c_decidedAt c_count c_end c_mark a_cleaned a_gone c_eraAt c_eraOf c_eras c_epoch c_latest c_last c_places a_baseEpoch a_baseLatest a_baseLast a_basePlaces a_base a_fetched
        (rl_aI I top L x) (rl_aP O top L (h % 2 = 1)) (rl_aP G top L False) (rl_u top L (top L + 1)) (rl_mq (rl_u top L (top L + 1)) mark fet mem L) cle fet bas mem wor L now →
      post (nI (top L)) (f_leader, f_inside, f_now, f_foundKey, f_foundValue, f_foundTomb, f_foundWho, f_foundSequence, f_foundEra, c_offset, c_kind, c_who, c_key, c_value, c_tomb, c_sequence, c_era, c_state2, c_decidedAt, a_dead, c_count, c_end, c_mark, a_cleaned, a_gone, c_eraAt, c_eraOf, c_eras, c_epoch, c_latest, c_last, c_places, a_baseEpoch, a_baseLatest, a_baseLast, a_basePlaces, a_base, a_fetched)) :
    wX_append_139 post (nI p) s (nI kk) v (nI h) f_leader f_inside f_now f_foundKey f_foundValue f_foundTomb f_foundWho f_foundSequence f_foundEra a_offset a_kind a_who a_key a_value a_tomb a_sequence a_era a_state a_decidedAt a_dead a_count a_end a_mark a_cleaned a_gone a_eraAt a_eraOf a_eras a_epoch a_latest a_last a_places a_baseEpoch a_baseLatest a_baseLast a_basePlaces a_base a_fetched := by
  have hnow : now ≤ 4000 := (hX.2.1 L hL).1.1
  have hW : rl_W x now := by
    subst ex
    refine ⟨hp, Or.inl rfl, hkk, ?_, Nat.le_refl _⟩
    show (if h < 2 then 0 else 1) ≤ 1
    split <;> omega
  have hE : rl_E x = now := by subst ex; rfl
  have hC : rl_C x = 0 := by subst ex; rfl
  obtain ⟨w1, w2, w3⟩ := rl_how hh
  unfold wX_append_139
  refine rl_x_full2 hX hi0 hL (rl_br rfl (fun hf => ?_) kf)
  obtain ⟨f1, f2, f3⟩ := rl_fu_n hf
  have vL : vp_in (nI L) 3 := vp_in_nI hL (by omega)
  have cL : (nI L).toNatClampNeg = L := nI_clamp (by omega)
  have vi : vp_in (nI (40 * L + rl_rk (G L) (top L))) 120 := vp_in_nI (by omega) (by omega)
  have ci : (nI (40 * L + rl_rk (G L) (top L))).toNatClampNeg = 40 * L + rl_rk (G L) (top L) := nI_clamp (by omega)
  have hIa := rl_iv_add (x := x) hi0 hL f2 f3 hW hE (fun _ => by subst ex; exact hs)
  have key : ∀ T : Nat, T ≤ 1 → rl_T x = T → rl_V x = (if T = 0 then v else 0) →
      wX_append_198 post s v (nI h) (nI (40 * L + rl_rk (G L) (top L))) (nI T) (nI (40 * L + rl_rk (G L) (top L))) f_leader f_inside f_now f_foundKey f_foundValue f_foundTomb f_foundWho f_foundSequence f_foundEra (upd a_offset (40 * L + rl_rk (G L) (top L)) (nI (top L))) (upd a_kind (40 * L + rl_rk (G L) (top L)) (nI 0)) (upd a_who (40 * L + rl_rk (G L) (top L)) (nI p)) (upd (upd a_key (40 * L + rl_rk (G L) (top L)) 0) (40 * L + rl_rk (G L) (top L)) (nI kk)) (upd a_value (40 * L + rl_rk (G L) (top L)) 0) (upd a_tomb (40 * L + rl_rk (G L) (top L)) 0) (upd a_sequence (40 * L + rl_rk (G L) (top L)) 0) a_era (upd a_state (40 * L + rl_rk (G L) (top L)) 0) a_decidedAt a_dead (upd a_count L (nI (rl_rk (G L) (top L) + 1))) a_end a_mark a_cleaned a_gone a_eraAt a_eraOf a_eras a_epoch a_latest a_last a_places a_baseEpoch a_baseLatest a_baseLast a_basePlaces a_base a_fetched := by
    intro T hT eT eV
    have nT : vp_nar .boolean (nI T) = nI T := by
      have : T = 0 ∨ T = 1 := by omega
      rcases this with e | e <;> rw [e] <;> rfl
    have fin : ∀ val : Int32, val = rl_V x → wX_append_221 post s (nI h) (nI (40 * L + rl_rk (G L) (top L))) val (nI (40 * L + rl_rk (G L) (top L))) f_leader f_inside f_now f_foundKey f_foundValue f_foundTomb f_foundWho f_foundSequence f_foundEra (upd a_offset (40 * L + rl_rk (G L) (top L)) (nI (top L))) (upd a_kind (40 * L + rl_rk (G L) (top L)) (nI 0)) (upd a_who (40 * L + rl_rk (G L) (top L)) (nI p)) (upd (upd a_key (40 * L + rl_rk (G L) (top L)) 0) (40 * L + rl_rk (G L) (top L)) (nI kk)) (upd a_value (40 * L + rl_rk (G L) (top L)) 0) (upd (upd a_tomb (40 * L + rl_rk (G L) (top L)) 0) (40 * L + rl_rk (G L) (top L)) (nI T)) (upd a_sequence (40 * L + rl_rk (G L) (top L)) 0) a_era (upd a_state (40 * L + rl_rk (G L) (top L)) 0) a_decidedAt a_dead (upd a_count L (nI (rl_rk (G L) (top L) + 1))) a_end a_mark a_cleaned a_gone a_eraAt a_eraOf a_eras a_epoch a_latest a_last a_places a_baseEpoch a_baseLatest a_baseLast a_basePlaces a_base a_fetched := by
      intro val ev
      have fin2 : ∀ z : Nat, z < 2 → z = rl_i (rl_C x = 0 ∧ (h % 2 = 1)) 1 0 → wX_append_248 post (nI (40 * L + rl_rk (G L) (top L))) (nI z) (nI (40 * L + rl_rk (G L) (top L))) f_leader f_inside f_now f_foundKey f_foundValue f_foundTomb f_foundWho f_foundSequence f_foundEra (upd a_offset (40 * L + rl_rk (G L) (top L)) (nI (top L))) (upd a_kind (40 * L + rl_rk (G L) (top L)) (nI 0)) (upd a_who (40 * L + rl_rk (G L) (top L)) (nI p)) (upd (upd a_key (40 * L + rl_rk (G L) (top L)) 0) (40 * L + rl_rk (G L) (top L)) (nI kk)) (upd (upd a_value (40 * L + rl_rk (G L) (top L)) 0) (40 * L + rl_rk (G L) (top L)) val) (upd (upd a_tomb (40 * L + rl_rk (G L) (top L)) 0) (40 * L + rl_rk (G L) (top L)) (nI T)) (upd (upd a_sequence (40 * L + rl_rk (G L) (top L)) 0) (40 * L + rl_rk (G L) (top L)) s) a_era (upd a_state (40 * L + rl_rk (G L) (top L)) 0) a_decidedAt a_dead (upd a_count L (nI (rl_rk (G L) (top L) + 1))) a_end a_mark a_cleaned a_gone a_eraAt a_eraOf a_eras a_epoch a_latest a_last a_places a_baseEpoch a_baseLatest a_baseLast a_basePlaces a_base a_fetched := by
        intro z hz ez
        unfold wX_append_248
        rw [ci, rl_nar2 (show z < 128 by omega)]
        refine ⟨vi, nm_e ?_⟩
        refine rl_x_appended (x := x) (op := h % 2 = 1) hX hi0 hL f2 f1 hW hE hIa
          (fun i hi => ⟨pk_un hi, pk_un hi, pk_un hi, (pk_un hi).trans (pk_un hi), (pk_un hi).trans (pk_un hi), (pk_un hi).trans (pk_un hi), (pk_un hi).trans (pk_un hi), (pk_un hi).trans (pk_un hi)⟩)
          pk_us (pk_us.trans (by rw [hC])) (pk_us.trans (by subst ex; rfl)) (pk_us.trans (by subst ex; rfl)) (pk_us.trans ev) (pk_us.trans (by rw [eT])) (pk_us.trans (by subst ex; rfl)) (by rw [pk_us, ez]) ?_
        intro c_era c_state2 c_decidedAt c_count c_end c_mark c_eraAt c_eraOf c_eras c_epoch c_latest c_last c_places h2
        exact k hf _ _ _ _ _ _ _ _ _ _ _ _ _ _ _ _ _ _ _ _ h2
      unfold wX_append_221
      rw [ci]
      refine ⟨vi, nm_e ⟨vi, nm_e ⟨fun y => fin2 0 (by omega) ?_, fun y => fin2 1 (by omega) ?_⟩⟩⟩
      · have := w1.mp y
        rw [rl_if (fun z => by have := z.2; omega)]
      · have : ¬ h % 2 = 0 := fun z => y (w1.mpr z)
        rw [rl_it ⟨hC, by omega⟩]
    unfold wX_append_198
    rw [ci, nT]
    refine ⟨vi, nm_e ⟨vi, ?_⟩⟩
    rw [pk_us]
    exact pk_eq T 0 (fun z => fin v (by rw [eV, if_pos z])) (fun z => fin 0 (by rw [eV, if_neg z]))
  subst hl
  refine ⟨vL, ?_⟩
  rw [cL, (hX.2.1 L hL).2.2.1]
  refine rl_x_place (w := 0) (b := p) hL f1 (by omega) (by omega) (hX.2.1 L hL).2.1 ?_
  dsimp only
  rw [ci, rl_nar2 (show kk < 128 by omega)]
  refine ⟨vi, nm_e ⟨fun y => key 0 (by omega) ?_ ?_, fun y => key 1 (by omega) ?_ ?_⟩⟩
  · have := w2.mp y
    subst ex; exact if_pos this
  · have := w2.mp y
    subst ex; exact if_pos this
  · have : ¬ h < 2 := fun z => y (w2.mpr z)
    subst ex; exact if_neg this
  · have : ¬ h < 2 := fun z => y (w2.mpr z)
    subst ex; exact if_neg this
theorem rl_y_ap158 {p kk h : Nat} {s v : Int32} {post : Int32 → SY → Prop} (hY : rl_YS g_leader g_now b_by b_kind b_seq b_key b_val b_era b_tomb b_gone b_top b_mark b_cleaned b_fetched b_works b_member I O G top mark cle fet bas mem wor L now) (hi0 : rl_IV I G top mark cle fet bas mem L now) (hL : L < 3)
    (hp : p < 4) (hkk : kk < 8) (hh : h < 4) {x : rl_ID} (ex : x = (p, 0, s, kk, if h < 2 then v else 0, now, if h < 2 then 0 else 1)) (hs : s = rl_nx (rl_ps (I L) p (top L)))
    (kf : rl_fu G top mark L → post (-10) (g_leader, g_now, b_by, b_kind, b_seq, b_key, b_val, b_era, b_tomb, b_gone, b_top, b_mark, b_cleaned, b_fetched, b_works, b_member, b_shown))
    (k : ¬ rl_fu G top mark L → ∀ c_by c_kind c_seq c_key c_val c_era c_tomb c_gone c_top c_mark : Nat → Int32, rl_YS g_leader g_now c_by c_kind c_seq c_key c_val c_era c_tomb c_gone c_top c_mark b_cleaned b_fetched b_works b_member
      (rl_aI I top L x) (rl_aP O top L (h % 2 = 1)) (rl_aP G top L False) (rl_u top L (top L + 1)) (rl_mq (rl_u top L (top L + 1)) mark fet mem L) cle fet bas mem wor L now →
      post (nI (top L)) (g_leader, g_now, c_by, c_kind, c_seq, c_key, c_val, c_era, c_tomb, c_gone, c_top, c_mark, b_cleaned, b_fetched, b_works, b_member, b_shown)) :
    wY_append_158 post (nI p) s (nI kk) v (nI h) g_leader g_now b_by b_kind b_seq b_key b_val b_era b_tomb b_gone b_top b_mark b_cleaned b_fetched b_works b_member b_shown := by
  have hnow : now ≤ 4000 := hY.2.1.1
  have hW : rl_W x now := by
    subst ex
    refine ⟨hp, Or.inl rfl, hkk, ?_, Nat.le_refl _⟩
    show (if h < 2 then 0 else 1) ≤ 1
    split <;> omega
  have hE : rl_E x = now := by subst ex; rfl
  have hC : rl_C x = 0 := by subst ex; rfl
  obtain ⟨w1, w2, w3⟩ := rl_how hh
  unfold wY_append_158
  refine rl_y_full2 hY hi0 hL (rl_br rfl (fun hf => ?_) kf)
  obtain ⟨f1, f2, f3⟩ := rl_fu_n hf
  have hIa := rl_iv_add (x := x) hi0 hL f2 f3 hW hE (fun _ => by subst ex; exact hs)
  have fin : ∀ T : Nat, ∀ val : Int32, val = rl_V x → T = rl_T x → wY_append_201 post (nI T) val (nI kk) s (nI h &&& 1) (nI p) g_leader g_now b_by b_kind b_seq b_key b_val b_era b_tomb b_gone b_top b_mark b_cleaned b_fetched b_works b_member b_shown := fun T val ev eT => by
    unfold wY_append_201
    refine rl_y_add (x := x) (op := h % 2 = 1) hY hL f2 hW hE hIa (by rw [ex]; rfl) ?_ (by rw [ex]; rfl) (by rw [ex]; rfl) ev (by rw [eT]) ?_
    · rw [w3, hC]
      by_cases z : h % 2 = 1
      · rw [rl_kd1 z, z]
      · rw [rl_kd0 z, show h % 2 = 0 by omega]
    · intro c_by c_kind c_seq c_key c_val c_era c_tomb c_gone c_top c_mark h2
      exact k hf _ _ _ _ _ _ _ _ _ _ h2
  refine pk_le h 1 (fun z => ?_) (fun z => ?_)
  · unfold wY_append_179
    exact br_t rfl (fin 0 v (by rw [ex]; exact (if_pos (show h < 2 by omega)).symm) (by rw [ex]; exact (if_pos (show h < 2 by omega)).symm))
  · unfold wY_append_179
    exact br_f (by decide) (fin 1 0 (by rw [ex]; exact (if_neg (show ¬ h < 2 by omega)).symm) (by rw [ex]; exact (if_neg (show ¬ h < 2 by omega)).symm))
/-! the reference looks for the number among the latest -/
theorem rl_sub_sw {a b c : Int32} : a - b = c ↔ a - c = b := by
  constructor
  · intro h; subst h; grind
  · intro h; subst h; grind
theorem rl_y_ap58 {p : Nat} {s x4 x5 x6 : Int32} {post : Int32 → SY → Prop} (h : rl_YL b_by b_kind b_seq b_key b_val b_era b_tomb b_gone b_top I O G top now) (hL : L < 3) (hl : g_leader = nI L) (hp : p < 4) (hsq : rl_sq (I L) (top L)) {jj : Nat} (hjj : jj ≤ 3)
    (hno : ∀ i, i < jj → i < (rl_ps (I L) p (top L)).2.1 → ¬ (rl_ps (I L) p (top L)).2.2.1 - s = nI i)
    (k1 : jj < 3 → jj < (rl_ps (I L) p (top L)).2.1 ∧ (rl_ps (I L) p (top L)).2.2.1 - s = nI jj ∧ post (nI (rl_pl (rl_ps (I L) p (top L)) jj)) (g_leader, g_now, b_by, b_kind, b_seq, b_key, b_val, b_era, b_tomb, b_gone, b_top, b_mark, b_cleaned, b_fetched, b_works, b_member, b_shown))
    (k3 : jj = 3 → wY_append_58 post (nI p) s x4 x5 x6 g_leader g_now b_by b_kind b_seq b_key b_val b_era b_tomb b_gone b_top b_mark b_cleaned b_fetched b_works b_member b_shown 1 (nI 3)) :
    ∀ n i, i ≤ jj → jj - i = n → wY_append_58 post (nI p) s x4 x5 x6 g_leader g_now b_by b_kind b_seq b_key b_val b_era b_tomb b_gone b_top b_mark b_cleaned b_fetched b_works b_member b_shown (n + 1) (nI i) := by
  have ht := (h.2 L hL).1
  subst hl
  intro n
  induction n with
  | zero =>
    intro i hi hn
    have e : i = jj := by omega
    subst e
    rcases Nat.lt_or_ge i 3 with y | y
    · obtain ⟨z1, z2, z3⟩ := k1 y
      refine pk_le 3 i (fun z => by omega) (fun _ => rl_y_latest h hL hp (by omega) ?_)
      rw [rl_la_ps (I L) p (top L) i y, if_pos z1]
      obtain ⟨q1, q2⟩ := rl_sq_sp hsq i z1
      obtain ⟨v0, -, -, vS, -⟩ := rl_yr h hL q1
      have e2 : nI (620 * L + rl_pl (rl_ps (I L) p (top L)) i) - 620 * nI L = nI (rl_pl (rl_ps (I L) p (top L)) i) := by rw [rl_620, pk_sub (by omega)]; exact congrArg nI (by omega)
      refine br_f (nI_pos (by omega)) ⟨v0, br_t ?_ ?_⟩
      · show b_seq (nI (620 * L + rl_pl (rl_ps (I L) p (top L)) i)).toNatClampNeg = s
        rw [vS, q2]; exact rl_sub_sw.mp z2
      · show post (nI (620 * L + rl_pl (rl_ps (I L) p (top L)) i) - 620 * nI L) _
        rw [e2]; exact z3
    · have e3 : i = 3 := by omega
      subst e3; exact k3 rfl
  | succ n ih =>
    intro i hi hn
    have i3 : i < 3 := by omega
    refine pk_le 3 i (fun z => by omega) (fun _ => rl_y_latest h hL hp (by omega) ?_)
    rw [rl_la_ps (I L) p (top L) i i3]
    have ih1 := ih (i + 1) (by omega) (by omega)
    by_cases z1 : i < (rl_ps (I L) p (top L)).2.1
    · rw [if_pos z1]
      obtain ⟨q1, q2⟩ := rl_sq_sp hsq i z1
      obtain ⟨v0, -, -, vS, -⟩ := rl_yr h hL q1
      refine br_f (nI_pos (by omega)) ⟨v0, br_f ?_ (nm_r (nI_1 _) ih1)⟩
      show ¬ b_seq (nI (620 * L + rl_pl (rl_ps (I L) p (top L)) i)).toNatClampNeg = s
      rw [vS, q2]; exact fun y => hno i (by omega) z1 (rl_sub_sw.mp y)
    · rw [if_neg z1]
      exact br_t (show (-1 : Int32) < 0 by decide) (nm_r (nI_1 _) ih1)
end
theorem i_vc_append {k : Nat} {u : SX} {v : SY} (I : i_Rel k u v) (hk : k + 7 ≤ 3584) (v1 : Int32) (v2 : Int32) (v3 : Int32) (v4 : Int32) (v5 : Int32) (v6 : Int32) : wpX_append (fun r u' => wpY_append (fun r' v' => r' = r ∧ i_Rel (k + 7) u' v') v v1 v2 v3 v4 v5 v6) u v1 v2 v3 v4 v5 v6 := by
  refine rl_el (P := fun u v => wpX_append (fun r u' => wpY_append (fun r' v' => r' = r ∧ i_Rel (k + 7) u' v') v v1 v2 v3 v4 v5 v6) u v1 v2 v3 v4 v5 v6) ?_ I
  clear I u v
  intro f_leader f_inside f_now f_foundKey f_foundValue f_foundTomb f_foundWho f_foundSequence f_foundEra a_offset a_kind a_who a_key a_value a_tomb a_sequence a_era a_state a_decidedAt a_dead a_count a_end a_mark a_cleaned a_gone a_eraAt a_eraOf a_eras a_epoch a_latest a_last a_places a_baseEpoch a_baseLatest a_baseLast a_basePlaces a_base a_fetched g_leader g_now b_by b_kind b_seq b_key b_val b_era b_tomb b_gone b_top b_mark b_cleaned b_fetched b_works b_member b_shown I O G top mark cle fet bas mem wor L now h
  have hR := rl_fold7 h
  obtain ⟨hn, hI, hX, hY, hS⟩ := h
  have x1 := hX.1.1
  have y1 := hY.1.1
  unfold wpX_append
  rcases rl_ix v1 (n := 4) (by omega) with hb | ⟨p, hp, rfl⟩
  · refine rl_outB (n := 4) hb (br_f (by decide) ?_)
    unfold wpY_append
    exact rl_amB (n := 4) hb (br_t rfl ⟨by trivial, hR⟩)
  refine rl_outG (n := 4) hp (by omega) (br_t rfl ?_)
  rcases rl_ix v4 (n := 8) (by omega) with hb | ⟨kk, hkk, rfl⟩
  · refine rl_outB (n := 8) hb (br_f (by decide) ?_)
    unfold wpY_append
    exact rl_amG (n := 4) hp (by omega) (br_f (by decide) (rl_amB (n := 8) hb (br_t rfl ⟨by trivial, hR⟩)))
  refine rl_outG (n := 8) hkk (by omega) (br_t rfl ?_)
  rcases rl_ix v6 (n := 4) (by omega) with hb | ⟨h, hh, rfl⟩
  · refine rl_outB (n := 4) hb (br_f (by decide) ?_)
    unfold wpY_append
    exact rl_amG (n := 4) hp (by omega) (br_f (by decide) (rl_amG (n := 8) hkk (by omega) (br_f (by decide) (rl_amB (n := 4) hb (br_t rfl ⟨by trivial, hR⟩)))))
  refine rl_outG (n := 4) hh (by omega) (br_t rfl ?_)
  by_cases hL : L < 3
  · have eX : f_leader = nI L := x1.trans (rl_ld_t hL)
    have eY : g_leader = nI L := y1.trans (rl_ld_t hL)
    subst eX eY
    have vL : vp_in (nI L) 3 := vp_in_nI hL (by omega)
    have cL : (nI L).toNatClampNeg = L := nI_clamp (by omega)
    have e4 : (4 : Int32) * nI L + nI p = nI (4 * L + p) := by rw [rl_4, nI_add]
    have c4 : (nI (4 * L + p)).toNatClampNeg = 4 * L + p := nI_clamp (by omega)
    have v12 : vp_in (nI (4 * L + p)) 12 := vp_in_nI (by omega) (by omega)
    obtain ⟨t1, t2, t3, t4, t5, t6⟩ := hX.2.1 L hL
    have hv := t5 p hp
    simp only [rl_pv, rl_pe, Prod.mk.injEq] at hv
    obtain ⟨g1, g2, g3, g4, g5, g6⟩ := hv
    have hsq := (hI.1 L hL).2.2.2.2.2.2
    have eT : b_top (nI L).toNatClampNeg = nI (top L) := by rw [cL]; exact (hY.2.1.2 L hL).2.1
    have hu : rl_ud (I L) (O L) (G L) (top L) p ≤ top L := (rl_fs_sp _ _).1
    have ht6 := t1.2.1
    have hlt3 := (rl_ps_in (I L) p (top L)).2.1
    have Yhead : ∀ q : Int32 → SY → Prop, (v2 = nI (rl_ps (I L) p (top L)).1 → ∃ n, wY_append_58 q (nI p) v3 (nI kk) v5 (nI h) (nI L) g_now b_by b_kind b_seq b_key b_val b_era b_tomb b_gone b_top b_mark b_cleaned b_fetched b_works b_member b_shown n (nI 0)) → (¬ v2 = nI (rl_ps (I L) p (top L)).1 → q (-6) (nI L, g_now, b_by, b_kind, b_seq, b_key, b_val, b_era, b_tomb, b_gone, b_top, b_mark, b_cleaned, b_fetched, b_works, b_member, b_shown)) → wpY_append q (nI L, g_now, b_by, b_kind, b_seq, b_key, b_val, b_era, b_tomb, b_gone, b_top, b_mark, b_cleaned, b_fetched, b_works, b_member, b_shown) (nI p) v2 v3 (nI kk) v5 (nI h) := fun q h1 h2 => by
      unfold wpY_append
      exact rl_amG (n := 4) hp (by omega) (br_f (by decide) (rl_amG (n := 8) hkk (by omega) (br_f (by decide) (rl_amG (n := 4) hh (by omega) (br_f (by decide) (br_t (nI_pos' (by omega)) (rl_y_epoch hY.2.1 hL hp ⟨h1, h2⟩)))))))
    refine br_t (nI_pos' (by omega)) (nm_r e4 ⟨v12, ?_⟩)
    rw [c4, g1]
    refine ⟨fun he => ⟨v12, nm_r (e' := (rl_ps (I L) p (top L)).2.2.1 - v3) (by rw [g3]) ?_⟩, fun he => Yhead _ (fun y => absurd y he) (fun _ => ⟨rfl, hR⟩)⟩
    -- whether the number is among the latest
    by_cases hB : ∃ j, j < (rl_ps (I L) p (top L)).2.1 ∧ (rl_ps (I L) p (top L)).2.2.1 - v3 = nI j
    · obtain ⟨j, hj1, hj2⟩ := hB
      have hpl : a_places ((3 : Int32) * nI (4 * L + p) + nI j).toNatClampNeg = nI (rl_pl (rl_ps (I L) p (top L)) j) := by
        rw [rl_3, nI_add, nI_clamp (by omega)]
        have : j = 0 ∨ j = 1 ∨ j = 2 := by omega
        rcases this with e | e | e <;> subst e
        · exact g4
        · exact g5
        · exact g6
      rw [hj2, g2]
      refine br_f (nI_pos (by omega)) ⟨v12, br_f (nI_ge (by omega) (by omega)) ⟨by rw [rl_3, nI_add]; exact vp_in_nI (by omega) (by omega), ?_⟩⟩
      rw [hpl]
      refine Yhead _ (fun _ => ⟨j + 1, ?_⟩) (fun y => absurd he y)
      refine rl_y_ap58 hY.2.1 hL rfl hp hsq (jj := j) (by omega) (fun i hi hi2 y => ?_) (fun _ => ⟨hj1, hj2, rfl, hR⟩) (fun y => by omega) j 0 (by omega) (by omega)
      rw [hj2] at y
      have := (nI_eq (by omega) (by omega)).mp y
      omega
    · have Ytail : ∀ q : Int32 → SY → Prop, wY_append_58 q (nI p) v3 (nI kk) v5 (nI h) (nI L) g_now b_by b_kind b_seq b_key b_val b_era b_tomb b_gone b_top b_mark b_cleaned b_fetched b_works b_member b_shown 1 (nI 3) → wpY_append q (nI L, g_now, b_by, b_kind, b_seq, b_key, b_val, b_era, b_tomb, b_gone, b_top, b_mark, b_cleaned, b_fetched, b_works, b_member, b_shown) (nI p) v2 v3 (nI kk) v5 (nI h) := fun q hq =>
        Yhead q (fun _ => ⟨4, rl_y_ap58 hY.2.1 hL rfl hp hsq (jj := 3) (by omega) (fun i hi hi2 y => hB ⟨i, hi2, y⟩) (fun y => by omega) (fun _ => hq) 3 0 (by omega) (by omega)⟩) (fun y => absurd he y)
      have Ynext : ∀ q : Int32 → SY → Prop, (v3 = rl_nx (rl_ps (I L) p (top L)) → (¬ rl_ud (I L) (O L) (G L) (top L) p < top L → wY_append_158 q (nI p) v3 (nI kk) v5 (nI h) (nI L) g_now b_by b_kind b_seq b_key b_val b_era b_tomb b_gone b_top b_mark b_cleaned b_fetched b_works b_member b_shown) ∧ (rl_ud (I L) (O L) (G L) (top L) p < top L → (nI h &&& 1 = 0 → q (-8) (nI L, g_now, b_by, b_kind, b_seq, b_key, b_val, b_era, b_tomb, b_gone, b_top, b_mark, b_cleaned, b_fetched, b_works, b_member, b_shown)) ∧ (¬ nI h &&& 1 = 0 → wY_append_158 q (nI p) v3 (nI kk) v5 (nI h) (nI L) g_now b_by b_kind b_seq b_key b_val b_era b_tomb b_gone b_top b_mark b_cleaned b_fetched b_works b_member b_shown))) →
          (¬ v3 = rl_nx (rl_ps (I L) p (top L)) → q (-7) (nI L, g_now, b_by, b_kind, b_seq, b_key, b_val, b_era, b_tomb, b_gone, b_top, b_mark, b_cleaned, b_fetched, b_works, b_member, b_shown)) → wpY_append q (nI L, g_now, b_by, b_kind, b_seq, b_key, b_val, b_era, b_tomb, b_gone, b_top, b_mark, b_cleaned, b_fetched, b_works, b_member, b_shown) (nI p) v2 v3 (nI kk) v5 (nI h) := fun q h1 h2 => by
        refine Ytail q (br_t (by decide) (rl_y_nextSeq hY.2.1 hL hp hsq ⟨fun e => rl_y_undecided hY.2.1 hL hp ⟨vL, ?_⟩, h2⟩))
        exact pk_le (top L) (rl_ud (I L) (O L) (G L) (top L) p) (fun z => (h1 e).1 (by omega)) (fun z => (h1 e).2 z) eT
      have X104 : wX_append_104 (fun r u' => wpY_append (fun r' v' => r' = r ∧ i_Rel (k + 7) u' v') (nI L, g_now, b_by, b_kind, b_seq, b_key, b_val, b_era, b_tomb, b_gone, b_top, b_mark, b_cleaned, b_fetched, b_works, b_member, b_shown) (nI p) v2 v3 (nI kk) v5 (nI h)) (nI p) v3 (nI kk) v5 (nI h) (nI (4 * L + p)) (nI L) f_inside f_now f_foundKey f_foundValue f_foundTomb f_foundWho f_foundSequence f_foundEra a_offset a_kind a_who a_key a_value a_tomb a_sequence a_era a_state a_decidedAt a_dead a_count a_end a_mark a_cleaned a_gone a_eraAt a_eraOf a_eras a_epoch a_latest a_last a_places a_baseEpoch a_baseLatest a_baseLast a_basePlaces a_base a_fetched := by
        unfold wX_append_104
        refine rl_x_next hp hL t5 ⟨fun hs => ?_, fun hs => Ynext _ (fun y => absurd y hs) (fun _ => ⟨rfl, hR⟩)⟩
        -- the record is added, or the log is full
        have X139 : (∀ q : Int32 → SY → Prop, wY_append_158 q (nI p) v3 (nI kk) v5 (nI h) (nI L) g_now b_by b_kind b_seq b_key b_val b_era b_tomb b_gone b_top b_mark b_cleaned b_fetched b_works b_member b_shown → wpY_append q (nI L, g_now, b_by, b_kind, b_seq, b_key, b_val, b_era, b_tomb, b_gone, b_top, b_mark, b_cleaned, b_fetched, b_works, b_member, b_shown) (nI p) v2 v3 (nI kk) v5 (nI h)) → wX_append_139 (fun r u' => wpY_append (fun r' v' => r' = r ∧ i_Rel (k + 7) u' v') (nI L, g_now, b_by, b_kind, b_seq, b_key, b_val, b_era, b_tomb, b_gone, b_top, b_mark, b_cleaned, b_fetched, b_works, b_member, b_shown) (nI p) v2 v3 (nI kk) v5 (nI h)) (nI p) v3 (nI kk) v5 (nI h) (nI L) f_inside f_now f_foundKey f_foundValue f_foundTomb f_foundWho f_foundSequence f_foundEra a_offset a_kind a_who a_key a_value a_tomb a_sequence a_era a_state a_decidedAt a_dead a_count a_end a_mark a_cleaned a_gone a_eraAt a_eraOf a_eras a_epoch a_latest a_last a_places a_baseEpoch a_baseLatest a_baseLast a_basePlaces a_base a_fetched := by
          intro hq
          refine rl_x_ap139 (x := (p, 0, v3, kk, if h < 2 then v5 else 0, now, if h < 2 then 0 else 1)) hX hI hL rfl hp hkk hh rfl hs (fun hf => hq _ (rl_y_ap158 hY hI hL hp hkk hh rfl hs (fun _ => ⟨rfl, hR⟩) (fun y => absurd hf y))) ?_
          intro hf c_offset c_kind c_who c_key c_value c_tomb c_sequence c_era c_state2 c_decidedAt c_count c_end c_mark c_eraAt c_eraOf c_eras c_epoch c_latest c_last c_places hX3
          refine hq _ (rl_y_ap158 hY hI hL hp hkk hh rfl hs (fun y => absurd y hf) ?_)
          intro _ d_by d_kind d_seq d_key d_val d_era d_tomb d_gone d_top d_mark hY3
          obtain ⟨f1, f2, f3⟩ := rl_fu_n hf
          have hW : rl_W (p, 0, v3, kk, if h < 2 then v5 else 0, now, if h < 2 then 0 else 1) now := by
            refine ⟨hp, Or.inl rfl, hkk, ?_, Nat.le_refl _⟩
            show (if h < 2 then 0 else 1) ≤ 1
            split <;> omega
          have hIa := rl_iv_add (x := (p, 0, v3, kk, if h < 2 then v5 else 0, now, if h < 2 then 0 else 1)) hI hL f2 f3 hW rfl (fun _ => hs)
          exact ⟨rfl, i_up (rl_fold (O := rl_aP O top L (h % 2 = 1)) ⟨hn, rl_iv_adv hIa, hX3, hY3, hS⟩)⟩
        refine ⟨fun hev => rl_x_firstUndecided t1 hL t2 hp ?_, fun hev => X139 (fun q hq => Ynext q (fun _ => ⟨fun _ => hq, fun _ => br_f hev hq⟩) (fun y => absurd hs y))⟩
        by_cases z : rl_ud (I L) (O L) (G L) (top L) p < top L
        · have e : rl_uv (top L) (rl_ud (I L) (O L) (G L) (top L) p) = nI (rl_ud (I L) (O L) (G L) (top L) p) := if_pos z
          rw [e]
          exact br_f (nI_pos (by omega)) (Ynext _ (fun _ => ⟨fun y => absurd z y, fun _ => br_t hev ⟨rfl, hR⟩⟩) (fun y => absurd hs y))
        · have e : rl_uv (top L) (rl_ud (I L) (O L) (G L) (top L) p) = -1 := if_neg z
          rw [e]
          exact br_t (by decide) (X139 (fun q hq => Ynext q (fun _ => ⟨fun _ => hq, fun y => absurd y z⟩) (fun y => absurd hs y)))
      refine ⟨fun _ => X104, fun h0 => ⟨v12, ?_⟩⟩
      rw [g2]
      refine ⟨fun _ => X104, fun hle => ?_⟩
      exfalso
      obtain ⟨j, hj, ej⟩ := nI_of h0
      rw [ej] at hle
      have : ¬ (rl_ps (I L) p (top L)).2.1 ≤ j := fun y => hle (nI_le y hj)
      exact hB ⟨j, by omega, ej⟩
  · have eX : f_leader = -1 := x1.trans (rl_ld_f hL)
    have eY : g_leader = -1 := y1.trans (rl_ld_f hL)
    refine br_f (by rw [eX]; decide) ?_
    unfold wpY_append
    exact rl_amG (n := 4) hp (by omega) (br_f (by decide) (rl_amG (n := 8) hkk (by omega) (br_f (by decide) (rl_amG (n := 4) hh (by omega) (br_f (by decide) (br_f (by rw [eY]; decide) ⟨by trivial, hR⟩))))))
end
section
theorem rl_pv_eq {a_epoch a_latest a_last a_places c_epoch c_latest c_last c_places : Nat → Int32} {q s : Nat} (h1 : c_epoch q = a_epoch s) (h2 : c_latest q = a_latest s) (h3 : c_last q = a_last s) (h4 : c_places (3 * q) = a_places (3 * s)) (h5 : c_places (3 * q + 1) = a_places (3 * s + 1)) (h6 : c_places (3 * q + 2) = a_places (3 * s + 2)) :
    rl_pv c_epoch c_latest c_last c_places q = rl_pv a_epoch a_latest a_last a_places s := by
  unfold rl_pv; rw [h1, h2, h3, h4, h5, h6]
section
variable {f_leader f_inside f_now f_foundKey f_foundValue f_foundTomb f_foundWho f_foundSequence f_foundEra : Int32} {a_offset a_kind a_who a_key a_value a_tomb a_sequence a_era a_state a_decidedAt a_dead a_count a_end a_mark a_cleaned a_gone a_eraAt a_eraOf a_eras a_epoch a_latest a_last a_places a_baseEpoch a_baseLatest a_baseLast a_basePlaces a_base a_fetched : Nat → Int32} {I : Nat → rl_ID} {O G : Nat → Prop} {f r t b now : Nat}
/-! recall -/
theorem rl_x_rc66 {J2 : Int32 → (Nat → Int32) → (Nat → Int32) → (Nat → Int32) → (Nat → Int32) → (Nat → Int32) → (Nat → Int32) → (Nat → Int32) → (Nat → Int32) → (Nat → Int32) → (Nat → Int32) → (Nat → Int32) → (Nat → Int32) → (Nat → Int32) → (Nat → Int32) → (Nat → Int32) → (Nat → Int32) → (Nat → Int32) → (Nat → Int32) → (Nat → Int32) → (Nat → Int32) → (Nat → Int32) → (Nat → Int32) → (Nat → Int32) → (Nat → Int32) → (Nat → Int32) → (Nat → Int32) → (Nat → Int32) → (Nat → Int32) → (Nat → Int32) → Prop} {post : SX → Prop} {x1 x2 : Int32} {p q s : Nat} (hq : q < 12) (hs : s < 12)
    (k : J2 (nI (p + 1)) a_offset a_kind a_who a_key a_value a_tomb a_sequence a_era a_state a_decidedAt a_dead a_count a_end a_mark a_cleaned a_gone a_eraAt a_eraOf a_eras a_epoch a_latest a_last (upd (upd (upd a_places (3 * q) (a_basePlaces (3 * s))) (3 * q + 1) (a_basePlaces (3 * s + 1))) (3 * q + 2) (a_basePlaces (3 * s + 2))) a_baseEpoch a_baseLatest a_baseLast a_basePlaces a_base a_fetched) :
    wX_recall_66 post J2 x1 x2 (nI p) (nI q) (nI s) f_leader f_inside f_now f_foundKey f_foundValue f_foundTomb f_foundWho f_foundSequence f_foundEra 4 0 a_offset a_kind a_who a_key a_value a_tomb a_sequence a_era a_state a_decidedAt a_dead a_count a_end a_mark a_cleaned a_gone a_eraAt a_eraOf a_eras a_epoch a_latest a_last a_places a_baseEpoch a_baseLatest a_baseLast a_basePlaces a_base a_fetched := by
  have st : ∀ (n i : Nat) (c_places : Nat → Int32), i < 3 → wX_recall_66 post J2 x1 x2 (nI p) (nI q) (nI s) f_leader f_inside f_now f_foundKey f_foundValue f_foundTomb f_foundWho f_foundSequence f_foundEra n (nI (i + 1)) a_offset a_kind a_who a_key a_value a_tomb a_sequence a_era a_state a_decidedAt a_dead a_count a_end a_mark a_cleaned a_gone a_eraAt a_eraOf a_eras a_epoch a_latest a_last (upd c_places (3 * q + i) (a_basePlaces (3 * s + i))) a_baseEpoch a_baseLatest a_baseLast a_basePlaces a_base a_fetched → wX_recall_66 post J2 x1 x2 (nI p) (nI q) (nI s) f_leader f_inside f_now f_foundKey f_foundValue f_foundTomb f_foundWho f_foundSequence f_foundEra (n + 1) (nI i) a_offset a_kind a_who a_key a_value a_tomb a_sequence a_era a_state a_decidedAt a_dead a_count a_end a_mark a_cleaned a_gone a_eraAt a_eraOf a_eras a_epoch a_latest a_last c_places a_baseEpoch a_baseLatest a_baseLast a_basePlaces a_base a_fetched := by
    intro n i cp hi h
    have e1 : (3 : Int32) * nI q + nI i = nI (3 * q + i) := by rw [rl_3, nI_add]
    have e2 : (3 : Int32) * nI s + nI i = nI (3 * s + i) := by rw [rl_3, nI_add]
    refine pk_le 3 i (fun z => by omega) (fun _ => ?_)
    rw [e1, e2, nI_clamp (show 3 * q + i < 2 ^ 31 by omega), nI_clamp (show 3 * s + i < 2 ^ 31 by omega)]
    exact ⟨vp_in_nI (by omega) (by omega), vp_in_nI (by omega) (by omega), nm_e (nm_r (nI_1 _) h)⟩
  refine st 3 0 a_places (by omega) (st 2 1 _ (by omega) (st 1 2 _ (by omega) (pk_le 3 3 (fun _ => nm_r (nI_1 _) k) (fun z => by omega))))
theorem rl_x_rc2 (hf : f < 3) (hr : r < 3) (hB : rl_PR a_baseEpoch a_baseLatest a_baseLast a_basePlaces r b I) {post : SX → Prop}
    (k : ∀ c_epoch c_latest c_last c_places : Nat → Int32, rl_PR c_epoch c_latest c_last c_places f b I → (∀ q, (q < 4 * f ∨ 4 * f + 4 ≤ q) → rl_pv c_epoch c_latest c_last c_places q = rl_pv a_epoch a_latest a_last a_places q) → post (f_leader, f_inside, f_now, f_foundKey, f_foundValue, f_foundTomb, f_foundWho, f_foundSequence, f_foundEra, a_offset, a_kind, a_who, a_key, a_value, a_tomb, a_sequence, a_era, a_state, a_decidedAt, a_dead, a_count, a_end, a_mark, a_cleaned, a_gone, a_eraAt, a_eraOf, a_eras, c_epoch, c_latest, c_last, c_places, a_baseEpoch, a_baseLatest, a_baseLast, a_basePlaces, a_base, a_fetched)) :
    ∀ n p (c_epoch c_latest c_last c_places : Nat → Int32), p ≤ 4 → 4 - p < n → (∀ i, i < p → rl_pv c_epoch c_latest c_last c_places (4 * f + i) = rl_pe (rl_ps I i b)) → (∀ q, (q < 4 * f ∨ 4 * f + 4 ≤ q) → rl_pv c_epoch c_latest c_last c_places q = rl_pv a_epoch a_latest a_last a_places q) →
      wX_recall_2 post (nI f) (nI r) f_leader f_inside f_now f_foundKey f_foundValue f_foundTomb f_foundWho f_foundSequence f_foundEra n (nI p) a_offset a_kind a_who a_key a_value a_tomb a_sequence a_era a_state a_decidedAt a_dead a_count a_end a_mark a_cleaned a_gone a_eraAt a_eraOf a_eras c_epoch c_latest c_last c_places a_baseEpoch a_baseLatest a_baseLast a_basePlaces a_base a_fetched := by
  intro n
  induction n with
  | zero => intro p ce cl ca cp h1 h2; omega
  | succ n ih =>
    intro p ce cl ca cp hp hn hlo hfr
    refine pk_le 4 p (fun z => ?_) (fun z => ?_)
    · have e : p = 4 := by omega
      subst e; exact k ce cl ca cp hlo hfr
    · have e1 : (4 : Int32) * nI f + nI p = nI (4 * f + p) := by rw [rl_4, nI_add]
      have e2 : (4 : Int32) * nI r + nI p = nI (4 * r + p) := by rw [rl_4, nI_add]
      have v1 : vp_in (nI (4 * f + p)) 12 := vp_in_nI (by omega) (by omega)
      have v2 : vp_in (nI (4 * r + p)) 12 := vp_in_nI (by omega) (by omega)
      have hv := hB p z
      have hv0 := hv
      simp only [rl_pv, rl_pe, Prod.mk.injEq] at hv
      have hl3 := (rl_ps_in I p b).2.1
      refine nm_r e1 (nm_r e2 ?_)
      rw [nI_clamp (show 4 * f + p < 2 ^ 31 by omega), nI_clamp (show 4 * r + p < 2 ^ 31 by omega), hv.2.1, rl_nar1 (by omega), ← hv.2.1]
      refine ⟨v2, v1, nm_e ⟨v2, v1, nm_e ⟨v2, v1, nm_e ⟨4, rl_x_rc66 (by omega) (by omega) ?_⟩⟩⟩⟩
      have own : rl_pv (upd ce (4 * f + p) (a_baseEpoch (4 * r + p))) (upd cl (4 * f + p) (a_baseLatest (4 * r + p))) (upd ca (4 * f + p) (a_baseLast (4 * r + p))) (upd (upd (upd cp (3 * (4 * f + p)) (a_basePlaces (3 * (4 * r + p)))) (3 * (4 * f + p) + 1) (a_basePlaces (3 * (4 * r + p) + 1))) (3 * (4 * f + p) + 2) (a_basePlaces (3 * (4 * r + p) + 2))) (4 * f + p) = rl_pv a_baseEpoch a_baseLatest a_baseLast a_basePlaces (4 * r + p) := by
        refine rl_pv_eq pk_us pk_us pk_us ?_ ?_ pk_us
        · rw [pk_un (by omega), pk_un (by omega), pk_us]
        · rw [pk_un (by omega), pk_us]
      have oth : ∀ q, q ≠ 4 * f + p → rl_pv (upd ce (4 * f + p) (a_baseEpoch (4 * r + p))) (upd cl (4 * f + p) (a_baseLatest (4 * r + p))) (upd ca (4 * f + p) (a_baseLast (4 * r + p))) (upd (upd (upd cp (3 * (4 * f + p)) (a_basePlaces (3 * (4 * r + p)))) (3 * (4 * f + p) + 1) (a_basePlaces (3 * (4 * r + p) + 1))) (3 * (4 * f + p) + 2) (a_basePlaces (3 * (4 * r + p) + 2))) q = rl_pv ce cl ca cp q := fun q hq => by
        refine rl_pv_eq (pk_un hq) (pk_un hq) (pk_un hq) ?_ ?_ ?_ <;> rw [pk_un (by omega), pk_un (by omega), pk_un (by omega)]
      refine ih (p + 1) _ _ _ _ (by omega) (by omega) (fun i hi => ?_) (fun q hq => ?_)
      · by_cases e : i = p
        · subst e; rw [own]; exact hv0
        · rw [oth _ (by omega)]; exact hlo i (by omega)
      · rw [oth q (by omega)]; exact hfr q hq
theorem rl_x_recall (hf : f < 3) (hr : r < 3) (hB : rl_PR a_baseEpoch a_baseLatest a_baseLast a_basePlaces r b I) {post : SX → Prop}
    (k : ∀ c_epoch c_latest c_last c_places : Nat → Int32, rl_PR c_epoch c_latest c_last c_places f b I → (∀ q, (q < 4 * f ∨ 4 * f + 4 ≤ q) → rl_pv c_epoch c_latest c_last c_places q = rl_pv a_epoch a_latest a_last a_places q) → post (f_leader, f_inside, f_now, f_foundKey, f_foundValue, f_foundTomb, f_foundWho, f_foundSequence, f_foundEra, a_offset, a_kind, a_who, a_key, a_value, a_tomb, a_sequence, a_era, a_state, a_decidedAt, a_dead, a_count, a_end, a_mark, a_cleaned, a_gone, a_eraAt, a_eraOf, a_eras, c_epoch, c_latest, c_last, c_places, a_baseEpoch, a_baseLatest, a_baseLast, a_basePlaces, a_base, a_fetched)) :
    wpX_recall post (f_leader, f_inside, f_now, f_foundKey, f_foundValue, f_foundTomb, f_foundWho, f_foundSequence, f_foundEra, a_offset, a_kind, a_who, a_key, a_value, a_tomb, a_sequence, a_era, a_state, a_decidedAt, a_dead, a_count, a_end, a_mark, a_cleaned, a_gone, a_eraAt, a_eraOf, a_eras, a_epoch, a_latest, a_last, a_places, a_baseEpoch, a_baseLatest, a_baseLast, a_basePlaces, a_base, a_fetched) (nI f) (nI r) := by
  unfold wpX_recall
  exact ⟨5, rl_x_rc2 hf hr hB k 5 0 a_epoch a_latest a_last a_places (by omega) (by omega) (fun i hi => by omega) (fun q _ => rfl)⟩
/-! rebase -/
theorem rl_x_rb61 {J11 : Int32 → (Nat → Int32) → (Nat → Int32) → (Nat → Int32) → (Nat → Int32) → (Nat → Int32) → (Nat → Int32) → (Nat → Int32) → (Nat → Int32) → (Nat → Int32) → (Nat → Int32) → (Nat → Int32) → (Nat → Int32) → (Nat → Int32) → (Nat → Int32) → (Nat → Int32) → (Nat → Int32) → (Nat → Int32) → (Nat → Int32) → (Nat → Int32) → (Nat → Int32) → (Nat → Int32) → (Nat → Int32) → (Nat → Int32) → (Nat → Int32) → (Nat → Int32) → (Nat → Int32) → (Nat → Int32) → (Nat → Int32) → (Nat → Int32) → Prop} {post : SX → Prop} {x1 : Int32} {q : Nat} (hq : q < 12)
    (k : J11 (nI (q + 1)) a_offset a_kind a_who a_key a_value a_tomb a_sequence a_era a_state a_decidedAt a_dead a_count a_end a_mark a_cleaned a_gone a_eraAt a_eraOf a_eras a_epoch a_latest a_last a_places a_baseEpoch a_baseLatest a_baseLast (upd (upd (upd a_basePlaces (3 * q) (a_places (3 * q))) (3 * q + 1) (a_places (3 * q + 1))) (3 * q + 2) (a_places (3 * q + 2))) a_base a_fetched) :
    wX_rebase_61 post J11 x1 (nI q) f_leader f_inside f_now f_foundKey f_foundValue f_foundTomb f_foundWho f_foundSequence f_foundEra 4 (nI (3 * q)) a_offset a_kind a_who a_key a_value a_tomb a_sequence a_era a_state a_decidedAt a_dead a_count a_end a_mark a_cleaned a_gone a_eraAt a_eraOf a_eras a_epoch a_latest a_last a_places a_baseEpoch a_baseLatest a_baseLast a_basePlaces a_base a_fetched := by
  have e3 : (3 : Int32) * nI q + 3 = nI (3 * q + 3) := by rw [rl_3]; exact nI_add (3 * q) 3
  have st : ∀ (n i : Nat) (c_places : Nat → Int32), i < 3 → wX_rebase_61 post J11 x1 (nI q) f_leader f_inside f_now f_foundKey f_foundValue f_foundTomb f_foundWho f_foundSequence f_foundEra n (nI (3 * q + i + 1)) a_offset a_kind a_who a_key a_value a_tomb a_sequence a_era a_state a_decidedAt a_dead a_count a_end a_mark a_cleaned a_gone a_eraAt a_eraOf a_eras a_epoch a_latest a_last a_places a_baseEpoch a_baseLatest a_baseLast (upd c_places (3 * q + i) (a_places (3 * q + i))) a_base a_fetched → wX_rebase_61 post J11 x1 (nI q) f_leader f_inside f_now f_foundKey f_foundValue f_foundTomb f_foundWho f_foundSequence f_foundEra (n + 1) (nI (3 * q + i)) a_offset a_kind a_who a_key a_value a_tomb a_sequence a_era a_state a_decidedAt a_dead a_count a_end a_mark a_cleaned a_gone a_eraAt a_eraOf a_eras a_epoch a_latest a_last a_places a_baseEpoch a_baseLatest a_baseLast c_places a_base a_fetched := by
    intro n i cp hi h
    have v : vp_in (nI (3 * q + i)) 36 := vp_in_nI (by omega) (by omega)
    refine pk_le (3 * q + 3) (3 * q + i) (fun z => by omega) (fun _ => ?_) e3
    rw [nI_clamp (show 3 * q + i < 2 ^ 31 by omega)]
    exact ⟨v, v, nm_e (nm_r (nI_1 _) h)⟩
  refine st 3 0 a_basePlaces (by omega) (st 2 1 _ (by omega) (st 1 2 _ (by omega) (pk_le (3 * q + 3) (3 * q + 3) (fun _ => nm_r (nI_1 _) k) (fun z => by omega) e3)))
theorem rl_x_rb11 (hf : f < 3) (hB : rl_PR a_epoch a_latest a_last a_places f b I) {post : SX → Prop}
    (k : ∀ c_baseEpoch c_baseLatest c_baseLast c_basePlaces : Nat → Int32, rl_PR c_baseEpoch c_baseLatest c_baseLast c_basePlaces f b I → (∀ q, (q < 4 * f ∨ 4 * f + 4 ≤ q) → rl_pv c_baseEpoch c_baseLatest c_baseLast c_basePlaces q = rl_pv a_baseEpoch a_baseLatest a_baseLast a_basePlaces q) → post (f_leader, f_inside, f_now, f_foundKey, f_foundValue, f_foundTomb, f_foundWho, f_foundSequence, f_foundEra, a_offset, a_kind, a_who, a_key, a_value, a_tomb, a_sequence, a_era, a_state, a_decidedAt, a_dead, a_count, a_end, a_mark, a_cleaned, a_gone, a_eraAt, a_eraOf, a_eras, a_epoch, a_latest, a_last, a_places, c_baseEpoch, c_baseLatest, c_baseLast, c_basePlaces, a_base, a_fetched)) :
    ∀ n p (c_baseEpoch c_baseLatest c_baseLast c_basePlaces : Nat → Int32), p ≤ 4 → 4 - p < n → (∀ i, i < p → rl_pv c_baseEpoch c_baseLatest c_baseLast c_basePlaces (4 * f + i) = rl_pe (rl_ps I i b)) → (∀ q, (q < 4 * f ∨ 4 * f + 4 ≤ q) → rl_pv c_baseEpoch c_baseLatest c_baseLast c_basePlaces q = rl_pv a_baseEpoch a_baseLatest a_baseLast a_basePlaces q) →
      wX_rebase_11 post (nI f) f_leader f_inside f_now f_foundKey f_foundValue f_foundTomb f_foundWho f_foundSequence f_foundEra n (nI (4 * f + p)) a_offset a_kind a_who a_key a_value a_tomb a_sequence a_era a_state a_decidedAt a_dead a_count a_end a_mark a_cleaned a_gone a_eraAt a_eraOf a_eras a_epoch a_latest a_last a_places c_baseEpoch c_baseLatest c_baseLast c_basePlaces a_base a_fetched := by
  have e4 : (4 : Int32) * nI f + 4 = nI (4 * f + 4) := by rw [rl_4]; exact nI_add (4 * f) 4
  intro n
  induction n with
  | zero => intro p ce cl ca cp h1 h2; omega
  | succ n ih =>
    intro p ce cl ca cp hp hn hlo hfr
    refine pk_le (4 * f + 4) (4 * f + p) (fun z => ?_) (fun z => ?_) e4
    · have e : p = 4 := by omega
      subst e; exact k ce cl ca cp hlo hfr
    · have v1 : vp_in (nI (4 * f + p)) 12 := vp_in_nI (by omega) (by omega)
      have hv := hB p (by omega)
      have hv0 := hv
      simp only [rl_pv, rl_pe, Prod.mk.injEq] at hv
      have hl3 := (rl_ps_in I p b).2.1
      rw [nI_clamp (show 4 * f + p < 2 ^ 31 by omega), hv.2.1, rl_nar1 (by omega), ← hv.2.1]
      refine ⟨v1, v1, nm_e ⟨v1, v1, nm_e ⟨v1, v1, nm_e (nm_r (rl_3 _) ⟨4, rl_x_rb61 (by omega) ?_⟩)⟩⟩⟩
      have own : rl_pv (upd ce (4 * f + p) (a_epoch (4 * f + p))) (upd cl (4 * f + p) (a_latest (4 * f + p))) (upd ca (4 * f + p) (a_last (4 * f + p))) (upd (upd (upd cp (3 * (4 * f + p)) (a_places (3 * (4 * f + p)))) (3 * (4 * f + p) + 1) (a_places (3 * (4 * f + p) + 1))) (3 * (4 * f + p) + 2) (a_places (3 * (4 * f + p) + 2))) (4 * f + p) = rl_pv a_epoch a_latest a_last a_places (4 * f + p) := by
        refine rl_pv_eq pk_us pk_us pk_us ?_ ?_ pk_us
        · rw [pk_un (by omega), pk_un (by omega), pk_us]
        · rw [pk_un (by omega), pk_us]
      have oth : ∀ q, q ≠ 4 * f + p → rl_pv (upd ce (4 * f + p) (a_epoch (4 * f + p))) (upd cl (4 * f + p) (a_latest (4 * f + p))) (upd ca (4 * f + p) (a_last (4 * f + p))) (upd (upd (upd cp (3 * (4 * f + p)) (a_places (3 * (4 * f + p)))) (3 * (4 * f + p) + 1) (a_places (3 * (4 * f + p) + 1))) (3 * (4 * f + p) + 2) (a_places (3 * (4 * f + p) + 2))) q = rl_pv ce cl ca cp q := fun q hq => by
        refine rl_pv_eq (pk_un hq) (pk_un hq) (pk_un hq) ?_ ?_ ?_ <;> rw [pk_un (by omega), pk_un (by omega), pk_un (by omega)]
      refine ih (p + 1) _ _ _ _ (by omega) (by omega) (fun i hi => ?_) (fun q hq => ?_)
      · by_cases e : i = p
        · subst e; rw [own]; exact hv0
        · rw [oth _ (by omega)]; exact hlo i (by omega)
      · rw [oth q (by omega)]; exact hfr q hq
theorem rl_x_rebase (hf : f < 3) (hB : rl_PR a_epoch a_latest a_last a_places f b I) {post : SX → Prop}
    (k : ∀ c_baseEpoch c_baseLatest c_baseLast c_basePlaces : Nat → Int32, rl_PR c_baseEpoch c_baseLatest c_baseLast c_basePlaces f b I → (∀ q, (q < 4 * f ∨ 4 * f + 4 ≤ q) → rl_pv c_baseEpoch c_baseLatest c_baseLast c_basePlaces q = rl_pv a_baseEpoch a_baseLatest a_baseLast a_basePlaces q) → post (f_leader, f_inside, f_now, f_foundKey, f_foundValue, f_foundTomb, f_foundWho, f_foundSequence, f_foundEra, a_offset, a_kind, a_who, a_key, a_value, a_tomb, a_sequence, a_era, a_state, a_decidedAt, a_dead, a_count, a_end, a_mark, a_cleaned, a_gone, a_eraAt, a_eraOf, a_eras, a_epoch, a_latest, a_last, a_places, c_baseEpoch, c_baseLatest, c_baseLast, c_basePlaces, upd a_base f (nI b), a_fetched)) :
    wpX_rebase post (f_leader, f_inside, f_now, f_foundKey, f_foundValue, f_foundTomb, f_foundWho, f_foundSequence, f_foundEra, a_offset, a_kind, a_who, a_key, a_value, a_tomb, a_sequence, a_era, a_state, a_decidedAt, a_dead, a_count, a_end, a_mark, a_cleaned, a_gone, a_eraAt, a_eraOf, a_eras, a_epoch, a_latest, a_last, a_places, a_baseEpoch, a_baseLatest, a_baseLast, a_basePlaces, a_base, a_fetched) (nI f) (nI b) := by
  unfold wpX_rebase
  have v1 : vp_in (nI f) 3 := vp_in_nI hf (by omega)
  have cf : (nI f).toNatClampNeg = f := nI_clamp (by omega)
  rw [cf]
  exact ⟨v1, nm_e (nm_r (rl_4 f) ⟨5, rl_x_rb11 (a_base := upd a_base f (nI b)) hf hB k 5 0 a_baseEpoch a_baseLatest a_baseLast a_basePlaces (by omega) (by omega) (fun i hi => by omega) (fun q _ => rfl)⟩)⟩
/-! recount -/
theorem rl_x_rn5 (hT : rl_TB a_offset a_kind a_who a_key a_value a_tomb a_sequence a_era a_state a_decidedAt f t I O G now) (hf : f < 3) (hc : a_count f = nI (rl_rk G t)) (hb : a_base f = nI b) (hG : ∀ o, o < t → G o → o < b) {to : Nat} (hbt : b ≤ to) (htt : to ≤ t) {post : SX → Prop}
    (k : ∀ c_epoch c_latest c_last c_places : Nat → Int32, rl_PR c_epoch c_latest c_last c_places f to I → (∀ q, (q < 4 * f ∨ 4 * f + 4 ≤ q) → rl_pv c_epoch c_latest c_last c_places q = rl_pv a_epoch a_latest a_last a_places q) → post (f_leader, f_inside, f_now, f_foundKey, f_foundValue, f_foundTomb, f_foundWho, f_foundSequence, f_foundEra, a_offset, a_kind, a_who, a_key, a_value, a_tomb, a_sequence, a_era, a_state, a_decidedAt, a_dead, a_count, a_end, a_mark, a_cleaned, a_gone, a_eraAt, a_eraOf, a_eras, c_epoch, c_latest, c_last, c_places, a_baseEpoch, a_baseLatest, a_baseLast, a_basePlaces, a_base, a_fetched)) :
    ∀ d o n (c_epoch c_latest c_last c_places : Nat → Int32), o + d = t → rl_rk G t - rl_rk G o < n → rl_PR c_epoch c_latest c_last c_places f (min to (max b o)) I → (∀ q, (q < 4 * f ∨ 4 * f + 4 ≤ q) → rl_pv c_epoch c_latest c_last c_places q = rl_pv a_epoch a_latest a_last a_places q) →
      wX_recount_5 post (nI f) (nI to) n (nI (40 * f + rl_rk G o)) f_leader f_inside f_now f_foundKey f_foundValue f_foundTomb f_foundWho f_foundSequence f_foundEra a_offset a_kind a_who a_key a_value a_tomb a_sequence a_era a_state a_decidedAt a_dead a_count a_end a_mark a_cleaned a_gone a_eraAt a_eraOf a_eras c_epoch c_latest c_last c_places a_baseEpoch a_baseLatest a_baseLast a_basePlaces a_base a_fetched := by
  obtain ⟨c1, c2, c3, c4, c5⟩ := rl_xc hT hf hc
  have eb : a_base (nI f).toNatClampNeg = nI b := by rw [nI_clamp (by omega)]; exact hb
  intro d
  induction d with
  | zero =>
    intro o n ce cl ca cp ho hn hP hfr
    obtain ⟨m, rfl⟩ : ∃ m, n = m + 1 := ⟨n - 1, by omega⟩
    have e : min to (max b o) = to := by omega
    rw [e] at hP
    refine ⟨c1, br_t ?_ (k ce cl ca cp hP hfr)⟩
    rw [c3, show o = t by omega]; exact nI_le (Nat.le_refl _) (by omega)
  | succ d ih =>
    intro o n ce cl ca cp ho hn hP hfr
    have hot : o < t := by omega
    rcases Classical.em (G o) with hg | hg
    · have e := rl_rk_t hg
      have hob := hG o hot hg
      rw [← e] at hn ⊢
      have e2 : min to (max b (o + 1)) = min to (max b o) := by omega
      exact ih (o + 1) n ce cl ca cp (by omega) hn (by rw [e2]; exact hP) hfr
    · obtain ⟨m, rfl⟩ : ∃ m, n = m + 1 := ⟨n - 1, by omega⟩
      have e := rl_rk_f hg
      have hlt := rl_rk_lt hot hg
      obtain ⟨v0, vO, vK, vW, -, -, -, vQ, -⟩ := rl_xr hT hf hot hg
      obtain ⟨w1, w2, -⟩ := rl_xw hT hot
      have ci : (nI (40 * f + rl_rk G o)).toNatClampNeg = 40 * f + rl_rk G o := nI_clamp (by omega)
      have go : min to (max b (o + 1)) = min to (max b o) → wX_recount_5 post (nI f) (nI to) m (nI (40 * f + rl_rk G o + 1)) f_leader f_inside f_now f_foundKey f_foundValue f_foundTomb f_foundWho f_foundSequence f_foundEra a_offset a_kind a_who a_key a_value a_tomb a_sequence a_era a_state a_decidedAt a_dead a_count a_end a_mark a_cleaned a_gone a_eraAt a_eraOf a_eras ce cl ca cp a_baseEpoch a_baseLatest a_baseLast a_basePlaces a_base a_fetched := fun e2 => by
        have := ih (o + 1) m ce cl ca cp (by omega) (by omega) (by rw [e2]; exact hP) hfr
        rw [e] at this; exact this
      refine ⟨c1, pk_le (40 * f + rl_rk G t) (40 * f + rl_rk G o) (fun z => by omega) (fun z => ⟨v0, c1, pk_lt o b (fun y => nm_r (nI_1 _) (go (by omega))) (fun y => ⟨v0, pk_le to o (fun x => nm_r (nI_1 _) (go (by omega))) (fun x => ⟨v0, ?_⟩) rfl vO⟩) vO eb⟩) c3 rfl⟩
      have eq : (4 : Int32) * nI f + a_who (nI (40 * f + rl_rk G o)).toNatClampNeg = nI (4 * f + rl_B (I o)) := by rw [vW, rl_4, nI_add]
      rw [eq]
      have em : min to (max b o) = o := by omega
      rw [em] at hP
      rw [ci] at vK vO vQ
      refine rl_x_count (q := 4 * f + rl_B (I o)) (i := 40 * f + rl_rk G o) (x := I o) (o := o) (v := rl_ps I (rl_B (I o)) o) (by omega) (by omega) (hP _ w1) (rl_ps_in I _ o).2.1 w2 vK vO vQ ?_
      intro de dl da dp k1 k2
      have hPR : rl_PR de dl da dp f (min to (max b (o + 1))) I := fun p hp => by
        have em2 : min to (max b (o + 1)) = o + 1 := by omega
        rw [em2]
        show rl_pv de dl da dp (4 * f + p) = rl_pe (rl_stp p (rl_ps I p o) (I o) o)
        by_cases hpe : p = rl_B (I o)
        · rw [hpe]; exact k1
        · rw [k2 _ (by omega), hP p hp]
          unfold rl_stp; rw [if_neg (fun y => hpe y.symm)]
      refine nm_r (nI_1 _) ?_
      have := ih (o + 1) m de dl da dp (by omega) (by omega) hPR (fun q hq => by rw [k2 q (by omega)]; exact hfr q hq)
      rw [e] at this; exact this
theorem rl_x_recount (hT : rl_TB a_offset a_kind a_who a_key a_value a_tomb a_sequence a_era a_state a_decidedAt f t I O G now) (hf : f < 3) (hc : a_count f = nI (rl_rk G t)) (hb : a_base f = nI b) (hG : ∀ o, o < t → G o → o < b) {to : Nat} (hbt : b ≤ to) (htt : to ≤ t) (hP : rl_PR a_epoch a_latest a_last a_places f b I) {post : SX → Prop}
    (k : ∀ c_epoch c_latest c_last c_places : Nat → Int32, rl_PR c_epoch c_latest c_last c_places f to I → (∀ q, (q < 4 * f ∨ 4 * f + 4 ≤ q) → rl_pv c_epoch c_latest c_last c_places q = rl_pv a_epoch a_latest a_last a_places q) → post (f_leader, f_inside, f_now, f_foundKey, f_foundValue, f_foundTomb, f_foundWho, f_foundSequence, f_foundEra, a_offset, a_kind, a_who, a_key, a_value, a_tomb, a_sequence, a_era, a_state, a_decidedAt, a_dead, a_count, a_end, a_mark, a_cleaned, a_gone, a_eraAt, a_eraOf, a_eras, c_epoch, c_latest, c_last, c_places, a_baseEpoch, a_baseLatest, a_baseLast, a_basePlaces, a_base, a_fetched)) :
    wpX_recount post (f_leader, f_inside, f_now, f_foundKey, f_foundValue, f_foundTomb, f_foundWho, f_foundSequence, f_foundEra, a_offset, a_kind, a_who, a_key, a_value, a_tomb, a_sequence, a_era, a_state, a_decidedAt, a_dead, a_count, a_end, a_mark, a_cleaned, a_gone, a_eraAt, a_eraOf, a_eras, a_epoch, a_latest, a_last, a_places, a_baseEpoch, a_baseLatest, a_baseLast, a_basePlaces, a_base, a_fetched) (nI f) (nI to) := by
  unfold wpX_recount
  have e : min to (max b 0) = b := by omega
  exact nm_r (rl_40 f) ⟨rl_rk G t + 1, rl_x_rn5 hT hf hc hb hG hbt htt k t 0 (rl_rk G t + 1) a_epoch a_latest a_last a_places (by omega) (by omega) (by rw [e]; exact hP) (fun q _ => rfl)⟩
end
end
section
def bt (x : Int32) (i : Nat) : Bool := x.toBitVec.getLsbD i
theorem b_ext {x y : Int32} (h : ∀ i, i < 32 → bt x i = bt y i) : x = y := Int32.toBitVec_inj.mp (BitVec.eq_of_getLsbD_eq (fun i hi => h i hi))
theorem b_or (x y : Int32) (i : Nat) : bt (x ||| y) i = (bt x i || bt y i) := by unfold bt; rw [Int32.toBitVec_or, BitVec.getLsbD_or]
theorem b_and (x y : Int32) (i : Nat) : bt (x &&& y) i = (bt x i && bt y i) := by unfold bt; rw [Int32.toBitVec_and, BitVec.getLsbD_and]
theorem b_0 (i : Nat) : bt 0 i = false := BitVec.getLsbD_zero
theorem s_l : ∀ n, n < 32 → ((nI n &&& 31).toBitVec.smod 32).toNat = n := by decide +kernel
theorem b_shl (n : Nat) (hn : n < 32) (x : Int32) {i : Nat} (hi : i < 32) : bt (x <<< (nI n &&& 31)) i = (decide (n ≤ i) && bt x (i - n)) := by
  unfold bt
  rw [Int32.toBitVec_shiftLeft]
  show (x.toBitVec <<< ((nI n &&& 31).toBitVec.smod 32).toNat).getLsbD i = _
  rw [s_l n hn, BitVec.getLsbD_shiftLeft]
  rcases Nat.lt_or_ge i n with h | h
  · simp [h, Nat.not_le.mpr h]
  · simp [hi, h, Nat.not_lt.mpr h]
theorem b_sshr (n : Nat) (hn : n < 32) (x : Int32) {i : Nat} (hi : i < 32) : bt (x >>> (nI n &&& 31)) i = if n + i < 32 then bt x (n + i) else bt x 31 := by
  unfold bt
  rw [Int32.toBitVec_shiftRight]
  show (x.toBitVec.sshiftRight ((nI n &&& 31).toBitVec.smod 32).toNat).getLsbD i = _
  rw [s_l n hn, BitVec.getLsbD_sshiftRight, BitVec.msb_eq_getLsbD_last]
  simp [hi]

theorem rl_b1 : ∀ i, i < 32 → bt 1 i = decide (i = 0) := by decide +kernel
theorem rl_bit {x : Int32} {n : Nat} (hn : n < 31) : ((x >>> (nI n &&& 31)) &&& 1) = 0 ↔ bt x n = false := by
  constructor
  · intro h
    have h1 : bt ((x >>> (nI n &&& 31)) &&& 1) 0 = false := by rw [h]; exact b_0 0
    rw [b_and, b_sshr n (by omega) x (by omega), if_pos (by omega), rl_b1 0 (by omega), Nat.add_zero] at h1
    simpa using h1
  · intro h
    refine b_ext (fun i hi => ?_)
    rw [b_and, b_0, rl_b1 i hi]
    rcases Nat.eq_zero_or_pos i with y | y
    · subst y
      rw [b_sshr n (by omega) x (by omega), if_pos (by omega), Nat.add_zero, h]; rfl
    · rw [decide_eq_false (by omega), Bool.and_false]
theorem rl_bor {x : Int32} {a k : Nat} (ha : a < 8) (hk : k < 8) : bt (x ||| ((1 : Int32) <<< (nI a &&& 31))) k = true ↔ (bt x k = true ∨ k = a) := by
  rw [b_or, b_shl a (by omega) 1 (by omega), Bool.or_eq_true, Bool.and_eq_true, decide_eq_true_iff]
  constructor
  · rintro (h | ⟨h1, h2⟩)
    · exact Or.inl h
    · rw [rl_b1 _ (by omega), decide_eq_true_iff] at h2; exact Or.inr (by omega)
  · rintro (h | h)
    · exact Or.inl h
    · refine Or.inr ⟨by omega, ?_⟩
      rw [rl_b1 _ (by omega), decide_eq_true_iff]; omega
theorem rl_b_or (P Q : Prop) : rl_b P ||| rl_b Q = rl_b (P ∨ Q) := by
  rcases Classical.em P with h1 | h1 <;> rcases Classical.em Q with h2 | h2
  · rw [rl_bt h1, rl_bt h2, rl_bt (Or.inl h1)]; decide
  · rw [rl_bt h1, rl_bf h2, rl_bt (Or.inl h1)]; decide
  · rw [rl_bf h1, rl_bt h2, rl_bt (Or.inr h2)]; decide
  · rw [rl_bf h1, rl_bf h2, rl_bf (fun y => y.elim h1 h2)]; decide
/-! what cleaning does to a replica -/
def rl_kp (I : Nat → rl_ID) (O G : Nat → Prop) (t to o k : Nat) : Prop := ∃ d, o ≤ d ∧ d < to ∧ ¬ G d ∧ rl_C (I d) = 0 ∧ ¬ rl_ab I O t d ∧ rl_K (I d) = k
def rl_dd (I : Nat → rl_ID) (O G : Nat → Prop) (t to low j : Nat) : Prop :=
  j < to ∧ (rl_ab I O t j ∨ ((rl_C (I j) ≠ 0 ∨ rl_T (I j) ≠ 0) ∧ j < low) ∨ (rl_C (I j) = 0 ∧ ¬ rl_ab I O t j ∧ rl_kp I O G t to (j + 1) (rl_K (I j))))
def rl_cO (I : Nat → rl_ID) (O : Nat → Prop) (t to : Nat) : Nat → Prop := fun o => O o ∧ ¬ (o < to ∧ rl_C (I o) = 0 ∧ rl_fa I t o = 2)
def rl_cG (I : Nat → rl_ID) (O G : Nat → Prop) (t to low : Nat) : Nat → Prop := fun o => G o ∨ rl_dd I O G t to low o
theorem rl_kp_s {I : Nat → rl_ID} {O G : Nat → Prop} {t to o k : Nat} : rl_kp I O G t to o k ↔ (rl_kp I O G t to (o + 1) k ∨ (o < to ∧ ¬ G o ∧ rl_C (I o) = 0 ∧ ¬ rl_ab I O t o ∧ rl_K (I o) = k)) := by
  constructor
  · rintro ⟨d, h1, h2, h3⟩
    rcases Nat.lt_or_ge o d with y | y
    · exact Or.inl ⟨d, by omega, h2, h3⟩
    · have e : d = o := by omega
      subst e; exact Or.inr ⟨h2, h3⟩
  · rintro (⟨d, h1, h2, h3⟩ | ⟨h1, h2⟩)
    · exact ⟨d, by omega, h2, h3⟩
    · exact ⟨o, Nat.le_refl _, h1, h2⟩
theorem rl_cO_same {I : Nat → rl_ID} {O : Nat → Prop} {t to o : Nat} (h : ¬ (o < to ∧ rl_C (I o) = 0 ∧ rl_fa I t o = 2)) : rl_cO I O t to o ↔ O o := ⟨fun y => y.1, fun y => ⟨y, h⟩⟩
theorem rl_st_O {I : Nat → rl_ID} {O Q : Nat → Prop} {t o : Nat} (h : O o ↔ Q o) : rl_st I O t o = rl_st I Q t o := by unfold rl_st; rw [propext h]
/-- the state of a record after cleaning -/
theorem rl_cO_st {I : Nat → rl_ID} {O : Nat → Prop} {t to o : Nat} (hd : o < to → rl_C (I o) = 0 → O o → rl_de I t o < t) :
    (¬ (o < to ∧ rl_C (I o) = 0 ∧ ¬ rl_ab I O t o) → rl_st I (rl_cO I O t to) t o = rl_st I O t o) ∧ ((o < to ∧ rl_C (I o) = 0 ∧ ¬ rl_ab I O t o) → rl_st I (rl_cO I O t to) t o = 0) := by
  constructor
  · intro h
    rcases Classical.em (rl_C (I o) = 0) with hc | hc
    · refine rl_st_O (rl_cO_same (fun y => ?_))
      rcases Classical.em (rl_ab I O t o) with ha | ha
      · have e : rl_fa I t o = rl_C (I (rl_de I t o)) := rl_it ha.2.1
        exact ha.2.2 (e.symm.trans y.2.2)
      · exact h ⟨y.1, hc, ha⟩
    · rw [rl_st_0 (fun y => hc y.1), rl_st_0 (fun y => hc y.1)]
  · rintro ⟨h1, hc, ha⟩
    refine rl_st_0 (fun y => ?_)
    have hde := hd h1 hc y.2.1
    have hc2 : rl_C (I (rl_de I t o)) = 2 := Classical.byContradiction fun z => ha ⟨⟨hc, y.2.1⟩, hde, z⟩
    exact y.2.2 ⟨h1, hc, (rl_it hde).trans hc2⟩
theorem rl_rk_sub {G H : Nat → Prop} (h : ∀ j, G j → H j) : ∀ n, rl_rk H n ≤ rl_rk G n
  | 0 => Nat.le_refl _
  | n + 1 => by
    have ih := rl_rk_sub h n
    rcases Classical.em (G n) with y | y
    · rw [rl_rk_t y, rl_rk_t (h n y)]; exact ih
    · rw [rl_rk_f y]
      have := rl_rk_s H n; omega
theorem rl_TX_mv {a_offset a_kind a_who a_key a_value a_tomb a_sequence a_era a_state a_decidedAt c_offset c_kind c_who c_key c_value c_tomb c_sequence c_era c_state c_decidedAt : Nat → Int32} {i j t : Nat} {I : Nat → rl_ID} {O : Nat → Prop} {o : Nat}
    (h : rl_TX a_offset a_kind a_who a_key a_value a_tomb a_sequence a_era a_state a_decidedAt i t I O o) (e : rl_rw c_offset c_kind c_who c_key c_value c_tomb c_sequence c_era c_state c_decidedAt j = rl_rw a_offset a_kind a_who a_key a_value a_tomb a_sequence a_era a_state a_decidedAt i) :
    rl_TX c_offset c_kind c_who c_key c_value c_tomb c_sequence c_era c_state c_decidedAt j t I O o := by
  unfold rl_rw at e
  simp only [Prod.mk.injEq] at e
  obtain ⟨e1, e2, e3, e4, e5, e6, e7, e8, e9, e10⟩ := e
  unfold rl_TX at h ⊢
  rw [e1, e2, e3, e4, e5, e6, e7, e8, e9, e10]; exact h
section
variable {f_leader f_inside f_now f_foundKey f_foundValue f_foundTomb f_foundWho f_foundSequence f_foundEra : Int32} {a_offset a_kind a_who a_key a_value a_tomb a_sequence a_era a_state a_decidedAt a_dead a_count a_end a_mark a_cleaned a_gone a_eraAt a_eraOf a_eras a_epoch a_latest a_last a_places a_baseEpoch a_baseLatest a_baseLast a_basePlaces a_base a_fetched : Nat → Int32} {I : Nat → rl_ID} {O G : Nat → Prop} {r t now to low : Nat}
theorem rl_x_cl107 (h : rl_TB a_offset a_kind a_who a_key a_value a_tomb a_sequence a_era a_state a_decidedAt r t I O G now) (hr : r < 3) (hto : to ≤ t) (hlow : low ≤ 600) (hst : ∀ j, j < to → rl_C (I j) = 0 → ¬ G j → O j → rl_de I t j < t) {post : Int32 → SX → Prop}
    (k : ∀ c_state c_dead : Nat → Int32, (∀ j, j < t → ¬ G j → c_state (40 * r + rl_rk G j) = nI (rl_st I (rl_cO I O t to) t j)) → (∀ j, j < t → ¬ G j → c_dead (rl_rk G j) = rl_b (rl_dd I O G t to low j)) →
      (∀ i, (i < 40 * r ∨ 40 * r + 40 ≤ i) → c_state i = a_state i) →
      vp_in (nI r) 3 ∧ ((nI to ≤ a_cleaned (nI r).toNatClampNeg → wX_clean_284 post (nI r) f_leader f_inside f_now f_foundKey f_foundValue f_foundTomb f_foundWho f_foundSequence f_foundEra a_offset a_kind a_who a_key a_value a_tomb a_sequence a_era c_state a_decidedAt c_dead a_count a_end a_mark a_cleaned a_gone a_eraAt a_eraOf a_eras a_epoch a_latest a_last a_places a_baseEpoch a_baseLatest a_baseLast a_basePlaces a_base a_fetched) ∧ (¬ nI to ≤ a_cleaned (nI r).toNatClampNeg → vp_in (nI r) 3 ∧ ∀ a_cleaned_132, a_cleaned_132 = upd a_cleaned (nI r).toNatClampNeg (nI to) → wX_clean_284 post (nI r) f_leader f_inside f_now f_foundKey f_foundValue f_foundTomb f_foundWho f_foundSequence f_foundEra a_offset a_kind a_who a_key a_value a_tomb a_sequence a_era c_state a_decidedAt c_dead a_count a_end a_mark a_cleaned_132 a_gone a_eraAt a_eraOf a_eras a_epoch a_latest a_last a_places a_baseEpoch a_baseLatest a_baseLast a_basePlaces a_base a_fetched))) :
    ∀ o n (keys : Int32) (c_state c_dead : Nat → Int32), o ≤ t → rl_rk G o < n → (∀ j, j < o → ¬ G j → c_state (40 * r + rl_rk G j) = nI (rl_st I O t j)) →
      (∀ j, o ≤ j → j < t → ¬ G j → c_state (40 * r + rl_rk G j) = nI (rl_st I (rl_cO I O t to) t j) ∧ c_dead (rl_rk G j) = rl_b (rl_dd I O G t to low j)) → (∀ i, (i < 40 * r ∨ 40 * r + 40 ≤ i) → c_state i = a_state i) →
      (∀ k, k < 8 → (bt keys k = true ↔ rl_kp I O G t to o k)) →
      wX_clean_107 post (nI r) (nI to) (nI low) f_leader f_inside f_now f_foundKey f_foundValue f_foundTomb f_foundWho f_foundSequence f_foundEra n keys (nI (40 * r + rl_rk G o) - 1) a_offset a_kind a_who a_key a_value a_tomb a_sequence a_era c_state a_decidedAt c_dead a_count a_end a_mark a_cleaned a_gone a_eraAt a_eraOf a_eras a_epoch a_latest a_last a_places a_baseEpoch a_baseLatest a_baseLast a_basePlaces a_base a_fetched := by
  have hrk := h.2.2.1
  have ht := h.2.1
  have vr : vp_in (nI r) 3 := vp_in_nI hr (by omega)
  intro o
  induction o with
  | zero =>
    intro n keys cs cd _ hn hlo hhi hfr hk
    obtain ⟨m, rfl⟩ : ∃ m, n = m + 1 := ⟨n - 1, by omega⟩
    refine br_t ?_ (k cs cd (fun j hj hg => (hhi j (Nat.zero_le _) hj hg).1) (fun j hj hg => (hhi j (Nat.zero_le _) hj hg).2) hfr)
    rw [rl_40]; exact rl_p1 (n := 40 * r) (by omega)
  | succ o ih =>
    intro n keys cs cd ho hn hlo hhi hfr hk
    have hot : o < t := by omega
    rcases Classical.em (G o) with hg | hg
    · have e := rl_rk_t hg
      rw [e] at hn ⊢
      refine ih n keys cs cd (by omega) hn (fun j hj => hlo j (by omega)) (fun j h1 h2 h3 => ?_) hfr (fun q hq => ?_)
      · rcases Nat.lt_or_ge o j with y | y
        · exact hhi j (by omega) h2 h3
        · have ej : j = o := by omega
          rw [ej] at h3; exact absurd hg h3
      · rw [hk q hq, rl_kp_s (o := o)]
        exact ⟨Or.inl, fun y => y.elim id (fun z => absurd hg z.2.1)⟩
    · obtain ⟨m, rfl⟩ : ∃ m, n = m + 1 := ⟨n - 1, by omega⟩
      have e := rl_rk_f hg
      have hltk := rl_rk_lt hot hg
      obtain ⟨v0, vO, vK, vW, vY, -, vT, -, -, -, -⟩ := rl_xr h hr hot hg
      obtain ⟨w1, w2, w3, w4, -⟩ := rl_xw h hot
      have ci : (nI (40 * r + rl_rk G o)).toNatClampNeg = 40 * r + rl_rk G o := nI_clamp (by omega)
      have cr : (nI (rl_rk G o)).toNatClampNeg = rl_rk G o := nI_clamp (by omega)
      have vS : cs (nI (40 * r + rl_rk G o)).toNatClampNeg = nI (rl_st I O t o) := by rw [ci]; exact hlo o (by omega) hg
      have hs3 := rl_st_le I O t o
      have hab := rl_ab_st I O t o
      obtain ⟨so1, so2⟩ := rl_cO_st (I := I) (O := O) (t := t) (to := to) (o := o) (fun h1 h2 h3 => hst o h1 h2 hg h3)
      have e1 : nI (40 * r + rl_rk G (o + 1)) - 1 = nI (40 * r + rl_rk G o) := by rw [e, rl_s1 (by omega)]; exact congrArg nI (by omega)
      have e2 : nI (40 * r + rl_rk G o) + (-1) = nI (40 * r + rl_rk G o) - 1 := (Int32.sub_eq_add_neg _ _).symm
      have e3 : nI (40 * r + rl_rk G o) - 40 * nI r = nI (rl_rk G o) := by rw [rl_40, pk_sub (by omega)]; exact congrArg nI (by omega)
      -- one record done
      have put : ∀ (keys' : Int32) (cs' : Nat → Int32) (x6 : Int32), x6 = rl_b (rl_dd I O G t to low o) → (cs' = cs ∨ cs' = upd cs (40 * r + rl_rk G o) (nI 0)) → cs' (40 * r + rl_rk G o) = nI (rl_st I (rl_cO I O t to) t o) → (∀ q, q < 8 → (bt keys' q = true ↔ rl_kp I O G t to o q)) →
          wX_clean_247 post (wX_clean_107 post (nI r) (nI to) (nI low) f_leader f_inside f_now f_foundKey f_foundValue f_foundTomb f_foundWho f_foundSequence f_foundEra m) (nI r) (nI to) (nI low) keys' (nI (40 * r + rl_rk G o)) x6 f_leader f_inside f_now f_foundKey f_foundValue f_foundTomb f_foundWho f_foundSequence f_foundEra a_offset a_kind a_who a_key a_value a_tomb a_sequence a_era cs' a_decidedAt cd a_count a_end a_mark a_cleaned a_gone a_eraAt a_eraOf a_eras a_epoch a_latest a_last a_places a_baseEpoch a_baseLatest a_baseLast a_basePlaces a_base a_fetched := by
        intro keys' cs' x6 hx hcs hown hkk
        subst hx
        have hne : ∀ i, i ≠ 40 * r + rl_rk G o → cs' i = cs i := fun i hi => by
          rcases hcs with y | y
          · rw [y]
          · rw [y, pk_un hi]
        unfold wX_clean_247
        rw [e3, cr, rl_bnar]
        refine ⟨vp_in_nI (by omega) (by omega), nm_e (nm_r e2 (ih m keys' cs' _ (by omega) (by omega) (fun j hj hgj => ?_) (fun j h1 h2 h3 => ?_) (fun i hi => ?_) hkk))⟩
        · have := rl_rk_lt hj hgj
          rw [hne _ (by omega)]; exact hlo j (by omega) hgj
        · rcases Nat.lt_or_ge o j with y | y
          · have := rl_rk_lt y hg
            rw [hne _ (by omega), pk_un (by omega)]; exact hhi j (by omega) h2 h3
          · have ej : j = o := by omega
            rw [ej, pk_us]; exact ⟨hown, rfl⟩
        · rw [hne _ (by omega)]; exact hfr i hi
      -- keys do not change
      have ksame : ¬ (o < to ∧ ¬ G o ∧ rl_C (I o) = 0 ∧ ¬ rl_ab I O t o) → ∀ q, q < 8 → (bt keys q = true ↔ rl_kp I O G t to o q) := fun hno q hq => by
        rw [hk q hq, rl_kp_s (o := o)]
        exact ⟨Or.inl, fun y => y.elim id (fun z => absurd ⟨z.1, z.2.1, z.2.2.1, z.2.2.2.1⟩ hno)⟩
      have own0 : ¬ (o < to ∧ rl_C (I o) = 0 ∧ ¬ rl_ab I O t o) → cs (40 * r + rl_rk G o) = nI (rl_st I (rl_cO I O t to) t o) := fun hno => by
        rw [so1 hno]; exact hlo o (by omega) hg
      rw [e1]
      refine br_f (by rw [rl_40]; exact nI_nlt (by omega) (by omega)) ⟨v0, pk_le to o (fun z => ?_) (fun z => ⟨v0, pk_eq (rl_st I O t o) 3 (fun s3 => ?_) (fun s3 => ⟨v0, ?_⟩) vS⟩) rfl vO⟩
      · exact put keys cs 0 (rl_bf (fun y => by have := y.1; omega)).symm (Or.inl rfl) (own0 (fun y => by omega)) (ksame (fun y => by omega))
      · have ha := hab.mp s3
        unfold wX_clean_172 wX_clean_177
        refine ⟨v0, pk_eq (rl_C (I o) - 1) 0 (fun hc => ⟨v0, pk_eq (rl_st I O t o) 3 (fun _ => ?_) (fun y => absurd s3 y) vS⟩) (fun hc => absurd (by rw [ha.1.1]) hc) vK rfl (by omega)⟩
        exact put keys cs 1 (rl_bt ⟨z, Or.inl ha⟩).symm (Or.inl rfl) (own0 (fun y => y.2.2 ha)) (ksame (fun y => y.2.2.2 ha))
      · have hna : ¬ rl_ab I O t o := fun y => s3 (hab.mpr y)
        -- with the first half of the verdict known
        have L177 : ∀ Z : Prop, (Z ↔ (rl_C (I o) ≠ 0 ∨ rl_T (I o) ≠ 0) ∧ o < low) → wX_clean_177 post (wX_clean_107 post (nI r) (nI to) (nI low) f_leader f_inside f_now f_foundKey f_foundValue f_foundTomb f_foundWho f_foundSequence f_foundEra m) (nI r) (nI to) (nI low) keys (nI (40 * r + rl_rk G o)) (rl_b Z) f_leader f_inside f_now f_foundKey f_foundValue f_foundTomb f_foundWho f_foundSequence f_foundEra a_offset a_kind a_who a_key a_value a_tomb a_sequence a_era cs a_decidedAt cd a_count a_end a_mark a_cleaned a_gone a_eraAt a_eraOf a_eras a_epoch a_latest a_last a_places a_baseEpoch a_baseLatest a_baseLast a_basePlaces a_base a_fetched := by
          intro Z hZ
          unfold wX_clean_177
          refine ⟨v0, pk_eq (rl_C (I o) - 1) 0 (fun hc => ⟨v0, pk_eq (rl_st I O t o) 3 (fun y => absurd y s3) (fun _ => ⟨v0, ?_⟩) vS⟩) (fun hc => ?_) vK rfl (by omega)⟩
          · have hc0 : rl_C (I o) = 0 := by omega
            have L222 : ∀ Q : Prop, (Q ↔ rl_kp I O G t to (o + 1) (rl_K (I o))) → wX_clean_222 post (wX_clean_107 post (nI r) (nI to) (nI low) f_leader f_inside f_now f_foundKey f_foundValue f_foundTomb f_foundWho f_foundSequence f_foundEra m) (nI r) (nI to) (nI low) keys (nI (40 * r + rl_rk G o)) (rl_b Q) (rl_b Z) f_leader f_inside f_now f_foundKey f_foundValue f_foundTomb f_foundWho f_foundSequence f_foundEra a_offset a_kind a_who a_key a_value a_tomb a_sequence a_era cs a_decidedAt cd a_count a_end a_mark a_cleaned a_gone a_eraAt a_eraOf a_eras a_epoch a_latest a_last a_places a_baseEpoch a_baseLatest a_baseLast a_basePlaces a_base a_fetched := by
              intro Q hQ
              unfold wX_clean_222
              rw [vY, ci, rl_b_or]
              refine nm_e ⟨v0, nm_e ⟨v0, nm_r (e' := upd cs (40 * r + rl_rk G o) (nI 0)) rfl ?_⟩⟩
              refine put _ _ _ (rl_bcg ⟨fun y => ⟨z, ?_⟩, fun y => ?_⟩) (Or.inr rfl) (by rw [pk_us, so2 ⟨z, hc0, hna⟩]) (fun q hq => ?_)
              · rcases y with y | y
                · exact Or.inr (Or.inl (hZ.mp y))
                · exact Or.inr (Or.inr ⟨hc0, hna, hQ.mp y⟩)
              · rcases y.2 with y | y | y
                · exact absurd y hna
                · exact Or.inl (hZ.mpr y)
                · exact Or.inr (hQ.mpr y.2.2)
              · rw [rl_bor w3 hq, hk q hq, rl_kp_s (o := o)]
                exact ⟨fun y => y.elim Or.inl (fun y => Or.inr ⟨z, hg, hc0, hna, y.symm⟩), fun y => y.elim Or.inl (fun y => Or.inr y.2.2.2.2.symm)⟩
            have hb := rl_bit (x := keys) (n := rl_K (I o)) (by omega)
            rw [vY]
            refine ⟨fun y => ?_, fun y => ?_⟩
            · have hf : ¬ rl_kp I O G t to (o + 1) (rl_K (I o)) := fun x => by
                have := (hk _ w3).mpr x
                rw [hb.mp y] at this; exact absurd this (by decide)
              have := L222 False ⟨fun x => x.elim, fun x => hf x⟩
              rw [rl_bf (P := False) (fun x => x)] at this; exact this
            · have hf : rl_kp I O G t to (o + 1) (rl_K (I o)) := (hk _ w3).mp (by
                rcases hbk : bt keys (rl_K (I o)) with _ | _
                · exact absurd (hb.mpr hbk) y
                · rfl)
              have := L222 True ⟨fun _ => hf, fun _ => trivial⟩
              rw [rl_bt (P := True) trivial] at this; exact this
          · have hc0 : rl_C (I o) ≠ 0 := by omega
            refine put keys cs _ (rl_bcg ⟨fun y => ⟨z, Or.inr (Or.inl (hZ.mp y))⟩, fun y => ?_⟩) (Or.inl rfl) (own0 (fun y => hc0 y.2.1)) (ksame (fun y => hc0 y.2.2.1))
            rcases y.2 with y | y | y
            · exact absurd y hna
            · exact hZ.mpr y
            · exact absurd y.1 hc0
        have L176 : (¬ ((rl_C (I o) ≠ 0 ∨ rl_T (I o) ≠ 0) ∧ o < low)) → wX_clean_176 post (wX_clean_107 post (nI r) (nI to) (nI low) f_leader f_inside f_now f_foundKey f_foundValue f_foundTomb f_foundWho f_foundSequence f_foundEra m) (nI r) (nI to) (nI low) keys (nI (40 * r + rl_rk G o)) f_leader f_inside f_now f_foundKey f_foundValue f_foundTomb f_foundWho f_foundSequence f_foundEra a_offset a_kind a_who a_key a_value a_tomb a_sequence a_era cs a_decidedAt cd a_count a_end a_mark a_cleaned a_gone a_eraAt a_eraOf a_eras a_epoch a_latest a_last a_places a_baseEpoch a_baseLatest a_baseLast a_basePlaces a_base a_fetched := fun hno => by
          have := L177 False ⟨fun x => x.elim, fun x => hno x⟩
          rw [rl_bf (P := False) (fun x => x)] at this
          unfold wX_clean_176; exact this
        have L172 : ((rl_C (I o) ≠ 0 ∨ rl_T (I o) ≠ 0) ∧ o < low) → wX_clean_172 post (wX_clean_107 post (nI r) (nI to) (nI low) f_leader f_inside f_now f_foundKey f_foundValue f_foundTomb f_foundWho f_foundSequence f_foundEra m) (nI r) (nI to) (nI low) keys (nI (40 * r + rl_rk G o)) f_leader f_inside f_now f_foundKey f_foundValue f_foundTomb f_foundWho f_foundSequence f_foundEra a_offset a_kind a_who a_key a_value a_tomb a_sequence a_era cs a_decidedAt cd a_count a_end a_mark a_cleaned a_gone a_eraAt a_eraOf a_eras a_epoch a_latest a_last a_places a_baseEpoch a_baseLatest a_baseLast a_basePlaces a_base a_fetched := fun hno => by
          have := L177 True ⟨fun _ => hno, fun _ => trivial⟩
          rw [rl_bt (P := True) trivial] at this
          unfold wX_clean_172; exact this
        have L161 : (rl_C (I o) ≠ 0 ∨ rl_T (I o) ≠ 0) → wX_clean_161 post (wX_clean_107 post (nI r) (nI to) (nI low) f_leader f_inside f_now f_foundKey f_foundValue f_foundTomb f_foundWho f_foundSequence f_foundEra m) (nI r) (nI to) (nI low) keys (nI (40 * r + rl_rk G o)) f_leader f_inside f_now f_foundKey f_foundValue f_foundTomb f_foundWho f_foundSequence f_foundEra a_offset a_kind a_who a_key a_value a_tomb a_sequence a_era cs a_decidedAt cd a_count a_end a_mark a_cleaned a_gone a_eraAt a_eraOf a_eras a_epoch a_latest a_last a_places a_baseEpoch a_baseLatest a_baseLast a_basePlaces a_base a_fetched := fun hy => by
          unfold wX_clean_161
          exact ⟨v0, pk_le low o (fun y => L176 (fun x => by have := x.2; omega)) (fun y => L172 ⟨hy, y⟩) rfl vO⟩
        exact pk_eq (rl_C (I o) - 1) 0 (fun hc => ⟨v0, pk_eq (rl_T (I o)) 0 (fun hT => L176 (fun x => by have := x.1; omega)) (fun hT => L161 (Or.inr hT)) vT⟩) (fun hc => L161 (Or.inl (by omega))) vK rfl (by omega)
end
end
section
section
variable {f_leader f_inside f_now f_foundKey f_foundValue f_foundTomb f_foundWho f_foundSequence f_foundEra : Int32} {a_offset a_kind a_who a_key a_value a_tomb a_sequence a_era a_state a_decidedAt a_dead a_count a_end a_mark a_cleaned a_gone a_eraAt a_eraOf a_eras a_epoch a_latest a_last a_places a_baseEpoch a_baseLatest a_baseLast a_basePlaces a_base a_fetched : Nat → Int32} {I : Nat → rl_ID} {O G D : Nat → Prop} {r t now : Nat}
theorem rl_x_sw15 (hr : r < 3) (hrk : rl_rk G t ≤ 40) (ht : t ≤ 600) (hnow : now ≤ 4000) (hW : ∀ o, o < t → rl_W (I o) now) (hD : ∀ j, j < t → ¬ G j → a_dead (rl_rk G j) = rl_b (D j)) {post : Int32 → SX → Prop}
    (k : ∀ c_offset c_kind c_who c_key c_value c_tomb c_sequence c_era c_state c_decidedAt : Nat → Int32, rl_TB c_offset c_kind c_who c_key c_value c_tomb c_sequence c_era c_state c_decidedAt r t I O (fun o => G o ∨ D o) now →
      (∀ i, (i < 40 * r ∨ 40 * r + 40 ≤ i) → rl_rw c_offset c_kind c_who c_key c_value c_tomb c_sequence c_era c_state c_decidedAt i = rl_rw a_offset a_kind a_who a_key a_value a_tomb a_sequence a_era a_state a_decidedAt i) →
      post (nI (rl_rk G t - rl_rk (fun o => G o ∨ D o) t)) (f_leader, f_inside, f_now, f_foundKey, f_foundValue, f_foundTomb, f_foundWho, f_foundSequence, f_foundEra, c_offset, c_kind, c_who, c_key, c_value, c_tomb, c_sequence, c_era, c_state, c_decidedAt, a_dead, upd a_count r (nI (rl_rk (fun o => G o ∨ D o) t)), a_end, a_mark, a_cleaned, a_gone, a_eraAt, a_eraOf, a_eras, a_epoch, a_latest, a_last, a_places, a_baseEpoch, a_baseLatest, a_baseLast, a_basePlaces, a_base, a_fetched)) :
    ∀ d o n (c_offset c_kind c_who c_key c_value c_tomb c_sequence c_era c_state c_decidedAt : Nat → Int32), o + d = t → rl_rk G t - rl_rk G o < n →
      (∀ j, j < o → ¬ (G j ∨ D j) → rl_TX c_offset c_kind c_who c_key c_value c_tomb c_sequence c_era c_state c_decidedAt (40 * r + rl_rk (fun o => G o ∨ D o) j) t I O j) →
      (∀ j, o ≤ j → j < t → ¬ G j → rl_TX c_offset c_kind c_who c_key c_value c_tomb c_sequence c_era c_state c_decidedAt (40 * r + rl_rk G j) t I O j) →
      (∀ i, (i < 40 * r ∨ 40 * r + 40 ≤ i) → rl_rw c_offset c_kind c_who c_key c_value c_tomb c_sequence c_era c_state c_decidedAt i = rl_rw a_offset a_kind a_who a_key a_value a_tomb a_sequence a_era a_state a_decidedAt i) →
      wX_sweep_15 post (nI r) (nI (rl_rk G t)) f_leader f_inside f_now f_foundKey f_foundValue f_foundTomb f_foundWho f_foundSequence f_foundEra n (nI (40 * r + rl_rk (fun o => G o ∨ D o) o)) (nI (rl_rk G o)) c_offset c_kind c_who c_key c_value c_tomb c_sequence c_era c_state c_decidedAt a_dead a_count a_end a_mark a_cleaned a_gone a_eraAt a_eraOf a_eras a_epoch a_latest a_last a_places a_baseEpoch a_baseLatest a_baseLast a_basePlaces a_base a_fetched := by
  have vr : vp_in (nI r) 3 := vp_in_nI hr (by omega)
  have cr : (nI r).toNatClampNeg = r := nI_clamp (by omega)
  have hsub : ∀ n, rl_rk (fun o => G o ∨ D o) n ≤ rl_rk G n := rl_rk_sub (fun j hj => Or.inl hj)
  intro d
  induction d with
  | zero =>
    intro o n c1 c2 c3 c4 c5 c6 c7 c8 c9 c10 ho hn hA hB hfr
    obtain ⟨m, rfl⟩ : ∃ m, n = m + 1 := ⟨n - 1, by omega⟩
    have e : o = t := by omega
    subst e
    have hs := hsub o
    refine br_t (nI_le (Nat.le_refl _) (by omega)) ⟨vr, ?_⟩
    have e1 : nI (40 * r + rl_rk (fun o => G o ∨ D o) o) - 40 * nI r = nI (rl_rk (fun o => G o ∨ D o) o) := by rw [rl_40, pk_sub (by omega)]; exact congrArg nI (by omega)
    rw [cr, e1, rl_nar2 (by omega)]
    refine nm_e ⟨vr, ?_⟩
    rw [pk_us, pk_sub hs]
    exact k c1 c2 c3 c4 c5 c6 c7 c8 c9 c10 ⟨hnow, ht, by omega, fun j hj => ⟨hW j hj, fun hg => hA j hj hg⟩⟩ hfr
  | succ d ih =>
    intro o n c1 c2 c3 c4 c5 c6 c7 c8 c9 c10 ho hn hA hB hfr
    have hot : o < t := by omega
    have hs := hsub o
    rcases Classical.em (G o) with hg | hg
    · have e := rl_rk_t hg
      have e' : rl_rk (fun o => G o ∨ D o) (o + 1) = rl_rk (fun o => G o ∨ D o) o := rl_rk_t (Or.inl hg)
      rw [← e] at hn ⊢
      rw [← e']
      refine ih (o + 1) n c1 c2 c3 c4 c5 c6 c7 c8 c9 c10 (by omega) hn (fun j hj hgj => ?_) (fun j h1 => hB j (by omega)) hfr
      rcases Nat.lt_or_ge j o with y | y
      · exact hA j y hgj
      · have ej : j = o := by omega
        rw [ej] at hgj; exact absurd (Or.inl hg) hgj
    · obtain ⟨m, rfl⟩ : ∃ m, n = m + 1 := ⟨n - 1, by omega⟩
      have e := rl_rk_f hg
      have hltk := rl_rk_lt hot hg
      have ck : (nI (rl_rk G o)).toNatClampNeg = rl_rk G o := nI_clamp (by omega)
      have e5 : (40 : Int32) * nI r + nI (rl_rk G o) = nI (40 * r + rl_rk G o) := by rw [rl_40, nI_add]
      have c5' : (nI (40 * r + rl_rk G o)).toNatClampNeg = 40 * r + rl_rk G o := nI_clamp (by omega)
      have c2' : (nI (40 * r + rl_rk (fun o => G o ∨ D o) o)).toNatClampNeg = 40 * r + rl_rk (fun o => G o ∨ D o) o := nI_clamp (by omega)
      have v5 : vp_in (nI (40 * r + rl_rk G o)) 120 := vp_in_nI (by omega) (by omega)
      have v2 : vp_in (nI (40 * r + rl_rk (fun o => G o ∨ D o) o)) 120 := vp_in_nI (by omega) (by omega)
      obtain ⟨q1, q2, q3, q4, q5, q6, q7, q8, q9, q10⟩ := hB o (Nat.le_refl _) hot hg
      obtain ⟨w1, w2, w3, w4, w5⟩ := hW o hot
      have hs3 := rl_st_le I O t o
      have nT : vp_nar .boolean (nI (rl_T (I o))) = nI (rl_T (I o)) := by
        have : rl_T (I o) = 0 ∨ rl_T (I o) = 1 := by omega
        rcases this with e | e <;> rw [e] <;> rfl
      refine br_f (nI_ge (by omega) (by omega)) (nm_r e5 ⟨vp_in_nI (by omega) (by omega), ?_⟩)
      rw [ck]
      refine rl_br (hD o hot hg) (fun hd => ?_) (fun hd => nm_r (nI_1 _) ?_)
      · have hg' : ¬ (G o ∨ D o) := fun y => y.elim hg hd
        have e' : rl_rk (fun o => G o ∨ D o) (o + 1) = rl_rk (fun o => G o ∨ D o) o + 1 := rl_rk_f hg'
        rw [c5', c2', q1, q2, q3, q4, q5, q6, q7, q8, q9, rl_nar1 (show rl_C (I o) - 1 < 128 by omega), rl_nar1 (show rl_B (I o) < 128 by omega), rl_nar1 (show rl_K (I o) < 128 by omega), nT, rl_nar1 (show rl_st I O t o < 128 by omega)]
        refine ⟨v5, v2, nm_e ⟨v5, v2, nm_e ⟨v5, v2, nm_e ⟨v5, v2, nm_e ⟨v5, v2, nm_e ⟨v5, v2, nm_e ⟨v5, v2, nm_e ⟨v5, v2, nm_e ⟨v5, v2, nm_e (nm_r (nI_1 _) ⟨v5, v2, nm_e (nm_r (nI_1 _) ?_)⟩)⟩⟩⟩⟩⟩⟩⟩⟩⟩
        have fin := ih (o + 1) m _ _ _ _ _ _ _ _ _ _ (by omega) (by omega)
          (fun j hj hgj => by
            rcases Nat.lt_or_ge j o with y | y
            · have hlt := rl_rk_lt (G := fun o => G o ∨ D o) y hgj
              have hne : 40 * r + rl_rk (fun o => G o ∨ D o) j ≠ 40 * r + rl_rk (fun o => G o ∨ D o) o := by omega
              refine rl_TX_mv (hA j y hgj) (j := 40 * r + rl_rk (fun o => G o ∨ D o) j)
                (c_offset := upd c1 (40 * r + rl_rk (fun o => G o ∨ D o) o) (nI o)) (c_kind := upd c2 (40 * r + rl_rk (fun o => G o ∨ D o) o) (nI (rl_C (I o) - 1))) (c_who := upd c3 (40 * r + rl_rk (fun o => G o ∨ D o) o) (nI (rl_B (I o)))) (c_key := upd c4 (40 * r + rl_rk (fun o => G o ∨ D o) o) (nI (rl_K (I o)))) (c_value := upd c5 (40 * r + rl_rk (fun o => G o ∨ D o) o) (rl_V (I o))) (c_tomb := upd c6 (40 * r + rl_rk (fun o => G o ∨ D o) o) (nI (rl_T (I o)))) (c_sequence := upd c7 (40 * r + rl_rk (fun o => G o ∨ D o) o) (rl_S (I o))) (c_era := upd c8 (40 * r + rl_rk (fun o => G o ∨ D o) o) (nI (rl_E (I o)))) (c_state := upd c9 (40 * r + rl_rk (fun o => G o ∨ D o) o) (nI (rl_st I O t o))) (c_decidedAt := upd c10 (40 * r + rl_rk (fun o => G o ∨ D o) o) (c10 (40 * r + rl_rk G o))) ?_
              unfold rl_rw
              rw [pk_un hne, pk_un hne, pk_un hne, pk_un hne, pk_un hne, pk_un hne, pk_un hne, pk_un hne, pk_un hne, pk_un hne]
            · have ej : j = o := by omega
              subst ej
              exact ⟨pk_us, pk_us, pk_us, pk_us, pk_us, pk_us, pk_us, pk_us, pk_us, fun y => pk_us.trans (q10 y)⟩)
          (fun j h1 h2 h3 => by
            have hlt := rl_rk_lt (show o < j by omega) hg
            have hne : 40 * r + rl_rk G j ≠ 40 * r + rl_rk (fun o => G o ∨ D o) o := by omega
            refine rl_TX_mv (hB j (by omega) h2 h3) (j := 40 * r + rl_rk G j)
                (c_offset := upd c1 (40 * r + rl_rk (fun o => G o ∨ D o) o) (nI o)) (c_kind := upd c2 (40 * r + rl_rk (fun o => G o ∨ D o) o) (nI (rl_C (I o) - 1))) (c_who := upd c3 (40 * r + rl_rk (fun o => G o ∨ D o) o) (nI (rl_B (I o)))) (c_key := upd c4 (40 * r + rl_rk (fun o => G o ∨ D o) o) (nI (rl_K (I o)))) (c_value := upd c5 (40 * r + rl_rk (fun o => G o ∨ D o) o) (rl_V (I o))) (c_tomb := upd c6 (40 * r + rl_rk (fun o => G o ∨ D o) o) (nI (rl_T (I o)))) (c_sequence := upd c7 (40 * r + rl_rk (fun o => G o ∨ D o) o) (rl_S (I o))) (c_era := upd c8 (40 * r + rl_rk (fun o => G o ∨ D o) o) (nI (rl_E (I o)))) (c_state := upd c9 (40 * r + rl_rk (fun o => G o ∨ D o) o) (nI (rl_st I O t o))) (c_decidedAt := upd c10 (40 * r + rl_rk (fun o => G o ∨ D o) o) (c10 (40 * r + rl_rk G o))) ?_
            unfold rl_rw
            rw [pk_un hne, pk_un hne, pk_un hne, pk_un hne, pk_un hne, pk_un hne, pk_un hne, pk_un hne, pk_un hne, pk_un hne])
          (fun i hi => by
            have hne : i ≠ 40 * r + rl_rk (fun o => G o ∨ D o) o := by omega
            have := hfr i hi
            unfold rl_rw at this ⊢
            rw [pk_un hne, pk_un hne, pk_un hne, pk_un hne, pk_un hne, pk_un hne, pk_un hne, pk_un hne, pk_un hne, pk_un hne]
            exact this)
        rw [e, e'] at fin
        exact fin
      · have e' : rl_rk (fun o => G o ∨ D o) (o + 1) = rl_rk (fun o => G o ∨ D o) o := rl_rk_t (Or.inr hd)
        have fin := ih (o + 1) m c1 c2 c3 c4 c5 c6 c7 c8 c9 c10 (by omega) (by omega) (fun j hj hgj => by
          rcases Nat.lt_or_ge j o with y | y
          · exact hA j y hgj
          · have ej : j = o := by omega
            rw [ej] at hgj; exact absurd (Or.inr hd) hgj) (fun j h1 => hB j (by omega)) hfr
        rw [e, e'] at fin
        exact fin
theorem rl_x_sweep (h : rl_TB a_offset a_kind a_who a_key a_value a_tomb a_sequence a_era a_state a_decidedAt r t I O G now) (hr : r < 3) (hc : a_count r = nI (rl_rk G t)) (hD : ∀ j, j < t → ¬ G j → a_dead (rl_rk G j) = rl_b (D j)) {post : Int32 → SX → Prop}
    (k : ∀ c_offset c_kind c_who c_key c_value c_tomb c_sequence c_era c_state c_decidedAt : Nat → Int32, rl_TB c_offset c_kind c_who c_key c_value c_tomb c_sequence c_era c_state c_decidedAt r t I O (fun o => G o ∨ D o) now →
      (∀ i, (i < 40 * r ∨ 40 * r + 40 ≤ i) → rl_rw c_offset c_kind c_who c_key c_value c_tomb c_sequence c_era c_state c_decidedAt i = rl_rw a_offset a_kind a_who a_key a_value a_tomb a_sequence a_era a_state a_decidedAt i) →
      post (nI (rl_rk G t - rl_rk (fun o => G o ∨ D o) t)) (f_leader, f_inside, f_now, f_foundKey, f_foundValue, f_foundTomb, f_foundWho, f_foundSequence, f_foundEra, c_offset, c_kind, c_who, c_key, c_value, c_tomb, c_sequence, c_era, c_state, c_decidedAt, a_dead, upd a_count r (nI (rl_rk (fun o => G o ∨ D o) t)), a_end, a_mark, a_cleaned, a_gone, a_eraAt, a_eraOf, a_eras, a_epoch, a_latest, a_last, a_places, a_baseEpoch, a_baseLatest, a_baseLast, a_basePlaces, a_base, a_fetched)) :
    wpX_sweep post (f_leader, f_inside, f_now, f_foundKey, f_foundValue, f_foundTomb, f_foundWho, f_foundSequence, f_foundEra, a_offset, a_kind, a_who, a_key, a_value, a_tomb, a_sequence, a_era, a_state, a_decidedAt, a_dead, a_count, a_end, a_mark, a_cleaned, a_gone, a_eraAt, a_eraOf, a_eras, a_epoch, a_latest, a_last, a_places, a_baseEpoch, a_baseLatest, a_baseLast, a_basePlaces, a_base, a_fetched) (nI r) := by
  unfold wpX_sweep
  obtain ⟨c1, c2, c3, c4, c5⟩ := rl_xc h hr hc
  refine nm_r (rl_40 r) ⟨c1, nm_r c2 ⟨rl_rk G t + 1, ?_⟩⟩
  exact rl_x_sw15 hr c4 c5 h.1 (fun o ho => rl_xw h ho) hD k t 0 (rl_rk G t + 1) a_offset a_kind a_who a_key a_value a_tomb a_sequence a_era a_state a_decidedAt (by omega) (by omega) (fun j hj => absurd hj (Nat.not_lt_zero _)) (fun j _ hj hg => (h.2.2.2 j hj).2 hg) (fun i _ => rfl)
end
end
section
theorem rl_sb_st {I : Nat → rl_ID} {O G : Nat → Prop} {t m : Nat} (hm : m ≤ t) : ∀ j, j < rl_sb I O G t m → rl_C (I j) = 0 → ¬ G j → O j → rl_de I t j < t := fun j hj hc hg ho => by
  have h := (rl_fs_sp (rl_sp I O G t m) m).2.1 j hj
  rcases Nat.lt_or_ge (rl_de I t j) m with y | y
  · omega
  · exact absurd ⟨hg, hc, ho, y⟩ h
theorem rl_TB_cO {a_offset a_kind a_who a_key a_value a_tomb a_sequence a_era a_state a_decidedAt c_state : Nat → Int32} {I : Nat → rl_ID} {O G : Nat → Prop} {r t now to : Nat} (h : rl_TB a_offset a_kind a_who a_key a_value a_tomb a_sequence a_era a_state a_decidedAt r t I O G now) (hst : ∀ j, j < to → rl_C (I j) = 0 → ¬ G j → O j → rl_de I t j < t)
    (hs : ∀ j, j < t → ¬ G j → c_state (40 * r + rl_rk G j) = nI (rl_st I (rl_cO I O t to) t j)) : rl_TB a_offset a_kind a_who a_key a_value a_tomb a_sequence a_era c_state a_decidedAt r t I (rl_cO I O t to) G now := by
  obtain ⟨h1, h2, h3, h4⟩ := h
  refine ⟨h1, h2, h3, fun o ho => ⟨(h4 o ho).1, fun hg => ?_⟩⟩
  obtain ⟨q0, q1, q2⟩ := rl_TX_T0 ((h4 o ho).2 hg)
  refine rl_TX_mk q0 ⟨hs o ho hg, fun y => ?_⟩
  obtain ⟨so1, so2⟩ := rl_cO_st (I := I) (O := O) (t := t) (to := to) (o := o) (fun a1 a2 a3 => hst o a1 a2 hg a3)
  rcases Classical.em (o < to ∧ rl_C (I o) = 0 ∧ ¬ rl_ab I O t o) with z | z
  · rw [so2 z] at y; omega
  · rw [so1 z] at y; exact q2 y
section
variable {f_leader f_inside f_now f_foundKey f_foundValue f_foundTomb f_foundWho f_foundSequence f_foundEra : Int32} {a_offset a_kind a_who a_key a_value a_tomb a_sequence a_era a_state a_decidedAt a_dead a_count a_end a_mark a_cleaned a_gone a_eraAt a_eraOf a_eras a_epoch a_latest a_last a_places a_baseEpoch a_baseLatest a_baseLast a_basePlaces a_base a_fetched : Nat → Int32} {I : Nat → Nat → rl_ID} {O G : Nat → Nat → Prop} {top mark cle fet bas : Nat → Nat} {mem wor : Nat → Prop} {L now r : Nat}
theorem rl_iv_clean (hi : rl_IV I G top mark cle fet bas mem L now) (hr : r < 3) :
    rl_IV I (rl_u G r (rl_cG (I r) (O r) (G r) (top r) (rl_sb (I r) (O r) (G r) (top r) (mark r)) (min (rl_ls mark) (cle r)))) top mark (rl_u cle r (max (cle r) (rl_sb (I r) (O r) (G r) (top r) (mark r)))) fet (rl_u bas r (max (bas r) (rl_sb (I r) (O r) (G r) (top r) (mark r)))) mem L now := by
  obtain ⟨i1, i2, i3, i4, i5, i6, i7, i8, i9, i10⟩ := hi
  have hsb := rl_sb_le (I r) (O r) (G r) (top r) (mark r)
  generalize hto : rl_sb (I r) (O r) (G r) (top r) (mark r) = to at hsb
  have hmt := (i1 r hr).2.2.1
  refine ⟨fun s hs => ?_, i2, i3, i4, i5, i6, fun s q hs hq hm => ?_, i8, i9, fun s hs o ho hg => ?_⟩
  · obtain ⟨a1, a2, a3, a4, a5, a6, a7⟩ := i1 s hs
    refine ⟨a1, a2, a3, ?_, ?_, a6, a7⟩
    · by_cases e : s = r
      · subst e; rw [rl_us, rl_us]; omega
      · rw [rl_un e, rl_un e]; exact a4
    · by_cases e : s = r
      · subst e; rw [rl_us]; omega
      · rw [rl_un e]; exact a5
  · obtain ⟨m1, m2, m3⟩ := i7 s q hs hq hm
    by_cases e : s = r
    · subst e
      rw [rl_us]
      exact ⟨m1, by omega, fun o ho => m3 o (by omega)⟩
    · rw [rl_un e]; exact ⟨m1, m2, m3⟩
  · by_cases e : s = r
    · subst e
      rw [rl_us] at hg ⊢
      rcases hg with y | y
      · have := i10 s hs o ho y
        exact ⟨by omega, this.2⟩
      · refine ⟨by have := y.1; omega, fun hc => ?_⟩
        rcases y.2 with z | z | z
        · exact absurd z.1.1 hc
        · have := z.2; omega
        · exact absurd z.1 hc
    · rw [rl_un e] at hg ⊢; exact i10 s hs o ho hg
theorem rl_x_cl67 {to : Nat} (hX : rl_XS f_leader f_inside f_now a_offset a_kind a_who a_key a_value a_tomb a_sequence a_era a_state a_decidedAt a_count a_end a_mark a_cleaned a_gone a_eraAt a_eraOf a_eras a_epoch a_latest a_last a_places a_baseEpoch a_baseLatest a_baseLast a_basePlaces a_base a_fetched I O G top mark cle fet bas mem wor L now) (hI1 : ∀ s, s < 3 → top s ≤ 600 ∧ mark s ≤ top s ∧ cle s ≤ top s) (hr : r < 3) (hto : to = rl_sb (I r) (O r) (G r) (top r) (mark r)) {post : Int32 → SX → Prop}
    (k : ∀ c_offset c_kind c_who c_key c_value c_tomb c_sequence c_era c_state c_decidedAt c_dead c_count c_cleaned : Nat → Int32,
      rl_XS f_leader f_inside f_now c_offset c_kind c_who c_key c_value c_tomb c_sequence c_era c_state c_decidedAt c_count a_end a_mark c_cleaned a_gone a_eraAt a_eraOf a_eras a_epoch a_latest a_last a_places a_baseEpoch a_baseLatest a_baseLast a_basePlaces a_base a_fetched
        I (rl_u O r (rl_cO (I r) (O r) (top r) to)) (rl_u G r (rl_cG (I r) (O r) (G r) (top r) to (min (rl_ls mark) (cle r)))) top mark (rl_u cle r (max (cle r) to)) fet bas mem wor L now →
      post (nI (rl_rk (G r) (top r) - rl_rk (rl_cG (I r) (O r) (G r) (top r) to (min (rl_ls mark) (cle r))) (top r))) (f_leader, f_inside, f_now, f_foundKey, f_foundValue, f_foundTomb, f_foundWho, f_foundSequence, f_foundEra, c_offset, c_kind, c_who, c_key, c_value, c_tomb, c_sequence, c_era, c_state, c_decidedAt, c_dead, c_count, a_end, a_mark, c_cleaned, a_gone, a_eraAt, a_eraOf, a_eras, a_epoch, a_latest, a_last, a_places, a_baseEpoch, a_baseLatest, a_baseLast, a_basePlaces, a_base, a_fetched)) :
    wX_clean_67 post (nI r) (nI to) f_leader f_inside f_now f_foundKey f_foundValue f_foundTomb f_foundWho f_foundSequence f_foundEra a_offset a_kind a_who a_key a_value a_tomb a_sequence a_era a_state a_decidedAt a_dead a_count a_end a_mark a_cleaned a_gone a_eraAt a_eraOf a_eras a_epoch a_latest a_last a_places a_baseEpoch a_baseLatest a_baseLast a_basePlaces a_base a_fetched := by
  obtain ⟨⟨x1, x2, x3⟩, x4, x5, x6⟩ := hX
  obtain ⟨t1, t2, t3, t4, t5, t6⟩ := x4 r hr
  obtain ⟨b1, b2, b3⟩ := hI1 r hr
  have vr : vp_in (nI r) 3 := vp_in_nI hr (by omega)
  have cr : (nI r).toNatClampNeg = r := nI_clamp (by omega)
  have ecl : a_cleaned (nI r).toNatClampNeg = nI (cle r) := by rw [cr]; exact (x6 r hr).2.1
  have hst := rl_sb_st (I := I r) (O := O r) (G := G r) (t := top r) (m := mark r) b2
  have hsb := rl_sb_le (I r) (O r) (G r) (top r) (mark r)
  rw [← hto] at hst hsb
  have hls := rl_ls_le (mark := mark) hr
  have core : ∀ lw, lw = min (rl_ls mark) (cle r) → wX_clean_89 post (nI r) (nI to) (nI lw) f_leader f_inside f_now f_foundKey f_foundValue f_foundTomb f_foundWho f_foundSequence f_foundEra a_offset a_kind a_who a_key a_value a_tomb a_sequence a_era a_state a_decidedAt a_dead a_count a_end a_mark a_cleaned a_gone a_eraAt a_eraOf a_eras a_epoch a_latest a_last a_places a_baseEpoch a_baseLatest a_baseLast a_basePlaces a_base a_fetched := by
    intro lw elw
    unfold wX_clean_89
    obtain ⟨c1, c2, c3, c4, c5⟩ := rl_xc t1 hr t2
    refine ⟨vr, nm_r (e' := nI (40 * r + rl_rk (G r) (top r)) - 1) (by rw [c3]) ⟨rl_rk (G r) (top r) + 1, ?_⟩⟩
    refine rl_x_cl107 t1 hr (by omega) (by omega) hst ?_ (top r) (rl_rk (G r) (top r) + 1) 0 a_state a_dead (Nat.le_refl _) (by omega) (fun j hj hg => ((t1.2.2.2 j hj).2 hg).2.2.2.2.2.2.2.2.1) (fun j h1 h2 => by omega) (fun i _ => rfl) (fun q hq => ⟨fun y => by rw [b_0] at y; exact absurd y (by decide), fun ⟨d, h1, h2, _⟩ => by omega⟩)
    intro cs cd hs hd hf
    have fin : ∀ c_cleaned : Nat → Int32, (∀ s, s < 3 → c_cleaned s = nI (rl_u cle r (max (cle r) to) s)) → wX_clean_284 post (nI r) f_leader f_inside f_now f_foundKey f_foundValue f_foundTomb f_foundWho f_foundSequence f_foundEra a_offset a_kind a_who a_key a_value a_tomb a_sequence a_era cs a_decidedAt cd a_count a_end a_mark c_cleaned a_gone a_eraAt a_eraOf a_eras a_epoch a_latest a_last a_places a_baseEpoch a_baseLatest a_baseLast a_basePlaces a_base a_fetched := by
      intro cc hcc
      unfold wX_clean_284
      refine rl_x_sweep (D := rl_dd (I r) (O r) (G r) (top r) to lw) (rl_TB_cO t1 hst hs) hr t2 hd ?_
      intro c_offset c_kind c_who c_key c_value c_tomb c_sequence c_era c_state c_decidedAt hT hfr
      subst elw
      refine k c_offset c_kind c_who c_key c_value c_tomb c_sequence c_era c_state c_decidedAt cd _ cc ⟨⟨x1, x2, x3⟩, fun s hs2 => ?_, x5, fun s hs2 => ?_⟩
      · by_cases e : s = r
        · subst e
          rw [rl_us, rl_us]
          exact ⟨hT, pk_us, t3, t4, t5, t6⟩
        · obtain ⟨s1, s2, s3, s4⟩ := x4 s hs2
          rw [rl_un e, rl_un e]
          refine ⟨rl_TB_fr s1 (fun i h1 h2 => ?_), by rw [pk_un e]; exact s2, s3, s4⟩
          have h40 := s1.2.2.1
          rw [hfr i (by omega)]
          unfold rl_rw
          rw [hf i (by omega)]
      · obtain ⟨a1, a2, a3, a4⟩ := x6 s hs2
        exact ⟨a1, hcc s hs2, a3, a4⟩
    refine ⟨vr, pk_le to (cle r) (fun z => fin a_cleaned (fun s hs2 => ?_)) (fun z => ⟨vr, nm_e (fin _ (fun s hs2 => ?_))⟩) rfl ecl⟩
    · by_cases e : s = r
      · subst e; rw [rl_us, (x6 s hs2).2.1]; exact congrArg nI (by omega)
      · rw [rl_un e]; exact (x6 s hs2).2.1
    · rw [cr]
      by_cases e : s = r
      · subst e; rw [rl_us, pk_us]; exact congrArg nI (by omega)
      · rw [rl_un e, pk_un e]; exact (x6 s hs2).2.1
  unfold wX_clean_67
  refine rl_x_leastMark (fun s hs => ⟨(x6 s hs).1, by have := hI1 s hs; omega⟩) ⟨vr, pk_le (rl_ls mark) (cle r) (fun z => core _ (by omega)) (fun z => ⟨vr, nm_r ecl (core _ (by omega))⟩) rfl ecl⟩
theorem rl_x_clean (hX : rl_XS f_leader f_inside f_now a_offset a_kind a_who a_key a_value a_tomb a_sequence a_era a_state a_decidedAt a_count a_end a_mark a_cleaned a_gone a_eraAt a_eraOf a_eras a_epoch a_latest a_last a_places a_baseEpoch a_baseLatest a_baseLast a_basePlaces a_base a_fetched I O G top mark cle fet bas mem wor L now) (hI : rl_IV I G top mark cle fet bas mem L now) (hr : r < 3) (hw : wor r) {to : Nat} (hto : to = rl_sb (I r) (O r) (G r) (top r) (mark r)) {post : Int32 → SX → Prop}
    (k : ∀ c_offset c_kind c_who c_key c_value c_tomb c_sequence c_era c_state c_decidedAt c_dead c_count c_cleaned c_epoch c_latest c_last c_places c_baseEpoch c_baseLatest c_baseLast c_basePlaces c_base : Nat → Int32,
      rl_XS f_leader f_inside f_now c_offset c_kind c_who c_key c_value c_tomb c_sequence c_era c_state c_decidedAt c_count a_end a_mark c_cleaned a_gone a_eraAt a_eraOf a_eras c_epoch c_latest c_last c_places c_baseEpoch c_baseLatest c_baseLast c_basePlaces c_base a_fetched
        I (rl_u O r (rl_cO (I r) (O r) (top r) to)) (rl_u G r (rl_cG (I r) (O r) (G r) (top r) to (min (rl_ls mark) (cle r)))) top mark (rl_u cle r (max (cle r) to)) fet (rl_u bas r (max (bas r) to)) mem wor L now →
      post (nI (rl_rk (G r) (top r) - rl_rk (rl_cG (I r) (O r) (G r) (top r) to (min (rl_ls mark) (cle r))) (top r))) (f_leader, f_inside, f_now, f_foundKey, f_foundValue, f_foundTomb, f_foundWho, f_foundSequence, f_foundEra, c_offset, c_kind, c_who, c_key, c_value, c_tomb, c_sequence, c_era, c_state, c_decidedAt, c_dead, c_count, a_end, a_mark, c_cleaned, a_gone, a_eraAt, a_eraOf, a_eras, c_epoch, c_latest, c_last, c_places, c_baseEpoch, c_baseLatest, c_baseLast, c_basePlaces, c_base, a_fetched)) :
    wpX_clean post (f_leader, f_inside, f_now, f_foundKey, f_foundValue, f_foundTomb, f_foundWho, f_foundSequence, f_foundEra, a_offset, a_kind, a_who, a_key, a_value, a_tomb, a_sequence, a_era, a_state, a_decidedAt, a_dead, a_count, a_end, a_mark, a_cleaned, a_gone, a_eraAt, a_eraOf, a_eras, a_epoch, a_latest, a_last, a_places, a_baseEpoch, a_baseLatest, a_baseLast, a_basePlaces, a_base, a_fetched) (nI r) := by
  obtain ⟨i1, i2, i3, i4, i5, i6, i7, i8, i9, i10⟩ := hI
  have hI1 : ∀ s, s < 3 → top s ≤ 600 ∧ mark s ≤ top s ∧ cle s ≤ top s := fun s hs => ⟨(i1 s hs).1, (i1 s hs).2.2.1, (i1 s hs).2.2.2.2.1⟩
  have hX0 := hX
  obtain ⟨⟨x1, x2, x3⟩, x4, x5, x6⟩ := hX
  obtain ⟨t1, t2, t3, t4, t5, t6⟩ := x4 r hr
  obtain ⟨b1, b2, b3⟩ := hI1 r hr
  have vr : vp_in (nI r) 3 := vp_in_nI hr (by omega)
  have cr : (nI r).toNatClampNeg = r := nI_clamp (by omega)
  have eb : a_base (nI r).toNatClampNeg = nI (bas r) := by rw [cr]; exact t4
  have eg : a_gone (nI r).toNatClampNeg = rl_b (¬ wor r) := by rw [cr]; exact (x6 r hr).2.2.1
  have hsb := rl_sb_le (I r) (O r) (G r) (top r) (mark r)
  rw [← hto] at hsb
  have hbc := (i1 r hr).2.2.2.1
  have hGb : ∀ o, o < top r → G r o → o < bas r := fun o ho hg => (i10 r hr o ho hg).1
  unfold wpX_clean
  refine rl_outG (n := 3) hr (by omega) (br_t rfl ⟨vr, rl_br eg (fun _ => rl_x_stable t1 hr t2 b2 (x6 r hr).1 ?_) (fun y => absurd hw y)⟩)
  rw [← hto]
  refine ⟨vr, pk_le to (bas r) (fun z => ?_) (fun z => ?_) rfl eb⟩
  · have e : rl_u bas r (max (bas r) to) = bas := by
      funext s
      by_cases e : s = r
      · subst e; rw [rl_us]; omega
      · rw [rl_un e]
    rw [e] at k
    refine rl_x_cl67 hX0 hI1 hr hto ?_
    intro c_offset c_kind c_who c_key c_value c_tomb c_sequence c_era c_state c_decidedAt c_dead c_count c_cleaned h1
    exact k _ _ _ _ _ _ _ _ _ _ _ _ _ _ _ _ _ _ _ _ _ _ h1
  · have e : rl_u bas r (max (bas r) to) = rl_u bas r to := by
      funext s
      by_cases e : s = r
      · subst e; rw [rl_us, rl_us]; omega
      · rw [rl_un e, rl_un e]
    rw [e] at k
    refine rl_x_recall hr hr t6 ?_
    intro e1 e2 e3 e4 hP1 hF1
    refine rl_x_recount t1 hr t2 t4 hGb (by omega) (by omega) hP1 ?_
    intro d1 d2 d3 d4 hP2 hF2
    refine rl_x_rebase hr hP2 ?_
    intro g1 g2 g3 g4 hB1 hF3
    refine ⟨vr, ?_⟩
    rw [cr, t3]
    refine rl_x_recount (a_base := upd a_base r (nI to)) t1 hr t2 pk_us (fun o ho hg => by have := hGb o ho hg; omega) (by omega) (Nat.le_refl _) hP2 ?_
    intro h1 h2 h3 h4 hP3 hF4
    refine rl_x_cl67 (bas := rl_u bas r to) ⟨⟨x1, x2, x3⟩, fun s hs => ?_, x5, x6⟩ hI1 hr hto ?_
    · by_cases es : s = r
      · subst es
        rw [rl_us]
        exact ⟨t1, t2, t3, pk_us, hP3, hB1⟩
      · obtain ⟨s1, s2, s3, s4, s5, s6⟩ := x4 s hs
        rw [rl_un es]
        refine ⟨s1, s2, s3, by rw [pk_un es]; exact s4, rl_PR_fr s5 (fun q q1 q2 => ?_), rl_PR_fr s6 (fun q q1 q2 => hF3 q (by omega))⟩
        rw [hF4 q (by omega), hF2 q (by omega), hF1 q (by omega)]
    · intro c_offset c_kind c_who c_key c_value c_tomb c_sequence c_era c_state c_decidedAt c_dead c_count c_cleaned h5
      exact k _ _ _ _ _ _ _ _ _ _ _ _ _ _ _ _ _ _ _ _ _ _ h5
end
end
section
section
variable {f_leader f_inside f_now f_foundKey f_foundValue f_foundTomb f_foundWho f_foundSequence f_foundEra : Int32} {a_offset a_kind a_who a_key a_value a_tomb a_sequence a_era a_state a_decidedAt a_dead a_count a_end a_mark a_cleaned a_gone a_eraAt a_eraOf a_eras a_epoch a_latest a_last a_places a_baseEpoch a_baseLatest a_baseLast a_basePlaces a_base a_fetched : Nat → Int32} {g_leader g_now : Int32} {b_by b_kind b_seq b_key b_val b_era b_tomb b_gone b_top b_mark b_cleaned b_fetched b_works b_member b_shown : Nat → Int32} {I : Nat → Nat → rl_ID} {O G : Nat → Nat → Prop} {top mark cle fet bas : Nat → Nat} {mem wor : Nat → Prop} {L now r to low : Nat}
theorem rl_YL_cg {Q H : Nat → Nat → Prop} (h : rl_YL b_by b_kind b_seq b_key b_val b_era b_tomb b_gone b_top I O G top now) (hO : ∀ s o, s < 3 → o < top s → (O s o ↔ Q s o)) (hG : ∀ s o, s < 3 → o < top s → (G s o ↔ H s o)) : rl_YL b_by b_kind b_seq b_key b_val b_era b_tomb b_gone b_top I Q H top now := by
  refine ⟨h.1, fun s hs => ?_⟩
  obtain ⟨h1, h2, h3⟩ := h.2 s hs
  refine ⟨h1, h2, fun o ho => ⟨?_, (h3 o ho).2⟩⟩
  have := (h3 o ho).1
  unfold rl_YR at this ⊢
  rw [← propext (hO s o hs ho), ← propext (hG s o hs ho)]; exact this
theorem rl_YL_g {H : Nat → Nat → Prop} {j : Nat} (h : rl_YL b_by b_kind b_seq b_key b_val b_era b_tomb b_gone b_top I O G top now) (hr : r < 3) (hj : j < top r) (h1 : H r j) (h2 : ∀ s o, s < 3 → o < top s → ¬ (s = r ∧ o = j) → (G s o ↔ H s o)) :
    rl_YL b_by b_kind b_seq b_key b_val b_era b_tomb (upd b_gone (620 * r + j) 1) b_top I O H top now := by
  refine ⟨h.1, fun s hs => ?_⟩
  obtain ⟨q1, q2, q3⟩ := h.2 s hs
  have hrt := (h.2 r hr).1
  refine ⟨q1, q2, fun o ho => ⟨?_, (q3 o ho).2⟩⟩
  obtain ⟨y1, y2, y3, y4, y5, y6, y7, y8⟩ := (q3 o ho).1
  refine ⟨y1, y2, y3, y4, y5, y6, y7, ?_⟩
  by_cases e : s = r ∧ o = j
  · obtain ⟨e1, e2⟩ := e
    subst e1 e2
    rw [pk_us, rl_bt h1]
  · rw [pk_un (by omega), y8]; exact rl_bcg (h2 s o hs ho e)
theorem rl_YL_k {Q : Nat → Nat → Prop} {j : Nat} (h : rl_YL b_by b_kind b_seq b_key b_val b_era b_tomb b_gone b_top I O G top now) (hr : r < 3) (hj : j < top r) (hc : rl_C (I r j) = 0) (h1 : ¬ Q r j) (h2 : ∀ s o, s < 3 → o < top s → ¬ (s = r ∧ o = j) → (O s o ↔ Q s o)) :
    rl_YL b_by (upd b_kind (620 * r + j) 0) b_seq b_key b_val b_era b_tomb b_gone b_top I Q G top now := by
  refine ⟨h.1, fun s hs => ?_⟩
  obtain ⟨q1, q2, q3⟩ := h.2 s hs
  have hrt := (h.2 r hr).1
  refine ⟨q1, q2, fun o ho => ⟨?_, (q3 o ho).2⟩⟩
  obtain ⟨y1, y2, y3, y4, y5, y6, y7, y8⟩ := (q3 o ho).1
  refine ⟨y1, ?_, y3, y4, y5, y6, y7, y8⟩
  by_cases e : s = r ∧ o = j
  · obtain ⟨e1, e2⟩ := e
    subst e1 e2
    rw [pk_us, hc, rl_kd0 h1]; rfl
  · rw [pk_un (by omega), y2, propext (h2 s o hs ho e)]
/-! overtaken -/
def rl_ov (I : Nat → rl_ID) (G : Nat → Prop) (to o : Nat) : Prop := ∃ d, o < d ∧ d < to ∧ rl_C (I d) = 0 ∧ ¬ G d ∧ rl_K (I d) = rl_K (I o)
theorem rl_y_ov4 (h : rl_YL b_by b_kind b_seq b_key b_val b_era b_tomb b_gone b_top I O G top now) (hr : r < 3) (hto : to ≤ top r) {o : Nat} (ho : o < to) {post : Int32 → Prop} (hq : post (rl_b (rl_ov (I r) (G r) to o))) :
    ∀ n d, o < d → d ≤ to → to - d < n → (∀ j, o < j → j < d → ¬ (rl_C (I r j) = 0 ∧ ¬ G r j ∧ rl_K (I r j) = rl_K (I r o))) → wY_overtaken_4 post (nI (620 * r + o)) (nI (620 * r + to)) g_leader g_now b_by b_kind b_seq b_key b_val b_era b_tomb b_gone b_top b_mark b_cleaned b_fetched b_works b_member b_shown n (nI (620 * r + d)) := by
  have ht := (h.2 r hr).1
  intro n
  induction n with
  | zero => intro d _ h1 h2; omega
  | succ n ih =>
    intro d hod hd hn hj
    refine pk_le (620 * r + to) (620 * r + d) (fun z => ?_) (fun z => ?_)
    · rw [rl_bf] at hq
      · exact hq
      · rintro ⟨q, q1, q2, q3, q4, q5⟩
        exact hj q q1 (by omega) ⟨q3, q4, q5⟩
    · have hdt : d < top r := by omega
      obtain ⟨v0, vB, vK, vS, vY, vV, vE, vT, vG⟩ := rl_yr h hr hdt
      obtain ⟨u0, uB, uK, uS, uY, -⟩ := rl_yr h hr (show o < top r by omega)
      obtain ⟨w1, w2, w3, -⟩ := rl_yw h hr hdt
      obtain ⟨z1, z2, z3, -⟩ := rl_yw h hr (show o < top r by omega)
      have go : ¬ (rl_C (I r d) = 0 ∧ ¬ G r d ∧ rl_K (I r d) = rl_K (I r o)) → wY_overtaken_4 post (nI (620 * r + o)) (nI (620 * r + to)) g_leader g_now b_by b_kind b_seq b_key b_val b_era b_tomb b_gone b_top b_mark b_cleaned b_fetched b_works b_member b_shown n (nI (620 * r + d + 1)) := fun hno =>
        ih (d + 1) (by omega) (by omega) (by omega) (fun j h1 h2 => by
          rcases Nat.lt_or_ge j d with y | y
          · exact hj j h1 y
          · have e : j = d := by omega
            rw [e]; exact hno)
      refine ⟨v0, rl_k2le w2 vK (fun hc => nm_r (nI_1 _) (go (fun y => hc y.1))) (fun hc => ⟨v0, rl_br vG (fun hg => ⟨v0, u0, pk_eq (rl_K (I r d)) (rl_K (I r o)) (fun hk => ?_) (fun hk => nm_r (nI_1 _) (go (fun y => hk y.2.2))) vY uY⟩) (fun hg => nm_r (nI_1 _) (go (fun y => y.2.1 hg)))⟩)⟩
      rw [rl_bt (P := rl_ov (I r) (G r) to o) ⟨d, hod, by omega, hc, hg, hk⟩] at hq; exact hq
theorem rl_y_overtaken (h : rl_YL b_by b_kind b_seq b_key b_val b_era b_tomb b_gone b_top I O G top now) (hr : r < 3) (hto : to ≤ top r) {o : Nat} (ho : o < to) {post : Int32 → Prop} (hq : post (rl_b (rl_ov (I r) (G r) to o))) : wpY_overtaken post (g_leader, g_now, b_by, b_kind, b_seq, b_key, b_val, b_era, b_tomb, b_gone, b_top, b_mark, b_cleaned, b_fetched, b_works, b_member, b_shown) (nI (620 * r + o)) (nI (620 * r + to)) := by
  unfold wpY_overtaken
  exact nm_r (nI_1 _) ⟨to + 1, rl_y_ov4 h hr hto ho hq (to + 1) (o + 1) (by omega) (by omega) (by omega) (fun j h1 h2 => by omega)⟩
/-! the four passes -/
def rl_g1 (I : Nat → Nat → rl_ID) (O G : Nat → Nat → Prop) (top : Nat → Nat) (r j : Nat) : Nat → Nat → Prop := rl_u G r (fun o => G r o ∨ (o < j ∧ rl_ab (I r) (O r) (top r) o))
def rl_o2 (I : Nat → Nat → rl_ID) (O : Nat → Nat → Prop) (top : Nat → Nat) (r j : Nat) : Nat → Nat → Prop := rl_u O r (fun o => O r o ∧ ¬ (o < j ∧ rl_C (I r o) = 0 ∧ rl_fa (I r) (top r) o = 2))
def rl_g3 (I : Nat → Nat → rl_ID) (G : Nat → Nat → Prop) (r to j : Nat) : Nat → Nat → Prop := rl_u G r (fun o => G r o ∨ (o < j ∧ rl_C (I r o) = 0 ∧ rl_ov (I r) (G r) to o))
def rl_g4 (I : Nat → Nat → rl_ID) (G : Nat → Nat → Prop) (r low j : Nat) : Nat → Nat → Prop := rl_u G r (fun o => G r o ∨ (o < j ∧ o < low ∧ (rl_C (I r o) ≠ 0 ∨ rl_T (I r o) ≠ 0)))
theorem rl_y_c93 (hr : r < 3) (hto : to ≤ top r) (ht : top r ≤ 600) {x5 : Int32} {post : Int32 → SY → Prop}
    (k : ∀ c_gone : Nat → Int32, rl_YL b_by b_kind b_seq b_key b_val b_era b_tomb c_gone b_top I O (rl_g1 I O G top r to) top now → ∃ n, wY_clean_127 post (nI r) (nI to) (nI (620 * r)) (nI (620 * r + to)) x5 (nI low) g_leader g_now n (nI (620 * r)) b_by b_kind b_seq b_key b_val b_era b_tomb c_gone b_top b_mark b_cleaned b_fetched b_works b_member b_shown) :
    ∀ n j (c_gone : Nat → Int32), j ≤ to → to - j < n → rl_YL b_by b_kind b_seq b_key b_val b_era b_tomb c_gone b_top I O (rl_g1 I O G top r j) top now → wY_clean_93 post (nI r) (nI to) (nI (620 * r)) (nI (620 * r + to)) x5 (nI low) g_leader g_now n (nI (620 * r + j)) b_by b_kind b_seq b_key b_val b_era b_tomb c_gone b_top b_mark b_cleaned b_fetched b_works b_member b_shown := by
  intro n
  induction n with
  | zero => intro j cg h1 h2; omega
  | succ n ih =>
    intro j cg hj hn hY
    refine pk_le (620 * r + to) (620 * r + j) (fun z => ?_) (fun z => ?_)
    · have e : j = to := by omega
      subst e; exact k cg hY
    · have hjt : j < top r := by omega
      have cj : (nI (620 * r + j)).toNatClampNeg = 620 * r + j := nI_clamp (by omega)
      refine rl_y_aborted hY hr hjt (rl_br rfl (fun hb => nm_r (nI_1 _) (ih (j + 1) cg (by omega) (by omega) (rl_YL_cg hY (fun s o _ _ => Iff.rfl) (fun s o hs ho => ?_)))) (fun hb => ⟨vp_in_nI (by omega) (by omega), ?_⟩))
      · unfold rl_g1
        by_cases e : s = r
        · subst e
          rw [rl_us, rl_us]
          refine or_congr Iff.rfl ⟨fun y => ⟨by omega, y.2⟩, fun y => ⟨?_, y.2⟩⟩
          rcases Nat.lt_or_ge o j with x | x
          · exact x
          · have eo : o = j := by omega
            subst eo; exact absurd y.2 hb
        · rw [rl_un e, rl_un e]
      · rw [cj]
        refine nm_e (nm_r (nI_1 _) (ih (j + 1) _ (by omega) (by omega) (rl_YL_g hY hr hjt ?_ (fun s o hs ho hne => ?_))))
        · unfold rl_g1; rw [rl_us]; exact Or.inr ⟨by omega, hb⟩
        · unfold rl_g1
          by_cases e : s = r
          · subst e
            rw [rl_us, rl_us]
            refine or_congr Iff.rfl ⟨fun y => ⟨by omega, y.2⟩, fun y => ⟨?_, y.2⟩⟩
            rcases Nat.lt_or_ge o j with x | x
            · exact x
            · exact absurd ⟨rfl, by omega⟩ hne
          · rw [rl_un e, rl_un e]
theorem rl_y_c127 (hr : r < 3) (hto : to ≤ top r) (ht : top r ≤ 600) {x5 : Int32} {post : Int32 → SY → Prop}
    (k : ∀ c_kind : Nat → Int32, rl_YL b_by c_kind b_seq b_key b_val b_era b_tomb b_gone b_top I (rl_o2 I O top r to) G top now → ∃ n, wY_clean_173 post (nI r) (nI to) (nI (620 * r)) (nI (620 * r + to)) x5 (nI low) g_leader g_now n (nI (620 * r)) b_by c_kind b_seq b_key b_val b_era b_tomb b_gone b_top b_mark b_cleaned b_fetched b_works b_member b_shown) :
    ∀ n j (c_kind : Nat → Int32), j ≤ to → to - j < n → rl_YL b_by c_kind b_seq b_key b_val b_era b_tomb b_gone b_top I (rl_o2 I O top r j) G top now → wY_clean_127 post (nI r) (nI to) (nI (620 * r)) (nI (620 * r + to)) x5 (nI low) g_leader g_now n (nI (620 * r + j)) b_by c_kind b_seq b_key b_val b_era b_tomb b_gone b_top b_mark b_cleaned b_fetched b_works b_member b_shown := by
  intro n
  induction n with
  | zero => intro j cg h1 h2; omega
  | succ n ih =>
    intro j cg hj hn hY
    refine pk_le (620 * r + to) (620 * r + j) (fun z => ?_) (fun z => ?_)
    · have e : j = to := by omega
      subst e; exact k cg hY
    · have hjt : j < top r := by omega
      have cj : (nI (620 * r + j)).toNatClampNeg = 620 * r + j := nI_clamp (by omega)
      obtain ⟨v0, vB, vK, -⟩ := rl_yr hY hr hjt
      obtain ⟨w1, w2, -⟩ := rl_yw hY hr hjt
      have hfa := rl_fa_sp hY hr hjt
      have stay : ¬ (rl_C (I r j) = 0 ∧ O r j ∧ rl_fa (I r) (top r) j = 2) → wY_clean_127 post (nI r) (nI to) (nI (620 * r)) (nI (620 * r + to)) x5 (nI low) g_leader g_now n (nI (620 * r + j + 1)) b_by cg b_seq b_key b_val b_era b_tomb b_gone b_top b_mark b_cleaned b_fetched b_works b_member b_shown := fun hno =>
        ih (j + 1) cg (by omega) (by omega) (rl_YL_cg hY (fun s o hs ho => by
          unfold rl_o2
          by_cases e : s = r
          · subst e
            rw [rl_us, rl_us]
            refine ⟨fun y => ⟨y.1, fun q => ?_⟩, fun y => ⟨y.1, fun q => y.2 ⟨by omega, q.2⟩⟩⟩
            rcases Nat.lt_or_ge o j with x | x
            · exact y.2 ⟨x, q.2⟩
            · have eo : o = j := by omega
              subst eo; exact hno ⟨q.2.1, y.1, q.2.2⟩
          · rw [rl_un e, rl_un e]) (fun s o _ _ => Iff.rfl))
      have hOj : rl_o2 I O top r j r j ↔ O r j := by
        unfold rl_o2; rw [rl_us]
        exact ⟨fun y => y.1, fun y => ⟨y, fun q => absurd q.1 (Nat.lt_irrefl _)⟩⟩
      refine ⟨v0, rl_k1 w2 vK (fun hc => rl_y_fate hY hr hjt (pk_eq (rl_fa (I r) (top r) j) 2 (fun hf => ⟨v0, ?_⟩) (fun hf => nm_r (nI_1 _) (stay (fun y => hf y.2.2))) rfl rfl (by omega))) (fun hc => nm_r (nI_1 _) (stay (fun y => hc ⟨y.1, hOj.mpr y.2.1⟩)))⟩
      rw [cj]
      refine nm_e (nm_r (nI_1 _) (ih (j + 1) _ (by omega) (by omega) (rl_YL_k hY hr hjt hc.1 ?_ (fun s o hs ho hne => ?_))))
      · unfold rl_o2; rw [rl_us]; exact fun y => y.2 ⟨by omega, hc.1, hf⟩
      · unfold rl_o2
        by_cases e : s = r
        · subst e
          rw [rl_us, rl_us]
          refine ⟨fun y => ⟨y.1, fun q => ?_⟩, fun y => ⟨y.1, fun q => y.2 ⟨by omega, q.2⟩⟩⟩
          rcases Nat.lt_or_ge o j with x | x
          · exact y.2 ⟨x, q.2⟩
          · exact absurd ⟨rfl, by omega⟩ hne
        · rw [rl_un e, rl_un e]
theorem rl_y_c173 (hr : r < 3) (hto : to ≤ top r) (ht : top r ≤ 600) {x5 : Int32} {post : Int32 → SY → Prop}
    (k : ∀ c_gone : Nat → Int32, rl_YL b_by b_kind b_seq b_key b_val b_era b_tomb c_gone b_top I O (rl_g3 I G r to to) top now → ∃ n, wY_clean_229 post (nI r) (nI to) (nI (620 * r)) (nI (620 * r + to)) x5 (nI low) g_leader g_now n (nI (620 * r)) b_by b_kind b_seq b_key b_val b_era b_tomb c_gone b_top b_mark b_cleaned b_fetched b_works b_member b_shown) :
    ∀ n j (c_gone : Nat → Int32), j ≤ to → to - j < n → rl_YL b_by b_kind b_seq b_key b_val b_era b_tomb c_gone b_top I O (rl_g3 I G r to j) top now → wY_clean_173 post (nI r) (nI to) (nI (620 * r)) (nI (620 * r + to)) x5 (nI low) g_leader g_now n (nI (620 * r + j)) b_by b_kind b_seq b_key b_val b_era b_tomb c_gone b_top b_mark b_cleaned b_fetched b_works b_member b_shown := by
  intro n
  induction n with
  | zero => intro j cg h1 h2; omega
  | succ n ih =>
    intro j cg hj hn hY
    refine pk_le (620 * r + to) (620 * r + j) (fun z => ?_) (fun z => ?_)
    · have e : j = to := by omega
      subst e; exact k cg hY
    · have hjt : j < top r := by omega
      have cj : (nI (620 * r + j)).toNatClampNeg = 620 * r + j := nI_clamp (by omega)
      obtain ⟨v0, vB, vK, -, -, -, -, -, vG⟩ := rl_yr hY hr hjt
      obtain ⟨w1, w2, -⟩ := rl_yw hY hr hjt
      have hGj : rl_g3 I G r to j r j ↔ G r j := by
        unfold rl_g3; rw [rl_us]
        exact ⟨fun y => y.elim id (fun q => absurd q.1 (Nat.lt_irrefl _)), Or.inl⟩
      have hov : rl_ov (I r) (rl_g3 I G r to j r) to j ↔ rl_ov (I r) (G r) to j := by
        have hg : ∀ d, j < d → (rl_g3 I G r to j r d ↔ G r d) := fun d hd => by
          unfold rl_g3; rw [rl_us]
          exact ⟨fun y => y.elim id (fun q => by have := q.1; omega), Or.inl⟩
        constructor
        · rintro ⟨d, d1, d2, d3, d4, d5⟩; exact ⟨d, d1, d2, d3, fun y => d4 ((hg d d1).mpr y), d5⟩
        · rintro ⟨d, d1, d2, d3, d4, d5⟩; exact ⟨d, d1, d2, d3, fun y => d4 ((hg d d1).mp y), d5⟩
      have stay : (rl_C (I r j) = 0 → rl_ov (I r) (G r) to j → G r j) → wY_clean_173 post (nI r) (nI to) (nI (620 * r)) (nI (620 * r + to)) x5 (nI low) g_leader g_now n (nI (620 * r + j + 1)) b_by b_kind b_seq b_key b_val b_era b_tomb cg b_top b_mark b_cleaned b_fetched b_works b_member b_shown := fun hno =>
        ih (j + 1) cg (by omega) (by omega) (rl_YL_cg hY (fun s o _ _ => Iff.rfl) (fun s o hs ho => by
          unfold rl_g3
          by_cases e : s = r
          · subst e
            rw [rl_us, rl_us]
            refine ⟨fun y => y.elim Or.inl (fun q => Or.inr ⟨by omega, q.2⟩), fun y => y.elim Or.inl (fun q => ?_)⟩
            rcases Nat.lt_or_ge o j with x | x
            · exact Or.inr ⟨x, q.2⟩
            · have eo : o = j := by omega
              subst eo; exact Or.inl (hno q.2.1 q.2.2)
          · rw [rl_un e, rl_un e]))
      refine ⟨v0, rl_k2le w2 vK (fun hc => nm_r (nI_1 _) (stay (fun y => absurd y hc))) (fun hc => ⟨v0, rl_br vG (fun hg => rl_y_overtaken hY hr hto (show j < to by omega) (rl_br rfl (fun hv => nm_r (nI_1 _) (stay (fun _ y => absurd (hov.mpr y) hv))) (fun hv => ⟨v0, ?_⟩))) (fun hg => nm_r (nI_1 _) (stay (fun _ _ => hGj.mp hg)))⟩)⟩
      rw [cj]
      refine nm_e (nm_r (nI_1 _) (ih (j + 1) _ (by omega) (by omega) (rl_YL_g hY hr hjt ?_ (fun s o hs ho hne => ?_))))
      · unfold rl_g3; rw [rl_us]; exact Or.inr ⟨by omega, hc, hov.mp hv⟩
      · unfold rl_g3
        by_cases e : s = r
        · subst e
          rw [rl_us, rl_us]
          refine or_congr Iff.rfl ⟨fun y => ⟨by omega, y.2⟩, fun y => ⟨?_, y.2⟩⟩
          rcases Nat.lt_or_ge o j with x | x
          · exact x
          · exact absurd ⟨rfl, by omega⟩ hne
        · rw [rl_un e, rl_un e]
theorem rl_y_c229 (hr : r < 3) (hto : to ≤ top r) (ht : top r ≤ 600) (hlow : low ≤ 600) {x5 : Int32} {post : Int32 → SY → Prop}
    (k : ∀ c_gone : Nat → Int32, rl_YL b_by b_kind b_seq b_key b_val b_era b_tomb c_gone b_top I O (rl_g4 I G r low to) top now → wY_clean_280 post (nI r) (nI to) x5 g_leader g_now b_by b_kind b_seq b_key b_val b_era b_tomb c_gone b_top b_mark b_cleaned b_fetched b_works b_member b_shown) :
    ∀ n j (c_gone : Nat → Int32), j ≤ to → to - j < n → rl_YL b_by b_kind b_seq b_key b_val b_era b_tomb c_gone b_top I O (rl_g4 I G r low j) top now → wY_clean_229 post (nI r) (nI to) (nI (620 * r)) (nI (620 * r + to)) x5 (nI low) g_leader g_now n (nI (620 * r + j)) b_by b_kind b_seq b_key b_val b_era b_tomb c_gone b_top b_mark b_cleaned b_fetched b_works b_member b_shown := by
  intro n
  induction n with
  | zero => intro j cg h1 h2; omega
  | succ n ih =>
    intro j cg hj hn hY
    refine pk_le (620 * r + to) (620 * r + j) (fun z => ?_) (fun z => pk_le (620 * r + low) (620 * r + j) (fun z2 => ?_) (fun z2 => ?_) (nI_add _ _))
    · have e : j = to := by omega
      subst e; exact k cg hY
    · refine k cg (rl_YL_cg hY (fun s o _ _ => Iff.rfl) (fun s o hs ho => ?_))
      unfold rl_g4
      by_cases e : s = r
      · subst e
        rw [rl_us, rl_us]
        exact or_congr Iff.rfl ⟨fun y => ⟨by omega, y.2⟩, fun y => ⟨by have := y.2.1; omega, y.2⟩⟩
      · rw [rl_un e, rl_un e]
    · have hjt : j < top r := by omega
      have cj : (nI (620 * r + j)).toNatClampNeg = 620 * r + j := nI_clamp (by omega)
      obtain ⟨v0, vB, vK, -, -, -, -, vT, vG⟩ := rl_yr hY hr hjt
      obtain ⟨w1, w2, w3, w4, -⟩ := rl_yw hY hr hjt
      have put : (rl_C (I r j) ≠ 0 ∨ rl_T (I r j) ≠ 0) → wY_clean_229 post (nI r) (nI to) (nI (620 * r)) (nI (620 * r + to)) x5 (nI low) g_leader g_now n (nI (620 * r + j + 1)) b_by b_kind b_seq b_key b_val b_era b_tomb (upd cg (620 * r + j) 1) b_top b_mark b_cleaned b_fetched b_works b_member b_shown := fun hy =>
        ih (j + 1) _ (by omega) (by omega) (rl_YL_g hY hr hjt (by unfold rl_g4; rw [rl_us]; exact Or.inr ⟨by omega, by omega, hy⟩) (fun s o hs ho hne => by
          unfold rl_g4
          by_cases e : s = r
          · subst e
            rw [rl_us, rl_us]
            refine or_congr Iff.rfl ⟨fun y => ⟨by omega, y.2⟩, fun y => ⟨?_, y.2⟩⟩
            rcases Nat.lt_or_ge o j with x | x
            · exact x
            · exact absurd ⟨rfl, by omega⟩ hne
          · rw [rl_un e, rl_un e]))
      refine ⟨v0, rl_k1lt w2 vK (fun hc => ⟨v0, ?_⟩) (fun hc => ⟨v0, pk_eq (rl_T (I r j)) 0 (fun hT => nm_r (nI_1 _) (ih (j + 1) cg (by omega) (by omega) (rl_YL_cg hY (fun s o _ _ => Iff.rfl) (fun s o hs ho => ?_)))) (fun hT => ⟨v0, ?_⟩) vT⟩)⟩
      · rw [cj]; exact nm_e (nm_r (nI_1 _) (put (Or.inl hc)))
      · unfold rl_g4
        by_cases e : s = r
        · subst e
          rw [rl_us, rl_us]
          refine or_congr Iff.rfl ⟨fun y => ⟨by omega, y.2⟩, fun y => ⟨?_, y.2⟩⟩
          rcases Nat.lt_or_ge o j with x | x
          · exact x
          · have eo : o = j := by omega
            subst eo
            rcases y.2.2 with q | q
            · exact absurd hc q
            · exact absurd hT q
        · rw [rl_un e, rl_un e]
      · rw [cj]; exact nm_e (nm_r (nI_1 _) (put (Or.inr hT)))
/-- all four passes together -/
theorem rl_g_all (hr : r < 3) : ∀ s o, s < 3 → o < top s →
    (rl_g4 I (rl_g3 I (rl_g1 I O G top r to) r to to) r low to s o ↔ rl_u G r (rl_cG (I r) (O r) (G r) (top r) to low) s o) := by
  intro s o hs ho
  by_cases e : s = r
  · subst e
    have e1 : ∀ d, rl_g1 I O G top s to s d ↔ (G s d ∨ (d < to ∧ rl_ab (I s) (O s) (top s) d)) := fun d => by unfold rl_g1; rw [rl_us]
    have e3 : rl_g3 I (rl_g1 I O G top s to) s to to s o ↔ (rl_g1 I O G top s to s o ∨ (o < to ∧ rl_C (I s o) = 0 ∧ rl_ov (I s) (rl_g1 I O G top s to s) to o)) := by
      unfold rl_g3; rw [rl_us]
    have e4 : rl_g4 I (rl_g3 I (rl_g1 I O G top s to) s to to) s low to s o ↔ (rl_g3 I (rl_g1 I O G top s to) s to to s o ∨ (o < to ∧ o < low ∧ (rl_C (I s o) ≠ 0 ∨ rl_T (I s o) ≠ 0))) := by
      unfold rl_g4; rw [rl_us]
    rw [e4, e3, e1, rl_us]
    unfold rl_cG rl_dd
    have eov : rl_ov (I s) (rl_g1 I O G top s to s) to o ↔ rl_kp (I s) (O s) (G s) (top s) to (o + 1) (rl_K (I s o)) := by
      constructor
      · rintro ⟨d, d1, d2, d3, d4, d5⟩
        rw [e1] at d4
        exact ⟨d, d1, d2, fun y => d4 (Or.inl y), d3, fun y => d4 (Or.inr ⟨d2, y⟩), d5⟩
      · rintro ⟨d, d1, d2, d3, d4, d5, d6⟩
        refine ⟨d, d1, d2, d4, fun y => ?_, d6⟩
        rw [e1] at y
        exact y.elim d3 (fun q => d5 q.2)
    rw [eov]
    constructor
    · rintro ((h | h) | h) 
      · rcases h with h | h
        · exact Or.inl h
        · exact Or.inr ⟨h.1, Or.inl h.2⟩
      · rcases Classical.em (rl_ab (I s) (O s) (top s) o) with ha | ha
        · exact Or.inr ⟨h.1, Or.inl ha⟩
        · exact Or.inr ⟨h.1, Or.inr (Or.inr ⟨h.2.1, ha, h.2.2⟩)⟩
      · exact Or.inr ⟨h.1, Or.inr (Or.inl ⟨h.2.2, h.2.1⟩)⟩
    · rintro (h | ⟨h1, h | h | h⟩)
      · exact Or.inl (Or.inl (Or.inl h))
      · exact Or.inl (Or.inl (Or.inr ⟨h1, h⟩))
      · exact Or.inr ⟨h1, h.2, h.1⟩
      · exact Or.inl (Or.inr ⟨h1, h.1, h.2.2⟩)
  · unfold rl_g4 rl_g3 rl_g1
    rw [rl_un e, rl_un e, rl_un e, rl_un e]
theorem rl_g1_0 (hr : r < 3) : ∀ s o, s < 3 → o < top s → (G s o ↔ rl_g1 I O G top r 0 s o) := fun s o _ _ => by
  unfold rl_g1
  by_cases e : s = r
  · subst e; rw [rl_us]; exact ⟨Or.inl, fun y => y.elim id (fun q => absurd q.1 (Nat.not_lt_zero _))⟩
  · rw [rl_un e]
theorem rl_o2_0 (hr : r < 3) : ∀ s o, s < 3 → o < top s → (O s o ↔ rl_o2 I O top r 0 s o) := fun s o _ _ => by
  unfold rl_o2
  by_cases e : s = r
  · subst e; rw [rl_us]; exact ⟨fun y => ⟨y, fun q => absurd q.1 (Nat.not_lt_zero _)⟩, fun y => y.1⟩
  · rw [rl_un e]
theorem rl_g3_0 (hr : r < 3) : ∀ s o, s < 3 → o < top s → (G s o ↔ rl_g3 I G r to 0 s o) := fun s o _ _ => by
  unfold rl_g3
  by_cases e : s = r
  · subst e; rw [rl_us]; exact ⟨Or.inl, fun y => y.elim id (fun q => absurd q.1 (Nat.not_lt_zero _))⟩
  · rw [rl_un e]
theorem rl_g4_0 (hr : r < 3) : ∀ s o, s < 3 → o < top s → (G s o ↔ rl_g4 I G r low 0 s o) := fun s o _ _ => by
  unfold rl_g4
  by_cases e : s = r
  · subst e; rw [rl_us]; exact ⟨Or.inl, fun y => y.elim id (fun q => absurd q.1 (Nat.not_lt_zero _))⟩
  · rw [rl_un e]
theorem rl_y_c57 {to' : Nat} {x5 : Int32} {post : Int32 → SY → Prop} (hm : ∀ s, s < 3 → b_mark s = nI (mark s) ∧ mark s ≤ 600) {m0 : Nat} (h0 : m0 ≤ 600)
    (k : ∃ n, wY_clean_93 post (nI r) (nI to) (nI (620 * r)) (nI (620 * r + to)) x5 (nI (min (rl_ls mark) m0)) g_leader g_now n (nI (620 * r)) b_by b_kind b_seq b_key b_val b_era b_tomb b_gone b_top b_mark b_cleaned b_fetched b_works b_member b_shown) :
    wY_clean_57 post (nI r) (nI to) (nI (620 * r)) (nI (620 * r + to)) x5 g_leader g_now b_by b_kind b_seq b_key b_val b_era b_tomb b_gone b_top b_mark b_cleaned b_fetched b_works b_member b_shown 4 (nI m0) 0 := by
  have st : ∀ n i m, i < 3 → m ≤ 600 → wY_clean_57 post (nI r) (nI to) (nI (620 * r)) (nI (620 * r + to)) x5 g_leader g_now b_by b_kind b_seq b_key b_val b_era b_tomb b_gone b_top b_mark b_cleaned b_fetched b_works b_member b_shown n (nI (min m (mark i))) (nI (i + 1)) → wY_clean_57 post (nI r) (nI to) (nI (620 * r)) (nI (620 * r + to)) x5 g_leader g_now b_by b_kind b_seq b_key b_val b_era b_tomb b_gone b_top b_mark b_cleaned b_fetched b_works b_member b_shown (n + 1) (nI m) (nI i) := by
    intro n i m hi hm2 h
    obtain ⟨q1, q2⟩ := hm i hi
    have v : vp_in (nI i) 3 := vp_in_nI hi (by omega)
    have em : b_mark (nI i).toNatClampNeg = nI (mark i) := by rw [nI_clamp (by omega)]; exact q1
    refine pk_le 3 i (fun z => by omega) (fun _ => ⟨v, pk_le m (mark i) (fun y => nm_r (nI_1 _) ?_) (fun y => ⟨v, nm_r em (nm_r (nI_1 _) ?_)⟩) rfl em⟩)
    · have e : min m (mark i) = m := by omega
      rw [e] at h; exact h
    · have e : min m (mark i) = mark i := by omega
      rw [e] at h; exact h
  refine st 3 0 m0 (by omega) h0 (st 2 1 _ (by omega) (by omega) (st 1 2 _ (by omega) (by omega) (pk_le 3 3 (fun _ => ?_) (fun z => by omega))))
  have e : min (min (min m0 (mark 0)) (mark 1)) (mark 2) = min (rl_ls mark) m0 := by unfold rl_ls; omega
  rw [e]; exact k
theorem rl_y_clean (hY : rl_YS g_leader g_now b_by b_kind b_seq b_key b_val b_era b_tomb b_gone b_top b_mark b_cleaned b_fetched b_works b_member I O G top mark cle fet bas mem wor L now) (hI : rl_IV I G top mark cle fet bas mem L now) (hr : r < 3) (hw : wor r) (hto : to = rl_sb (I r) (O r) (G r) (top r) (mark r)) {post : Int32 → SY → Prop}
    (k : ∀ c_kind c_gone c_cleaned : Nat → Int32, rl_YS g_leader g_now b_by c_kind b_seq b_key b_val b_era b_tomb c_gone b_top b_mark c_cleaned b_fetched b_works b_member
        I (rl_u O r (rl_cO (I r) (O r) (top r) to)) (rl_u G r (rl_cG (I r) (O r) (G r) (top r) to (min (rl_ls mark) (cle r)))) top mark (rl_u cle r (max (cle r) to)) fet (rl_u bas r (max (bas r) to)) mem wor L now →
      post (nI (rl_rk (G r) (top r) - rl_rk (rl_cG (I r) (O r) (G r) (top r) to (min (rl_ls mark) (cle r))) (top r))) (g_leader, g_now, b_by, c_kind, b_seq, b_key, b_val, b_era, b_tomb, c_gone, b_top, b_mark, c_cleaned, b_fetched, b_works, b_member, b_shown)) :
    wpY_clean post (g_leader, g_now, b_by, b_kind, b_seq, b_key, b_val, b_era, b_tomb, b_gone, b_top, b_mark, b_cleaned, b_fetched, b_works, b_member, b_shown) (nI r) := by
  obtain ⟨i1, i2, i3, i4, i5, i6, i7, i8, i9, i10⟩ := hI
  obtain ⟨⟨y1, y2⟩, y3, y4⟩ := hY
  obtain ⟨q1, q2, q3, q4, q5⟩ := y4 r hr
  obtain ⟨a1, a2, a3, a4, a5, a6, a7⟩ := i1 r hr
  have vr : vp_in (nI r) 3 := vp_in_nI hr (by omega)
  have cr : (nI r).toNatClampNeg = r := nI_clamp (by omega)
  have ew : b_works (nI r).toNatClampNeg = rl_b (wor r) := by rw [cr]; exact q4
  have ecl : b_cleaned (nI r).toNatClampNeg = nI (cle r) := by rw [cr]; exact q2
  have hsb := rl_sb_le (I r) (O r) (G r) (top r) (mark r)
  rw [← hto] at hsb
  have hls := rl_ls_le (mark := mark) hr
  have hrk := rl_rk_le (G r) (top r)
  have hsub : rl_rk (rl_cG (I r) (O r) (G r) (top r) to (min (rl_ls mark) (cle r))) (top r) ≤ rl_rk (G r) (top r) := rl_rk_sub (fun j hj => Or.inl hj) _
  unfold wpY_clean
  refine rl_amG (n := 3) hr (by omega) (br_f (by decide) ⟨vr, rl_br ew (fun y => absurd hw y) (fun _ => rl_y_stable y3 hr q1 a3 ?_)⟩)
  rw [← hto]
  refine nm_r (rl_620 r) (nm_r (nI_add _ _) (rl_y_held y3 hr ⟨vr, nm_r ecl ⟨4, ?_⟩⟩))
  refine rl_y_c57 (to' := 0) (fun s hs => ⟨(y4 s hs).1, by have := i1 s hs; omega⟩) (by omega) ⟨to + 1, ?_⟩
  refine rl_y_c93 (I := I) (O := O) (G := G) (top := top) (now := now) hr (by omega) a1 ?_ (to + 1) 0 b_gone (by omega) (by omega) (rl_YL_cg y3 (fun s o _ _ => Iff.rfl) (rl_g1_0 hr))
  intro cg1 hY1
  refine ⟨to + 1, rl_y_c127 (I := I) (O := O) (G := rl_g1 I O G top r to) (top := top) (now := now) hr (by omega) a1 ?_ (to + 1) 0 b_kind (by omega) (by omega) (rl_YL_cg hY1 (rl_o2_0 hr) (fun s o _ _ => Iff.rfl))⟩
  intro ck2 hY2
  refine ⟨to + 1, rl_y_c173 (I := I) (O := rl_o2 I O top r to) (G := rl_g1 I O G top r to) (top := top) (now := now) hr (by omega) a1 ?_ (to + 1) 0 cg1 (by omega) (by omega) (rl_YL_cg hY2 (fun s o _ _ => Iff.rfl) (rl_g3_0 hr))⟩
  intro cg3 hY3
  refine ⟨to + 1, rl_y_c229 (I := I) (O := rl_o2 I O top r to) (G := rl_g3 I (rl_g1 I O G top r to) r to to) (top := top) (now := now) hr (by omega) a1 (by omega) ?_ (to + 1) 0 cg3 (by omega) (by omega) (rl_YL_cg hY3 (fun s o _ _ => Iff.rfl) (rl_g4_0 hr))⟩
  intro cg4 hY4
  have hY5 : rl_YL b_by ck2 b_seq b_key b_val b_era b_tomb cg4 b_top I (rl_u O r (rl_cO (I r) (O r) (top r) to)) (rl_u G r (rl_cG (I r) (O r) (G r) (top r) to (min (rl_ls mark) (cle r)))) top now :=
    rl_YL_cg hY4 (fun s o hs ho => Iff.rfl) (rl_g_all hr)
  have fin : ∀ c_cleaned : Nat → Int32, (∀ s, s < 3 → c_cleaned s = nI (rl_u cle r (max (cle r) to) s)) → wY_clean_297 post (nI r) (nI (rl_rk (G r) (top r))) g_leader g_now b_by ck2 b_seq b_key b_val b_era b_tomb cg4 b_top b_mark c_cleaned b_fetched b_works b_member b_shown := by
    intro cc hcc
    unfold wY_clean_297
    refine rl_y_held hY5 hr ?_
    rw [rl_us, pk_sub hsub]
    exact k ck2 cg4 cc ⟨⟨y1, y2⟩, hY5, fun s hs => ⟨(y4 s hs).1, hcc s hs, (y4 s hs).2.2⟩⟩
  unfold wY_clean_280
  refine ⟨vr, pk_le to (cle r) (fun z => fin b_cleaned (fun s hs2 => ?_)) (fun z => ⟨vr, nm_e (fin _ (fun s hs2 => ?_))⟩) rfl ecl⟩
  · by_cases e : s = r
    · subst e; rw [rl_us, q2]; exact congrArg nI (by omega)
    · rw [rl_un e]; exact (y4 s hs2).2.1
  · rw [cr]
    by_cases e : s = r
    · subst e; rw [rl_us, pk_us]; exact congrArg nI (by omega)
    · rw [rl_un e, pk_un e]; exact (y4 s hs2).2.1
end
theorem i_vc_clean {k : Nat} {u : SX} {v : SY} (I : i_Rel k u v) (hk : k + 7 ≤ 3584) (v1 : Int32) : wpX_clean (fun r u' => wpY_clean (fun r' v' => r' = r ∧ i_Rel (k + 7) u' v') v v1) u v1 := by
  refine rl_el (P := fun u v => wpX_clean (fun r u' => wpY_clean (fun r' v' => r' = r ∧ i_Rel (k + 7) u' v') v v1) u v1) ?_ I
  clear I u v
  intro f_leader f_inside f_now f_foundKey f_foundValue f_foundTomb f_foundWho f_foundSequence f_foundEra a_offset a_kind a_who a_key a_value a_tomb a_sequence a_era a_state a_decidedAt a_dead a_count a_end a_mark a_cleaned a_gone a_eraAt a_eraOf a_eras a_epoch a_latest a_last a_places a_baseEpoch a_baseLatest a_baseLast a_basePlaces a_base a_fetched g_leader g_now b_by b_kind b_seq b_key b_val b_era b_tomb b_gone b_top b_mark b_cleaned b_fetched b_works b_member b_shown I O G top mark cle fet bas mem wor L now h
  have hR := rl_fold7 h
  obtain ⟨hn, hI, hX, hY, hS⟩ := h
  rcases rl_ix v1 (n := 3) (by omega) with hb | ⟨j, hj, rfl⟩
  · unfold wpX_clean
    refine rl_outB (n := 3) hb (br_f (by decide) ?_)
    unfold wpY_clean
    exact rl_amB (n := 3) hb (br_t rfl ⟨by trivial, hR⟩)
  · have vj : vp_in (nI j) 3 := vp_in_nI hj (by omega)
    have cj : (nI j).toNatClampNeg = j := nI_clamp (by omega)
    by_cases hw : wor j
    · refine rl_x_clean hX hI hj hw rfl ?_
      intro c_offset c_kind c_who c_key c_value c_tomb c_sequence c_era c_state c_decidedAt c_dead c_count c_cleaned c_epoch c_latest c_last c_places c_baseEpoch c_baseLatest c_baseLast c_basePlaces c_base hX2
      refine rl_y_clean hY hI hj hw rfl ?_
      intro d_kind d_gone d_cleaned hY2
      exact ⟨rfl, i_up (rl_fold ⟨hn, rl_iv_clean hI hj, hX2, hY2, hS⟩)⟩
    · have eg : a_gone (nI j).toNatClampNeg = rl_b (¬ wor j) := by rw [cj]; exact (hX.2.2.2 j hj).2.2.1
      have ew : b_works (nI j).toNatClampNeg = rl_b (wor j) := by rw [cj]; exact (hY.2.2 j hj).2.2.2.1
      unfold wpX_clean
      refine rl_outG (n := 3) hj (by omega) (br_t rfl ⟨vj, rl_br eg (fun y => absurd hw y) (fun _ => ?_)⟩)
      unfold wpY_clean
      exact rl_amG (n := 3) hj (by omega) (br_f (by decide) ⟨vj, rl_br ew (fun _ => ⟨by trivial, hR⟩) (fun y => absurd y hw)⟩)
end
section
/-! how far two logs are the same -/
noncomputable def rl_cp (I : Nat → Nat → rl_ID) (top : Nat → Nat) (L f : Nat) : Nat := rl_fs (fun o => rl_E (I f o) ≠ rl_E (I L o)) (min (top f) (top L))
theorem rl_cp_le (I : Nat → Nat → rl_ID) (top : Nat → Nat) (L f : Nat) : rl_cp I top L f ≤ top f ∧ rl_cp I top L f ≤ top L := by
  have := (rl_fs_sp (fun o => rl_E (I f o) ≠ rl_E (I L o)) (min (top f) (top L))).1
  unfold rl_cp; omega
theorem rl_cp_ge {I : Nat → Nat → rl_ID} {top : Nat → Nat} {L f n : Nat} (h1 : n ≤ top f) (h2 : n ≤ top L) (h : ∀ o, o < n → I f o = I L o) : n ≤ rl_cp I top L f := by
  obtain ⟨s1, s2, s3⟩ := rl_fs_sp (fun o => rl_E (I f o) ≠ rl_E (I L o)) (min (top f) (top L))
  rcases Nat.lt_or_ge (rl_cp I top L f) n with y | y
  · have h3 : rl_cp I top L f < min (top f) (top L) := by omega
    exact absurd (congrArg rl_E (h _ y)) (s3 h3)
  · exact y
theorem rl_cp_ag {I : Nat → Nat → rl_ID} {G : Nat → Nat → Prop} {top mark cle fet bas : Nat → Nat} {mem : Nat → Prop} {L f now : Nat} (hi : rl_IV I G top mark cle fet bas mem L now) (hf : f < 3) (hL : L < 3) : ∀ o, o < rl_cp I top L f → I f o = I L o := by
  intro o ho
  obtain ⟨s1, s2, s3⟩ := rl_fs_sp (fun o => rl_E (I f o) ≠ rl_E (I L o)) (min (top f) (top L))
  have hle := rl_cp_le I top L f
  have he : rl_E (I f o) = rl_E (I L o) := Classical.byContradiction fun y => s2 o ho y
  exact hi.2.2.2.1 f L hf hL o o (by omega) (by omega) he o (Nat.le_refl _) (Nat.le_refl _)
def rl_nt (n t : Nat) (ea : Nat → Nat) (k : Nat) : Nat := if k + 1 < n then ea (k + 1) else t
theorem rl_nt_sp {a_eraAt a_eraOf a_eras : Nat → Int32} {r t ls : Nat} {E : Nat → Nat} {n : Nat} {ea eo : Nat → Nat} (h : rl_ER a_eraAt a_eraOf a_eras r t ls E n ea eo) {k : Nat} (hk : k < n) :
    ea k < rl_nt n t ea k ∧ rl_nt n t ea k ≤ t ∧ (∀ o, ea k ≤ o → o < rl_nt n t ea k → E o = eo k) ∧ (rl_nt n t ea k < t → k + 1 < n ∧ rl_nt n t ea k = ea (k + 1)) := by
  unfold rl_nt
  by_cases y : k + 1 < n
  · rw [if_pos y]
    have h1 := (h.2.2.2.2.1 k y).1
    have h2 := rl_ER_lt h y
    exact ⟨h1, by omega, fun o o1 o2 => h.2.2.2.2.2.1 k hk o o1 (by omega) (fun _ => o2), fun _ => ⟨y, rfl⟩⟩
  · rw [if_neg y]
    have h2 := rl_ER_lt h hk
    exact ⟨h2, Nat.le_refl _, fun o o1 o2 => h.2.2.2.2.2.1 k hk o o1 o2 (fun z => absurd z y), fun z => absurd z (Nat.lt_irrefl _)⟩
section
variable {f_leader f_inside f_now f_foundKey f_foundValue f_foundTomb f_foundWho f_foundSequence f_foundEra : Int32} {a_offset a_kind a_who a_key a_value a_tomb a_sequence a_era a_state a_decidedAt a_dead a_count a_end a_mark a_cleaned a_gone a_eraAt a_eraOf a_eras a_epoch a_latest a_last a_places a_baseEpoch a_baseLatest a_baseLast a_basePlaces a_base a_fetched : Nat → Int32} {I : Nat → Nat → rl_ID} {O G : Nat → Nat → Prop} {top mark cle fet bas : Nat → Nat} {mem wor : Nat → Prop} {L f now : Nat}
/-- the two tables: nothing common behind i and j -/
def rl_NC (nL nf : Nat) (oL of : Nat → Nat) (i j : Nat) : Prop := ∀ k l, k < nL → l < nf → (i ≤ k ∨ j ≤ l) → oL k ≠ of l
theorem rl_cp_eq (hi : rl_IV I G top mark cle fet bas mem L now) (hf : f < 3) (hL : L < 3) {nL nf : Nat} {aL oL af of : Nat → Nat}
    (hEL : rl_ER a_eraAt a_eraOf a_eras L (top L) (rl_ls mark) (fun o => rl_E (I L o)) nL aL oL) (hEf : rl_ER a_eraAt a_eraOf a_eras f (top f) (rl_ls mark) (fun o => rl_E (I f o)) nf af of) {i j : Nat} (hiL : i < nL) (hjf : j < nf) (hN : rl_NC nL nf oL of (i + 1) (j + 1)) (he : oL i = of j) :
    rl_cp I top L f = min (rl_nt nL (top L) aL i) (rl_nt nf (top f) af j) := by
  obtain ⟨a1, a2, a3, a4⟩ := rl_nt_sp hEL hiL
  obtain ⟨b1, b2, b3, b4⟩ := rl_nt_sp hEf hjf
  generalize rl_nt nL (top L) aL i = a at a1 a2 a3 a4
  generalize rl_nt nf (top f) af j = b at b1 b2 b3 b4
  have ea : rl_E (I L (a - 1)) = oL i := a3 (a - 1) (by omega) (by omega)
  have eb : rl_E (I f (b - 1)) = of j := b3 (b - 1) (by omega) (by omega)
  have ag : ∀ o, o < min a b → I f o = I L o := fun o ho => (hi.2.2.2.1 L f hL hf (a - 1) (b - 1) (by omega) (by omega) (by rw [ea, eb, he]) o (by omega) (by omega)).symm
  refine rl_fs_eq (by omega) (fun d hd y => y (by rw [ag d hd])) (fun hlt y => ?_)
  have mL := hi.2.2.1 L hL
  have mf := hi.2.2.1 f hf
  rcases Nat.lt_trichotomy a b with z | z | z
  · have em : min a b = a := by omega
    rw [em] at y
    obtain ⟨c1, c2⟩ := a4 (by omega)
    have e1 : rl_E (I L a) = oL (i + 1) := by rw [c2]; exact rl_ER_eo hEL c1
    have e2 := (hEL.2.2.2.2.1 i c1).2
    have e3 : rl_E (I f (a - 1)) = oL i := by rw [ag (a - 1) (by omega)]; exact ea
    have e4 := mf (a - 1) a (by omega) (by omega)
    have e5 := mf a (b - 1) (by omega) (by omega)
    rw [eb, ← he] at e5
    omega
  · have em : min a b = a := by omega
    rw [em] at y
    obtain ⟨c1, c2⟩ := a4 (by omega)
    obtain ⟨d1, d2⟩ := b4 (by omega)
    have e1 : rl_E (I L a) = oL (i + 1) := by rw [c2]; exact rl_ER_eo hEL c1
    have e2 : rl_E (I f a) = of (j + 1) := by rw [z, d2]; exact rl_ER_eo hEf d1
    exact hN (i + 1) (j + 1) c1 d1 (Or.inl (Nat.le_refl _)) (by rw [← e1, ← e2, y])
  · have em : min a b = b := by omega
    rw [em] at y
    obtain ⟨d1, d2⟩ := b4 (by omega)
    have e1 : rl_E (I f b) = of (j + 1) := by rw [d2]; exact rl_ER_eo hEf d1
    have e2 := (hEf.2.2.2.2.1 j d1).2
    have e3 : rl_E (I L (b - 1)) = of j := by rw [← ag (b - 1) (by omega)]; exact eb
    have e4 := mL (b - 1) b (by omega) (by omega)
    have e5 := mL b (a - 1) (by omega) (by omega)
    rw [ea, he] at e5
    omega
theorem rl_cp_0 (hi : rl_IV I G top mark cle fet bas mem L now) (hf : f < 3) (hL : L < 3) {nL nf : Nat} {aL oL af of : Nat → Nat}
    (hEL : rl_ER a_eraAt a_eraOf a_eras L (top L) (rl_ls mark) (fun o => rl_E (I L o)) nL aL oL) (hEf : rl_ER a_eraAt a_eraOf a_eras f (top f) (rl_ls mark) (fun o => rl_E (I f o)) nf af of) {i j : Nat} (hij : i = 0 ∨ j = 0) (hN : rl_NC nL nf oL of i j) : rl_cp I top L f = 0 := by
  have hle := rl_cp_le I top L f
  rcases Nat.eq_zero_or_pos (min (top f) (top L)) with z | z
  · omega
  · have nL0 : 0 < nL := Nat.pos_of_ne_zero fun y => by have := hEL.2.2.1 y; omega
    have nf0 : 0 < nf := Nat.pos_of_ne_zero fun y => by have := hEf.2.2.1 y; omega
    have n00 : oL 0 ≠ of 0 := hN 0 0 nL0 nf0 (by omega)
    refine rl_fs_eq (Nat.zero_le _) (fun d hd => absurd hd (Nat.not_lt_zero _)) (fun _ y => n00 ?_)
    have lsL := rl_ls_le (mark := mark) hL
    have lsf := rl_ls_le (mark := mark) hf
    have mL := (hi.1 L hL).2.2.1
    have mf := (hi.1 f hf).2.2.1
    have cL := hEL.2.2.2.2.2.2.1 nL0
    have cf := hEf.2.2.2.2.2.2.1 nf0
    by_cases h0 : aL 0 = 0 ∧ af 0 = 0
    · have e1 : rl_E (I L 0) = oL 0 := by have := rl_ER_eo hEL nL0; rw [h0.1] at this; exact this
      have e2 : rl_E (I f 0) = of 0 := by have := rl_ER_eo hEf nf0; rw [h0.2] at this; exact this
      rw [← e1, ← e2, y]
    · have hls : 0 < rl_ls mark := by omega
      have e1 : rl_E (I L (rl_ls mark - 1)) = oL 0 := hEL.2.2.2.2.2.1 0 nL0 (rl_ls mark - 1) (by omega) (by omega) (fun q => by have := hEL.2.2.2.2.2.2.2 (0 + 1) (by omega) q; omega)
      have e2 : rl_E (I f (rl_ls mark - 1)) = of 0 := hEf.2.2.2.2.2.1 0 nf0 (rl_ls mark - 1) (by omega) (by omega) (fun q => by have := hEf.2.2.2.2.2.2.2 (0 + 1) (by omega) q; omega)
      have e3 := (hi.2.2.2.2.2.2.1 f L hf hL (hi.2.2.2.2.2.1 hL)).2.2 (rl_ls mark - 1) (Or.inl (by omega))
      rw [← e1, ← e2, e3]
theorem rl_x_eraEnd {r t ls : Nat} {E : Nat → Nat} {n k : Nat} {ea eo : Nat → Nat} (h : rl_ER a_eraAt a_eraOf a_eras r t ls E n ea eo) (hn : n ≤ 62) (hr : r < 3) (he : a_end r = nI t) (hk : k < n) {post : Int32 → Prop} (hq : post (nI (rl_nt n t ea k))) : wpX_eraEnd post (f_leader, f_inside, f_now, f_foundKey, f_foundValue, f_foundTomb, f_foundWho, f_foundSequence, f_foundEra, a_offset, a_kind, a_who, a_key, a_value, a_tomb, a_sequence, a_era, a_state, a_decidedAt, a_dead, a_count, a_end, a_mark, a_cleaned, a_gone, a_eraAt, a_eraOf, a_eras, a_epoch, a_latest, a_last, a_places, a_baseEpoch, a_baseLatest, a_baseLast, a_basePlaces, a_base, a_fetched) (nI r) (nI k) := by
  have v : vp_in (nI r) 3 := vp_in_nI hr (by omega)
  have cr : (nI r).toNatClampNeg = r := nI_clamp (by omega)
  have e0 : a_eras (nI r).toNatClampNeg = nI n := by rw [cr]; exact h.1
  have e1 : (64 : Int32) * nI r + nI k + 1 = nI (64 * r + (k + 1)) := by rw [rl_64, nI_add, nI_1]; rfl
  unfold wpX_eraEnd
  unfold rl_nt at hq
  refine ⟨v, pk_le n (k + 1) (fun z => ⟨v, ?_⟩) (fun z => ?_) e0 (nI_1 k)⟩
  · rw [if_neg (by omega)] at hq
    rw [cr, he]; exact hq
  · rw [if_pos z] at hq
    rw [e1, nI_clamp (show 64 * r + (k + 1) < 2 ^ 31 by omega), (h.2.1 (k + 1) z).1]
    exact ⟨vp_in_nI (by omega) (by omega), hq⟩
theorem rl_x_cm19 (hi : rl_IV I G top mark cle fet bas mem L now) (hf : f < 3) (hL : L < 3) (hnow : now ≤ 4000) {nL nf : Nat} {aL oL af of : Nat → Nat} (hnL : nL ≤ 62) (hnf : nf ≤ 62) (eL : a_end L = nI (top L)) (ef : a_end f = nI (top f))
    (hEL : rl_ER a_eraAt a_eraOf a_eras L (top L) (rl_ls mark) (fun o => rl_E (I L o)) nL aL oL) (hEf : rl_ER a_eraAt a_eraOf a_eras f (top f) (rl_ls mark) (fun o => rl_E (I f o)) nf af of) {post : Int32 → Prop} (hq : post (nI (rl_cp I top L f))) :
    ∀ n i j, i ≤ nL → j ≤ nf → i + j < n → rl_NC nL nf oL of i j → wX_common_19 post (nI L) (nI f) f_leader f_inside f_now f_foundKey f_foundValue f_foundTomb f_foundWho f_foundSequence f_foundEra a_offset a_kind a_who a_key a_value a_tomb a_sequence a_era a_state a_decidedAt a_dead a_count a_end a_mark a_cleaned a_gone a_eraAt a_eraOf a_eras a_epoch a_latest a_last a_places a_baseEpoch a_baseLatest a_baseLast a_basePlaces a_base a_fetched n (nI i - 1) (nI j - 1) := by
  intro n
  induction n with
  | zero => intro i j _ _ h; omega
  | succ n ih =>
    intro i j hiL hjf hn hN
    have m1 : nI 0 - 1 < 0 := by decide
    rcases Nat.eq_zero_or_pos i with y | y
    · have e := rl_cp_0 hi hf hL hEL hEf (Or.inl y) hN
      rw [e] at hq
      subst y
      exact br_t m1 hq
    · obtain ⟨i', rfl⟩ : ∃ i', i = i' + 1 := ⟨i - 1, by omega⟩
      rw [nI_pred]
      refine br_f (nI_pos (by omega)) ?_
      rcases Nat.eq_zero_or_pos j with z | z
      · have e := rl_cp_0 hi hf hL hEL hEf (Or.inr z) hN
        rw [e] at hq
        subst z
        exact br_t m1 hq
      · obtain ⟨j', rfl⟩ : ∃ j', j = j' + 1 := ⟨j - 1, by omega⟩
        rw [nI_pred]
        have c1 : (64 : Int32) * nI L + nI i' = nI (64 * L + i') := by rw [rl_64, nI_add]
        have c2 : (64 : Int32) * nI f + nI j' = nI (64 * f + j') := by rw [rl_64, nI_add]
        have hoL : oL i' ≤ 4000 := by
          have h1 : rl_E (I L (aL i')) = oL i' := rl_ER_eo hEL (k := i') (by omega)
          have h2 := (hi.2.1 L hL (aL i') (rl_ER_lt hEL (by omega))).2.2.2.2
          omega
        have hof : of j' ≤ 4000 := by
          have h1 : rl_E (I f (af j')) = of j' := rl_ER_eo hEf (k := j') (by omega)
          have h2 := (hi.2.1 f hf (af j') (rl_ER_lt hEf (by omega))).2.2.2.2
          omega
        have tL := (hi.1 L hL).1
        have tf := (hi.1 f hf).1
        refine br_f (nI_pos (by omega)) ?_
        rw [c1, c2]
        refine ⟨vp_in_nI (by omega) (by omega), nm_r (e' := nI (oL i')) (by rw [nI_clamp (by omega)]; exact (hEL.2.1 i' (by omega)).2) ⟨vp_in_nI (by omega) (by omega), nm_r (e' := nI (of j')) (by rw [nI_clamp (by omega)]; exact (hEf.2.1 j' (by omega)).2) ?_⟩⟩
        refine pk_eq (oL i') (of j') (fun e => ?_) (fun e => pk_le (oL i') (of j') (fun w => nm_r (Int32.sub_eq_add_neg _ _).symm ?_) (fun w => nm_r (Int32.sub_eq_add_neg _ _).symm ?_))
        · have ec := rl_cp_eq hi hf hL hEL hEf (i := i') (j := j') (by omega) (by omega) hN e
          have q1 := rl_nt_sp hEL (k := i') (by omega)
          have q2 := rl_nt_sp hEf (k := j') (by omega)
          refine rl_x_eraEnd hEL hnL hL eL (by omega) (rl_x_eraEnd hEf hnf hf ef (by omega) (pk_le (rl_nt nf (top f) af j') (rl_nt nL (top L) aL i') (fun w => ?_) (fun w => ?_)))
          · rw [show rl_cp I top L f = rl_nt nf (top f) af j' by omega] at hq; exact hq
          · rw [show rl_cp I top L f = rl_nt nL (top L) aL i' by omega] at hq; exact hq
        · have hlast := ih (i' + 1) j' hiL (by omega) (by omega) (fun a b ha hb hab => by
            by_cases hb2 : i' + 1 ≤ a ∨ j' + 1 ≤ b
            · exact hN a b ha hb hb2
            · have eb : b = j' := by omega
              have := (rl_ER_mono hEL (k := a) (l := i') (by omega) (by omega)).2
              rw [eb]; omega)
          rw [nI_pred] at hlast
          exact hlast
        · have hlast := ih i' (j' + 1) (by omega) hjf (by omega) (fun a b ha hb hab => by
            by_cases hb2 : i' + 1 ≤ a ∨ j' + 1 ≤ b
            · exact hN a b ha hb hb2
            · have eb : a = i' := by omega
              have := (rl_ER_mono hEf (k := b) (l := j') (by omega) (by omega)).2
              rw [eb]; omega)
          rw [nI_pred] at hlast
          exact hlast
theorem rl_x_common (h : rl_XS f_leader f_inside f_now a_offset a_kind a_who a_key a_value a_tomb a_sequence a_era a_state a_decidedAt a_count a_end a_mark a_cleaned a_gone a_eraAt a_eraOf a_eras a_epoch a_latest a_last a_places a_baseEpoch a_baseLatest a_baseLast a_basePlaces a_base a_fetched I O G top mark cle fet bas mem wor L now) (hi : rl_IV I G top mark cle fet bas mem L now) (hf : f < 3) (hL : L < 3) {post : Int32 → Prop} (hq : post (nI (rl_cp I top L f))) :
    wpX_common post (f_leader, f_inside, f_now, f_foundKey, f_foundValue, f_foundTomb, f_foundWho, f_foundSequence, f_foundEra, a_offset, a_kind, a_who, a_key, a_value, a_tomb, a_sequence, a_era, a_state, a_decidedAt, a_dead, a_count, a_end, a_mark, a_cleaned, a_gone, a_eraAt, a_eraOf, a_eras, a_epoch, a_latest, a_last, a_places, a_baseEpoch, a_baseLatest, a_baseLast, a_basePlaces, a_base, a_fetched) (nI L) (nI f) := by
  obtain ⟨⟨x1, x2, x3⟩, x4, x5, x6⟩ := h
  obtain ⟨nL, aL, oL, hnL, hEL⟩ := x5 L hL
  obtain ⟨nf, af, of, hnf, hEf⟩ := x5 f hf
  have vL : vp_in (nI L) 3 := vp_in_nI hL (by omega)
  have cL : (nI L).toNatClampNeg = L := nI_clamp (by omega)
  have vf : vp_in (nI f) 3 := vp_in_nI hf (by omega)
  have cf : (nI f).toNatClampNeg = f := nI_clamp (by omega)
  unfold wpX_common
  refine ⟨vL, nm_r (e' := nI nL - 1) (by rw [cL, hEL.1]) ⟨vf, nm_r (e' := nI nf - 1) (by rw [cf, hEf.1]) ⟨nL + nf + 1, ?_⟩⟩⟩
  exact rl_x_cm19 hi hf hL (x4 L hL).1.1 hnL hnf (x4 L hL).2.2.1 (x4 f hf).2.2.1 hEL hEf hq _ nL nf (Nat.le_refl _) (Nat.le_refl _) (by omega) (fun k l hk hl h => by omega)
/-! cutting -/
theorem rl_iv_cut (hi : rl_IV I G top mark cle fet bas mem L now) (hf : f < 3) (hL : L < 3) (hne : f ≠ L) : rl_IV I G (rl_u top f (rl_cp I top L f)) mark cle fet bas mem L now := by
  have hi0 := hi
  have hle := rl_cp_le I top L f
  obtain ⟨i1, i2, i3, i4, i5, i6, i7, i8, i9, i10⟩ := hi
  have tl : ∀ r, rl_u top f (rl_cp I top L f) r ≤ top r := fun r => by
    by_cases e : r = f
    · rw [e, rl_us]; exact hle.1
    · rw [rl_un e]; exact Nat.le_refl _
  have tn : ∀ r, r ≠ f → rl_u top f (rl_cp I top L f) r = top r := fun r e => rl_un e
  have tf : rl_u top f (rl_cp I top L f) f = rl_cp I top L f := rl_us
  have mL := i6 hL
  obtain ⟨l1, l2, l3⟩ := i7 f L hf hL mL
  have lf := i1 f hf
  -- what is known of f is not cut
  have k1 : mark f ≤ rl_cp I top L f := rl_cp_ge (by omega) l1 (fun o ho => l3 o (Or.inl ho))
  have k2 : cle f ≤ rl_cp I top L f := rl_cp_ge (by omega) l2 (fun o ho => l3 o (Or.inr ho))
  refine ⟨fun r hr => ?_, fun r hr o ho => i2 r hr o (by have := tl r; omega), fun r hr o o' hoo ho => i3 r hr o o' hoo (by have := tl r; omega), fun r s hr hs a b ha hb he => i4 r s hr hs a b (by have := tl r; omega) (by have := tl s; omega) he, i5, i6, fun r s hr hs hm => ?_, fun _ s hs o ho he => ?_, fun _ s hs hn => ?_, fun r hr o ho hg => i10 r hr o (by have := tl r; omega) hg⟩
  · obtain ⟨a1, a2, a3, a4, a5, a6, a7⟩ := i1 r hr
    by_cases e : r = f
    · subst e
      rw [tf]
      exact ⟨by omega, by omega, k1, a4, k2, a6, fun o ho hc => a7 o (by omega) hc⟩
    · rw [tn r e]; exact ⟨a1, a2, a3, a4, a5, a6, a7⟩
  · obtain ⟨m1, m2, m3⟩ := i7 r s hr hs hm
    by_cases e : s = f
    · subst e
      rw [tf]
      obtain ⟨p1, p2, p3⟩ := i7 r L hr hL mL
      exact ⟨rl_cp_ge m1 p1 (fun o ho => (m3 o (Or.inl ho)).symm.trans (p3 o (Or.inl ho))), rl_cp_ge m2 p2 (fun o ho => (m3 o (Or.inr ho)).symm.trans (p3 o (Or.inr ho))), m3⟩
    · rw [tn s e]; exact ⟨m1, m2, m3⟩
  · obtain ⟨g1, g2⟩ := i8 hL s hs o (by have := tl s; omega) he
    rw [tn L (fun y => hne y.symm)]; exact ⟨g1, g2⟩
  · obtain ⟨f1, f2, f3⟩ := i9 hL s hs hn
    rw [tn L (fun y => hne y.symm)]
    by_cases e : s = f
    · subst e
      rw [tf]
      exact ⟨rl_cp_ge f1 f2 f3, f2, f3⟩
    · rw [tn s e]; exact ⟨f1, f2, f3⟩
end
end
section
theorem rl_st_cut {I : Nat → rl_ID} {O : Nat → Prop} {t to o : Nat} (ho : o < to) (ht : to ≤ t) :
    (rl_st I O t o ≤ 1 → rl_st I O to o = rl_st I O t o) ∧ (1 < rl_st I O t o → rl_de I t o < to → rl_st I O to o = rl_st I O t o ∧ rl_de I to o = rl_de I t o) ∧ (1 < rl_st I O t o → ¬ rl_de I t o < to → rl_st I O to o = 1) := by
  have hc : rl_de I to o = min (rl_de I t o) to := rl_de_cut ht
  have hd := rl_de_sp I (show o < t by omega)
  obtain ⟨s0, s1, s2, s3⟩ := rl_st_sp I O t o
  have hle := rl_st_le I O t o
  refine ⟨fun h => ?_, fun h h2 => ?_, fun h h2 => ?_⟩
  · rcases Classical.em (rl_C (I o) = 0 ∧ O o) with hp | hp
    · have h1 : rl_st I O t o = 1 := by
        have : rl_st I O t o ≠ 0 := fun y => s0.mp y hp
        omega
      rw [h1]
      have := (s1.mp h1).2
      exact rl_st_1 hp (by omega)
    · rw [rl_st_0 hp, rl_st_0 hp]
  · have e : rl_de I to o = rl_de I t o := by omega
    refine ⟨?_, e⟩
    have h3 : rl_st I O t o = 2 ∨ rl_st I O t o = 3 := by omega
    rcases h3 with h3 | h3
    · have := s2.mp h3
      rw [h3]; exact rl_st_2 this.1 (by omega) (by rw [e]; exact this.2.2)
    · have := s3.mp h3
      rw [h3]; exact rl_st_3 this.1 (by omega) (by rw [e]; exact this.2.2)
  · have hp : rl_C (I o) = 0 ∧ O o := Classical.byContradiction fun y => by have := s0.mpr y; omega
    exact rl_st_1 hp (by omega)
section
variable {f_leader f_inside f_now f_foundKey f_foundValue f_foundTomb f_foundWho f_foundSequence f_foundEra : Int32} {a_offset a_kind a_who a_key a_value a_tomb a_sequence a_era a_state a_decidedAt a_dead a_count a_end a_mark a_cleaned a_gone a_eraAt a_eraOf a_eras a_epoch a_latest a_last a_places a_baseEpoch a_baseLatest a_baseLast a_basePlaces a_base a_fetched : Nat → Int32} {I : Nat → rl_ID} {O G : Nat → Prop} {f t to b now : Nat}
theorem rl_x_ct102 (h : rl_TB a_offset a_kind a_who a_key a_value a_tomb a_sequence a_era a_state a_decidedAt f t I O G now) (hf : f < 3) (htt : to ≤ t) (hc : a_count f = nI (rl_rk G to)) (he : a_end f = nI to) (hb : a_base f = nI b) (hbt : b ≤ to) (hG : ∀ o, o < to → G o → o < b) (hB : rl_PR a_baseEpoch a_baseLatest a_baseLast a_basePlaces f b I) {post : SX → Prop}
    (k : ∀ c_state c_epoch c_latest c_last c_places : Nat → Int32, rl_TB a_offset a_kind a_who a_key a_value a_tomb a_sequence a_era c_state a_decidedAt f to I O G now → rl_PR c_epoch c_latest c_last c_places f to I → (∀ i, (i < 40 * f ∨ 40 * f + 40 ≤ i) → c_state i = a_state i) →
      (∀ q, (q < 4 * f ∨ 4 * f + 4 ≤ q) → rl_pv c_epoch c_latest c_last c_places q = rl_pv a_epoch a_latest a_last a_places q) → post (f_leader, f_inside, f_now, f_foundKey, f_foundValue, f_foundTomb, f_foundWho, f_foundSequence, f_foundEra, a_offset, a_kind, a_who, a_key, a_value, a_tomb, a_sequence, a_era, c_state, a_decidedAt, a_dead, a_count, a_end, a_mark, a_cleaned, a_gone, a_eraAt, a_eraOf, a_eras, c_epoch, c_latest, c_last, c_places, a_baseEpoch, a_baseLatest, a_baseLast, a_basePlaces, a_base, a_fetched)) :
    ∀ d o n (c_state : Nat → Int32), o + d = to → rl_rk G to - rl_rk G o < n → (∀ j, j < o → ¬ G j → c_state (40 * f + rl_rk G j) = nI (rl_st I O to j)) → (∀ j, o ≤ j → j < to → ¬ G j → c_state (40 * f + rl_rk G j) = nI (rl_st I O t j)) →
      (∀ i, (i < 40 * f ∨ 40 * f + 40 ≤ i) → c_state i = a_state i) → wX_cut_102 post (nI f) (nI to) f_leader f_inside f_now f_foundKey f_foundValue f_foundTomb f_foundWho f_foundSequence f_foundEra n (nI (40 * f + rl_rk G o)) a_offset a_kind a_who a_key a_value a_tomb a_sequence a_era c_state a_decidedAt a_dead a_count a_end a_mark a_cleaned a_gone a_eraAt a_eraOf a_eras a_epoch a_latest a_last a_places a_baseEpoch a_baseLatest a_baseLast a_basePlaces a_base a_fetched := by
  have hrk := h.2.2.1
  have ht := h.2.1
  have hmono := rl_rk_mono (G := G) htt
  have vf : vp_in (nI f) 3 := vp_in_nI hf (by omega)
  have cf : (nI f).toNatClampNeg = f := nI_clamp (by omega)
  have c3 : (40 : Int32) * nI f + a_count (nI f).toNatClampNeg = nI (40 * f + rl_rk G to) := by rw [cf, hc, rl_40, nI_add]
  intro d
  induction d with
  | zero =>
    intro o n cs ho hn hlo hhi hfr
    obtain ⟨m, rfl⟩ : ∃ m, n = m + 1 := ⟨n - 1, by omega⟩
    have eo : o = to := by omega
    subst eo
    have hT : rl_TB a_offset a_kind a_who a_key a_value a_tomb a_sequence a_era cs a_decidedAt f o I O G now := by
      refine ⟨h.1, by omega, by omega, fun j hj => ⟨(h.2.2.2 j (by omega)).1, fun hg => ?_⟩⟩
      obtain ⟨q0, q1, q2⟩ := rl_TX_T0 ((h.2.2.2 j (by omega)).2 hg)
      refine rl_TX_mk q0 ⟨hlo j hj hg, fun y => ?_⟩
      obtain ⟨z1, z2, z3⟩ := rl_st_cut (I := I) (O := O) hj htt
      by_cases y1 : rl_st I O t j ≤ 1
      · rw [z1 y1] at y; omega
      · by_cases y2 : rl_de I t j < o
        · rw [(z2 (by omega) y2).2]; exact q2 (by omega)
        · rw [z3 (by omega) y2] at y; omega
    refine ⟨vf, br_t (by rw [c3]; exact nI_le (Nat.le_refl _) (by omega)) (rl_x_recall hf hf hB ?_)⟩
    intro c1 c2 c4 c5 hP1 hF1
    refine ⟨vf, ?_⟩
    rw [cf, he]
    refine rl_x_recount hT hf hc hb hG hbt (Nat.le_refl _) hP1 ?_
    intro d1 d2 d3 d4 hP2 hF2
    exact k cs d1 d2 d3 d4 hT hP2 hfr (fun q hq => by rw [hF2 q hq, hF1 q hq])
  | succ d ih =>
    intro o n cs ho hn hlo hhi hfr
    have hot : o < to := by omega
    have nx : ∀ c : Nat → Int32, (∀ i, i ≠ 40 * f + rl_rk G o → c i = cs i) → (¬ G o → c (40 * f + rl_rk G o) = nI (rl_st I O to o)) → (∀ j, j < o + 1 → ¬ G j → c (40 * f + rl_rk G j) = nI (rl_st I O to j)) := fun c h1 h2 j hj hgj => by
      rcases Nat.lt_or_ge j o with y | y
      · have := rl_rk_lt y hgj
        rw [h1 _ (by omega)]; exact hlo j y hgj
      · have ej : j = o := by omega
        subst ej; exact h2 hgj
    rcases Classical.em (G o) with hg | hg
    · have e := rl_rk_t hg
      rw [← e] at hn ⊢
      refine ih (o + 1) n cs (by omega) hn (fun j hj hgj => ?_) (fun j h1 => hhi j (by omega)) hfr
      exact nx cs (fun _ _ => rfl) (fun y => absurd hg y) j hj hgj
    · obtain ⟨m, rfl⟩ : ∃ m, n = m + 1 := ⟨n - 1, by omega⟩
      have e := rl_rk_f hg
      have hlt := rl_rk_lt hot hg
      have ci : (nI (40 * f + rl_rk G o)).toNatClampNeg = 40 * f + rl_rk G o := nI_clamp (by omega)
      obtain ⟨v0, vO, vK, vW, -, -, -, -, -, -, vD⟩ := rl_xr h hf (show o < t by omega) hg
      have vS : cs (nI (40 * f + rl_rk G o)).toNatClampNeg = nI (rl_st I O t o) := by rw [ci]; exact hhi o (Nat.le_refl _) hot hg
      have hs3 := rl_st_le I O t o
      have hd := rl_de_sp I (show o < t by omega)
      obtain ⟨z1, z2, z3⟩ := rl_st_cut (I := I) (O := O) hot htt
      have keep : rl_st I O to o = rl_st I O t o → wX_cut_102 post (nI f) (nI to) f_leader f_inside f_now f_foundKey f_foundValue f_foundTomb f_foundWho f_foundSequence f_foundEra m (nI (40 * f + rl_rk G o + 1)) a_offset a_kind a_who a_key a_value a_tomb a_sequence a_era cs a_decidedAt a_dead a_count a_end a_mark a_cleaned a_gone a_eraAt a_eraOf a_eras a_epoch a_latest a_last a_places a_baseEpoch a_baseLatest a_baseLast a_basePlaces a_base a_fetched := fun hk => by
        have := ih (o + 1) m cs (by omega) (by omega) (nx cs (fun _ _ => rfl) (fun _ => by rw [hk]; exact hhi o (Nat.le_refl _) hot hg)) (fun j h1 => hhi j (by omega)) hfr
        rw [e] at this; exact this
      refine ⟨vf, pk_le (40 * f + rl_rk G to) (40 * f + rl_rk G o) (fun z => by omega) (fun z => ⟨v0, pk_le (rl_st I O t o) 1 (fun y => nm_r (nI_1 _) (keep (z1 y))) (fun y => ⟨v0, pk_lt (rl_de I t o) to (fun w => nm_r (nI_1 _) (keep (z2 y w).1)) (fun w => ⟨v0, ?_⟩) (vD y)⟩) vS⟩) c3⟩
      rw [ci]
      refine nm_r (e' := upd cs (40 * f + rl_rk G o) (nI 1)) rfl (nm_r (nI_1 _) ?_)
      have := ih (o + 1) m (upd cs (40 * f + rl_rk G o) (nI 1)) (by omega) (by omega) (nx _ (fun i hi => pk_un hi) (fun _ => by rw [pk_us, z3 y (by omega)])) (fun j h1 h2 h3 => by
        have := rl_rk_lt (show o < j by omega) hg
        rw [pk_un (by omega)]; exact hhi j (by omega) h2 h3) (fun i hi => by rw [pk_un (by omega)]; exact hfr i hi)
      rw [e] at this; exact this
/-! the eras that begin behind the cut -/
theorem rl_x_ct45 (hf : f < 3) {nn : Nat} {ea : Nat → Nat} (hn62 : nn ≤ 62) (hea : ∀ k, k < nn → a_eraAt (64 * f + k) = nI (ea k) ∧ ea k < 2000) (hto : to ≤ 600) {post : SX → Prop}
    (k : ∀ (m : Nat) (c_eras : Nat → Int32), m ≤ nn → (0 < m → ea (m - 1) < to) → (∀ k, m ≤ k → k < nn → to ≤ ea k) → c_eras f = nI m → (∀ s, s ≠ f → c_eras s = a_eras s) → wX_cut_90 post (nI f) (nI to) f_leader f_inside f_now f_foundKey f_foundValue f_foundTomb f_foundWho f_foundSequence f_foundEra a_offset a_kind a_who a_key a_value a_tomb a_sequence a_era a_state a_decidedAt a_dead a_count a_end a_mark a_cleaned a_gone a_eraAt a_eraOf c_eras a_epoch a_latest a_last a_places a_baseEpoch a_baseLatest a_baseLast a_basePlaces a_base a_fetched) :
    ∀ m n (c_eras : Nat → Int32), m ≤ nn → m < n → c_eras f = nI m → (∀ s, s ≠ f → c_eras s = a_eras s) → (∀ k, m ≤ k → k < nn → to ≤ ea k) → wX_cut_45 post (nI f) (nI to) f_leader f_inside f_now f_foundKey f_foundValue f_foundTomb f_foundWho f_foundSequence f_foundEra n a_offset a_kind a_who a_key a_value a_tomb a_sequence a_era a_state a_decidedAt a_dead a_count a_end a_mark a_cleaned a_gone a_eraAt a_eraOf c_eras a_epoch a_latest a_last a_places a_baseEpoch a_baseLatest a_baseLast a_basePlaces a_base a_fetched := by
  have vf : vp_in (nI f) 3 := vp_in_nI hf (by omega)
  have cf : (nI f).toNatClampNeg = f := nI_clamp (by omega)
  intro m
  induction m with
  | zero =>
    intro n ce _ hn he ho hk
    obtain ⟨q, rfl⟩ : ∃ q, n = q + 1 := ⟨n - 1, by omega⟩
    refine ⟨vf, br_t (by rw [cf, he]; decide) (k 0 ce (Nat.zero_le _) (fun y => absurd y (Nat.not_lt_zero _)) hk he ho)⟩
  | succ m ih =>
    intro n ce hm hn he ho hk
    obtain ⟨q, rfl⟩ : ∃ q, n = q + 1 := ⟨n - 1, by omega⟩
    have ee : ce (nI f).toNatClampNeg = nI (m + 1) := by rw [cf]; exact he
    have e1 : (64 : Int32) * nI f + ce (nI f).toNatClampNeg - 1 = nI (64 * f + m) := by rw [ee, rl_64, nI_add, ← Nat.add_assoc, nI_pred]
    have ci : (nI (64 * f + m)).toNatClampNeg = 64 * f + m := nI_clamp (by omega)
    obtain ⟨a1, a2⟩ := hea m (by omega)
    have e2 : vp_nar .byte ((ce f - 1).toInt8.toInt32) = nI m := by rw [he, nI_pred]; exact rl_nar2 (by omega)
    refine ⟨vf, br_f (by rw [ee]; exact nI_nle (by omega) (by omega)) ⟨vf, ?_⟩⟩
    rw [e1, ci]
    refine ⟨vp_in_nI (by omega) (by omega), pk_lt (ea m) to (fun z => k (m + 1) ce hm (fun _ => z) hk he ho) (fun z => ⟨vf, vf, ?_⟩) a1⟩
    rw [cf, e2]
    refine nm_e (ih q _ (by omega) (by omega) pk_us (fun s hs => by rw [pk_un hs]; exact ho s hs) (fun j h1 h2 => ?_))
    rcases Nat.lt_or_ge m j with y | y
    · exact hk j (by omega) h2
    · have ej : j = m := by omega
      rw [ej]; exact z
/-! the records behind the cut -/
theorem rl_x_ct0 (h : rl_TB a_offset a_kind a_who a_key a_value a_tomb a_sequence a_era a_state a_decidedAt f t I O G now) (hf : f < 3) (htt : to ≤ t) {post : SX → Prop}
    (k : ∀ c_count : Nat → Int32, c_count f = nI (rl_rk G to) → (∀ s, s ≠ f → c_count s = a_count s) → ∃ n, wX_cut_45 post (nI f) (nI to) f_leader f_inside f_now f_foundKey f_foundValue f_foundTomb f_foundWho f_foundSequence f_foundEra n a_offset a_kind a_who a_key a_value a_tomb a_sequence a_era a_state a_decidedAt a_dead c_count a_end a_mark a_cleaned a_gone a_eraAt a_eraOf a_eras a_epoch a_latest a_last a_places a_baseEpoch a_baseLatest a_baseLast a_basePlaces a_base a_fetched) :
    ∀ d o n (c_count : Nat → Int32), o = to + d → o ≤ t → rl_rk G o < n → c_count f = nI (rl_rk G o) → (∀ s, s ≠ f → c_count s = a_count s) → wX_cut_0 post (nI f) (nI to) f_leader f_inside f_now f_foundKey f_foundValue f_foundTomb f_foundWho f_foundSequence f_foundEra n a_offset a_kind a_who a_key a_value a_tomb a_sequence a_era a_state a_decidedAt a_dead c_count a_end a_mark a_cleaned a_gone a_eraAt a_eraOf a_eras a_epoch a_latest a_last a_places a_baseEpoch a_baseLatest a_baseLast a_basePlaces a_base a_fetched := by
  have hrk := h.2.2.1
  have ht := h.2.1
  have vf : vp_in (nI f) 3 := vp_in_nI hf (by omega)
  have cf : (nI f).toNatClampNeg = f := nI_clamp (by omega)
  intro d
  induction d with
  | zero =>
    intro o n cc ho hot hn hc hs
    obtain ⟨q, rfl⟩ : ∃ q, n = q + 1 := ⟨n - 1, by omega⟩
    have eo : o = to := by omega
    subst eo
    have hm := rl_rk_mono (G := G) htt
    refine ⟨vf, ?_⟩
    rw [cf, hc]
    refine pk_le (rl_rk G o) 0 (fun z => k cc hc hs) (fun z => ⟨vf, ?_⟩)
    obtain ⟨j, j1, j2, j3⟩ := rl_rk_ex (G := G) (i := rl_rk G o - 1) (n := o) (by omega)
    have e1 : (40 : Int32) * nI f + nI (rl_rk G o) - 1 = nI (40 * f + rl_rk G j) := by rw [rl_40, nI_add, rl_s1 (by omega), j3]; exact congrArg nI (by omega)
    obtain ⟨v0, vO, -⟩ := rl_xr h hf (show j < t by omega) j2
    rw [e1]
    exact ⟨v0, pk_lt j o (fun _ => k cc hc hs) (fun y => by omega) vO⟩
  | succ d ih =>
    intro o n cc ho hot hn hc hs
    obtain ⟨o', rfl⟩ : ∃ o', o = o' + 1 := ⟨o - 1, by omega⟩
    rcases Classical.em (G o') with hg | hg
    · rw [rl_rk_t hg] at hc hn
      exact ih o' n cc (by omega) (by omega) hn hc hs
    · obtain ⟨q, rfl⟩ : ∃ q, n = q + 1 := ⟨n - 1, by omega⟩
      have e := rl_rk_f hg
      have hlt := rl_rk_lt (G := G) (a := o') (b := t) (by omega) hg
      obtain ⟨v0, vO, -⟩ := rl_xr h hf (show o' < t by omega) hg
      have e1 : (40 : Int32) * nI f + nI (rl_rk G o' + 1) - 1 = nI (40 * f + rl_rk G o') := by rw [rl_40, nI_add, ← Nat.add_assoc, nI_pred]
      have e2 : vp_nar .byte ((nI (rl_rk G o' + 1) - 1).toInt8.toInt32) = nI (rl_rk G o') := by rw [nI_pred]; exact rl_nar2 (by omega)
      rw [e] at hc
      refine ⟨vf, ?_⟩
      rw [cf, hc, e1, e2]
      refine pk_le (rl_rk G o' + 1) 0 (fun z => by omega) (fun z => ⟨vf, v0, pk_lt o' to (fun y => by omega) (fun y => ⟨vf, vf, nm_e (ih o' q _ (by omega) (by omega) (by omega) pk_us (fun s hs2 => by rw [pk_un hs2]; exact hs s hs2))⟩) vO⟩)
end
section
variable {f_leader f_inside f_now f_foundKey f_foundValue f_foundTomb f_foundWho f_foundSequence f_foundEra : Int32} {a_offset a_kind a_who a_key a_value a_tomb a_sequence a_era a_state a_decidedAt a_dead a_count a_end a_mark a_cleaned a_gone a_eraAt a_eraOf a_eras a_epoch a_latest a_last a_places a_baseEpoch a_baseLatest a_baseLast a_basePlaces a_base a_fetched : Nat → Int32} {I : Nat → Nat → rl_ID} {O G : Nat → Nat → Prop} {top mark cle fet bas : Nat → Nat} {mem wor : Nat → Prop} {L f to now : Nat}
theorem rl_x_cut (hX : rl_XS f_leader f_inside f_now a_offset a_kind a_who a_key a_value a_tomb a_sequence a_era a_state a_decidedAt a_count a_end a_mark a_cleaned a_gone a_eraAt a_eraOf a_eras a_epoch a_latest a_last a_places a_baseEpoch a_baseLatest a_baseLast a_basePlaces a_base a_fetched I O G top mark cle fet bas mem wor L now) (hi : rl_IV I G top mark cle fet bas mem L now) (hf : f < 3) (hto : to ≤ top f) (hbt : bas f ≤ to) (hlt : rl_ls mark ≤ to) {post : SX → Prop}
    (k : ∀ c_state c_count c_end c_eras c_epoch c_latest c_last c_places : Nat → Int32,
      rl_XS f_leader f_inside f_now a_offset a_kind a_who a_key a_value a_tomb a_sequence a_era c_state a_decidedAt c_count c_end a_mark a_cleaned a_gone a_eraAt a_eraOf c_eras c_epoch c_latest c_last c_places a_baseEpoch a_baseLatest a_baseLast a_basePlaces a_base a_fetched I O G (rl_u top f to) mark cle fet bas mem wor L now →
      post (f_leader, f_inside, f_now, f_foundKey, f_foundValue, f_foundTomb, f_foundWho, f_foundSequence, f_foundEra, a_offset, a_kind, a_who, a_key, a_value, a_tomb, a_sequence, a_era, c_state, a_decidedAt, a_dead, c_count, c_end, a_mark, a_cleaned, a_gone, a_eraAt, a_eraOf, c_eras, c_epoch, c_latest, c_last, c_places, a_baseEpoch, a_baseLatest, a_baseLast, a_basePlaces, a_base, a_fetched)) : wpX_cut post (f_leader, f_inside, f_now, f_foundKey, f_foundValue, f_foundTomb, f_foundWho, f_foundSequence, f_foundEra, a_offset, a_kind, a_who, a_key, a_value, a_tomb, a_sequence, a_era, a_state, a_decidedAt, a_dead, a_count, a_end, a_mark, a_cleaned, a_gone, a_eraAt, a_eraOf, a_eras, a_epoch, a_latest, a_last, a_places, a_baseEpoch, a_baseLatest, a_baseLast, a_basePlaces, a_base, a_fetched) (nI f) (nI to) := by
  obtain ⟨⟨x1, x2, x3⟩, x4, x5, x6⟩ := hX
  obtain ⟨t1, t2, t3, t4, t5, t6⟩ := x4 f hf
  obtain ⟨n, ea, eo, hn, hER⟩ := x5 f hf
  have vf : vp_in (nI f) 3 := vp_in_nI hf (by omega)
  have cf : (nI f).toNatClampNeg = f := nI_clamp (by omega)
  have ht := (hi.1 f hf).1
  unfold wpX_cut
  refine ⟨rl_rk (G f) (top f) + 1, rl_x_ct0 t1 hf hto ?_ (top f - to) (top f) (rl_rk (G f) (top f) + 1) a_count (by omega) (Nat.le_refl _) (by omega) t2 (fun s _ => rfl)⟩
  intro cc hcc hcs
  refine ⟨n + 1, rl_x_ct45 hf (nn := n) (ea := ea) hn (fun j hj => ⟨(hER.2.1 j hj).1, by have := rl_ER_lt hER hj; omega⟩) (by omega) ?_ n (n + 1) a_eras (Nat.le_refl _) (by omega) hER.1 (fun s _ => rfl) (fun j h1 h2 => by omega)⟩
  intro m ce hm h0 h1 hce hcs2
  unfold wX_cut_90
  rw [cf]
  refine ⟨vf, nm_e (nm_r (rl_40 f) ⟨rl_rk (G f) to + 1, ?_⟩)⟩
  refine rl_x_ct102 (a_count := cc) (a_end := upd a_end f (nI to)) t1 hf hto hcc pk_us t4 hbt (fun o ho hg => (hi.2.2.2.2.2.2.2.2.2 f hf o (by omega) hg).1) t6 ?_ to 0 (rl_rk (G f) to + 1) a_state (by omega) (by omega) (fun j hj => absurd hj (Nat.not_lt_zero _)) (fun j _ hj hg => ((t1.2.2.2 j (by omega)).2 hg).2.2.2.2.2.2.2.2.1) (fun i _ => rfl)
  intro cs c1 c2 c3 c4 hT hP hF1 hF2
  refine k cs cc _ ce c1 c2 c3 c4 ⟨⟨x1, x2, x3⟩, fun s hs => ?_, fun s hs => ?_, x6⟩
  · by_cases e : s = f
    · subst e
      rw [rl_us]
      exact ⟨hT, hcc, pk_us, t4, hP, t6⟩
    · obtain ⟨s1, s2, s3, s4, s5, s6⟩ := x4 s hs
      rw [rl_un e]
      have h40 := s1.2.2.1
      refine ⟨rl_TB_fr s1 (fun i h1 h2 => ?_), by rw [hcs s e]; exact s2, by rw [pk_un e]; exact s3, s4, rl_PR_fr s5 (fun q q1 q2 => hF2 q (by omega)), s6⟩
      unfold rl_rw
      rw [hF1 i (by omega)]
  · by_cases e : s = f
    · subst e
      rw [rl_us]
      refine ⟨m, ea, eo, by omega, hce, fun j hj => hER.2.1 j (by omega), fun y => ?_, h0, fun j hj => hER.2.2.2.2.1 j (by omega), fun j hj o o1 o2 o3 => hER.2.2.2.2.2.1 j (by omega) o o1 (by omega) (fun y => ?_), fun y => hER.2.2.2.2.2.2.1 (by omega), fun j j0 hj => hER.2.2.2.2.2.2.2 j j0 (by omega)⟩
      · rcases Nat.eq_zero_or_pos n with z | z
        · have := hER.2.2.1 z; omega
        · have h2 := h1 0 (by omega) z
          rcases hER.2.2.2.2.2.2.1 z with w | w <;> omega
      · rcases Nat.lt_or_ge (j + 1) m with w | w
        · exact o3 w
        · have := h1 (j + 1) w y; omega
    · obtain ⟨n0, ea0, eo0, h2, h3⟩ := x5 s hs
      rw [rl_un e]
      exact ⟨n0, ea0, eo0, h2, rl_ER_cg h3 (by omega) (hcs2 s e) (fun i _ _ => ⟨rfl, rfl⟩)⟩
end
end
section
/-- own below a bound, the other's from it on -/
def rl_mx (tf : Nat) (P Q : Nat → Prop) : Nat → Prop := fun o => (o < tf ∧ P o) ∨ (¬ o < tf ∧ Q o)
theorem rl_mx_lo {tf : Nat} {P Q : Nat → Prop} {o : Nat} (h : o < tf) : rl_mx tf P Q o ↔ P o := ⟨fun y => y.elim (fun z => z.2) (fun z => absurd h z.1), fun y => Or.inl ⟨h, y⟩⟩
theorem rl_mx_hi {tf : Nat} {P Q : Nat → Prop} {o : Nat} (h : ¬ o < tf) : rl_mx tf P Q o ↔ Q o := ⟨fun y => y.elim (fun z => absurd z.1 h) (fun z => z.2), fun y => Or.inr ⟨h, y⟩⟩
theorem rl_mx_rk {tf : Nat} {P Q : Nat → Prop} : ∀ d, rl_rk (rl_mx tf P Q) (tf + d) + rl_rk Q tf = rl_rk P tf + rl_rk Q (tf + d)
  | 0 => by
    have := rl_rk_cg (G := rl_mx tf P Q) (G' := P) (n := tf) (fun o ho => rl_mx_lo ho)
    rw [Nat.add_zero, this]
  | d + 1 => by
    have ih := rl_mx_rk (tf := tf) (P := P) (Q := Q) d
    have e : tf + (d + 1) = (tf + d) + 1 := by omega
    have hm : rl_mx tf P Q (tf + d) ↔ Q (tf + d) := rl_mx_hi (by omega)
    rw [e]
    rcases Classical.em (Q (tf + d)) with y | y
    · rw [rl_rk_t y, rl_rk_t (hm.mpr y)]; exact ih
    · rw [rl_rk_f y, rl_rk_f (fun z => y (hm.mp z))]; omega
/-! eras of the records that come -/
def rl_sk (nL tL : Nat) (aL : Nat → Nat) (tf un k : Nat) : Nat := max tf (min un (if k < nL then aL k else tL))
section
variable {f_leader f_inside f_now f_foundKey f_foundValue f_foundTomb f_foundWho f_foundSequence f_foundEra : Int32} {a_offset a_kind a_who a_key a_value a_tomb a_sequence a_era a_state a_decidedAt a_dead a_count a_end a_mark a_cleaned a_gone a_eraAt a_eraOf a_eras a_epoch a_latest a_last a_places a_baseEpoch a_baseLatest a_baseLast a_basePlaces a_base a_fetched : Nat → Int32} {E cle : Nat → Nat} {L f tL tf un ls nL : Nat} {aL oL : Nat → Nat}
/-- an era that goes on begins nothing -/
theorem rl_x_beginEra0 {r t n e : Nat} {ea eo : Nat → Nat} {x : Int32} (hr : r < 3) (h : rl_ER a_eraAt a_eraOf a_eras r t ls E n ea eo) (hn : n ≤ 62) (h0 : 0 < n) (he : eo (n - 1) = e) {post : SX → Prop} (k : post (f_leader, f_inside, f_now, f_foundKey, f_foundValue, f_foundTomb, f_foundWho, f_foundSequence, f_foundEra, a_offset, a_kind, a_who, a_key, a_value, a_tomb, a_sequence, a_era, a_state, a_decidedAt, a_dead, a_count, a_end, a_mark, a_cleaned, a_gone, a_eraAt, a_eraOf, a_eras, a_epoch, a_latest, a_last, a_places, a_baseEpoch, a_baseLatest, a_baseLast, a_basePlaces, a_base, a_fetched)) : wpX_beginEra post (f_leader, f_inside, f_now, f_foundKey, f_foundValue, f_foundTomb, f_foundWho, f_foundSequence, f_foundEra, a_offset, a_kind, a_who, a_key, a_value, a_tomb, a_sequence, a_era, a_state, a_decidedAt, a_dead, a_count, a_end, a_mark, a_cleaned, a_gone, a_eraAt, a_eraOf, a_eras, a_epoch, a_latest, a_last, a_places, a_baseEpoch, a_baseLatest, a_baseLast, a_basePlaces, a_base, a_fetched) (nI r) x (nI e) := by
  have v : vp_in (nI r) 3 := vp_in_nI hr (by omega)
  have cr : (nI r).toNatClampNeg = r := nI_clamp (by omega)
  have e2 : (64 : Int32) * nI r + nI n - 1 = nI (64 * r + (n - 1)) := by
    rw [rl_64, nI_add, rl_s1 (by omega)]; exact congrArg nI (by omega)
  have ci : (nI (64 * r + (n - 1))).toNatClampNeg = 64 * r + (n - 1) := nI_clamp (by omega)
  unfold wpX_beginEra
  refine ⟨v, nm_r (e' := nI n) (by rw [cr]; exact h.1) (br_f (nI_nle h0 (by omega)) ?_)⟩
  rw [e2, ci, (h.2.1 (n - 1) (by omega)).2, he]
  exact ⟨vp_in_nI (by omega) (by omega), br_t rfl k⟩
theorem rl_x_tk17 (hL : L < 3) (hf : f < 3) (hne : f ≠ L) (hEL : rl_ER a_eraAt a_eraOf a_eras L tL ls E nL aL oL) (hnL : nL ≤ 62) (hmono : ∀ o o', o ≤ o' → o' < tL → E o ≤ E o') (hEb : ∀ o, o < tL → E o ≤ 4000) (h1 : tf ≤ un) (h2 : un ≤ tL) (h3 : tL ≤ 600) (h4 : ls ≤ tf) (h5 : tL ≤ ls + 60)
    (eL : a_end L = nI tL) (hcl : ∀ s, s < 3 → a_cleaned s = nI (cle s) ∧ cle s ≤ 600) {x2 x3 : Int32} {post : SX → Prop}
    (k : ∀ (c_eraAt c_eraOf c_eras c_cleaned : Nat → Int32) (n' : Nat) (ea' eo' : Nat → Nat), rl_ER c_eraAt c_eraOf c_eras f un ls E n' ea' eo' → rl_EF a_eraAt a_eraOf a_eras c_eraAt c_eraOf c_eras f → (∀ s, s < 3 → c_cleaned s = nI (rl_u cle f (max (cle f) (cle L)) s)) →
      wX_take_139 post (nI f) x2 x3 (nI L) (nI tf) f_leader f_inside f_now f_foundKey f_foundValue f_foundTomb f_foundWho f_foundSequence f_foundEra a_offset a_kind a_who a_key a_value a_tomb a_sequence a_era a_state a_decidedAt a_dead a_count (upd a_end f (nI un)) a_mark c_cleaned a_gone c_eraAt c_eraOf c_eras a_epoch a_latest a_last a_places a_baseEpoch a_baseLatest a_baseLast a_basePlaces a_base a_fetched) :
    ∀ n j (c_eraAt c_eraOf c_eras : Nat → Int32) (n' : Nat) (ea' eo' : Nat → Nat), j ≤ nL → nL - j < n → rl_ER c_eraAt c_eraOf c_eras f (rl_sk nL tL aL tf un j) ls E n' ea' eo' → rl_EF a_eraAt a_eraOf a_eras c_eraAt c_eraOf c_eras f →
      wX_take_17 post (nI f) x2 x3 (nI un) (nI L) (nI tf) n (nI j) f_leader f_inside f_now f_foundKey f_foundValue f_foundTomb f_foundWho f_foundSequence f_foundEra a_offset a_kind a_who a_key a_value a_tomb a_sequence a_era a_state a_decidedAt a_dead a_count a_end a_mark a_cleaned a_gone c_eraAt c_eraOf c_eras a_epoch a_latest a_last a_places a_baseEpoch a_baseLatest a_baseLast a_basePlaces a_base a_fetched := by
  have vL : vp_in (nI L) 3 := vp_in_nI hL (by omega)
  have cL : (nI L).toNatClampNeg = L := nI_clamp (by omega)
  have vf : vp_in (nI f) 3 := vp_in_nI hf (by omega)
  have cf : (nI f).toNatClampNeg = f := nI_clamp (by omega)
  intro n
  induction n with
  | zero => intro j ca co cs n' ea' eo' q1 q2; omega
  | succ n ih =>
    intro j ca co cs n' ea' eo' hj hn hE hF
    -- the leader's table is as it was
    have hEL2 : rl_ER ca co cs L tL ls E nL aL oL := rl_ER_cg hEL (by omega) (hF.1 L (fun y => hne y.symm)) (fun i i1 i2 => hF.2 i (by omega))
    have hsk0 : rl_sk nL tL aL tf un j ≤ un := by unfold rl_sk; omega
    have hn61 : n' ≤ 61 := rl_ER_n hE (by omega)
    refine ⟨vL, ?_⟩
    rw [cL, hEL2.1]
    refine pk_le nL j (fun z => ?_) (fun z => ?_)
    · have e : j = nL := by omega
      subst e
      have es : rl_sk j tL aL tf un j = un := by unfold rl_sk; rw [if_neg (Nat.lt_irrefl _)]; omega
      rw [es] at hE
      rw [cf, (hcl L hL).1, (hcl f hf).1]
      have hc1 := (hcl L hL).2
      have hc2 := (hcl f hf).2
      refine ⟨vf, nm_e ⟨vL, vf, pk_le (cle L) (cle f) (fun y => k ca co cs a_cleaned n' ea' eo' hE hF (fun s hs => ?_)) (fun y => ⟨vL, vf, nm_e (k ca co cs _ n' ea' eo' hE hF (fun s hs => ?_))⟩)⟩⟩
      · by_cases e : s = f
        · subst e; rw [rl_us, (hcl s hs).1]; exact congrArg nI (by omega)
        · rw [rl_un e]; exact (hcl s hs).1
      · by_cases e : s = f
        · subst e; rw [rl_us, pk_us]; exact congrArg nI (by omega)
        · rw [rl_un e, pk_un e]; exact (hcl s hs).1
    · have e1 : (64 : Int32) * nI L + nI j = nI (64 * L + j) := by rw [rl_64, nI_add]
      have c1 : (nI (64 * L + j)).toNatClampNeg = 64 * L + j := nI_clamp (by omega)
      have v1 : vp_in (nI (64 * L + j)) 192 := vp_in_nI (by omega) (by omega)
      obtain ⟨g1, g2⟩ := hEL2.2.1 j z
      obtain ⟨a1, a2, a3, a4⟩ := rl_nt_sp hEL2 z
      have hal := rl_ER_lt hEL2 z
      have hsk : rl_sk nL tL aL tf un j = max tf (min un (aL j)) := by unfold rl_sk; rw [if_pos z]
      have hsk1 : rl_sk nL tL aL tf un (j + 1) = max tf (min un (rl_nt nL tL aL j)) := by unfold rl_sk rl_nt; rfl
      have skip : rl_sk nL tL aL tf un (j + 1) = rl_sk nL tL aL tf un j → wX_take_17 post (nI f) x2 x3 (nI un) (nI L) (nI tf) n (nI (j + 1)) f_leader f_inside f_now f_foundKey f_foundValue f_foundTomb f_foundWho f_foundSequence f_foundEra a_offset a_kind a_who a_key a_value a_tomb a_sequence a_era a_state a_decidedAt a_dead a_count a_end a_mark a_cleaned a_gone ca co cs a_epoch a_latest a_last a_places a_baseEpoch a_baseLatest a_baseLast a_basePlaces a_base a_fetched := fun e => ih (j + 1) ca co cs n' ea' eo' (by omega) (by omega) (by rw [e]; exact hE) hF
      have take : ∀ a : Nat, a = rl_sk nL tL aL tf un j → tf < rl_nt nL tL aL j → aL j < un → wX_take_80 post (wX_take_17 post (nI f) x2 x3 (nI un) (nI L) (nI tf) n) (nI f) x2 x3 (nI un) (nI L) (nI tf) (nI j) (nI a) (nI f) f_leader f_inside f_now f_foundKey f_foundValue f_foundTomb f_foundWho f_foundSequence f_foundEra a_offset a_kind a_who a_key a_value a_tomb a_sequence a_era a_state a_decidedAt a_dead a_count a_end a_mark a_cleaned a_gone ca co cs a_epoch a_latest a_last a_places a_baseEpoch a_baseLatest a_baseLast a_basePlaces a_base a_fetched := by
        intro a ea hy1 hy2
        subst ea
        unfold wX_take_80
        rw [e1, c1, g2]
        refine ⟨v1, ?_⟩
        have hoj : oL j ≤ 4000 := by
          have := rl_ER_eo hEL2 z
          have := hEb (aL j) hal
          omega
        rcases Nat.eq_or_lt_of_le h1 with hq | hq
        · have e0 : rl_sk nL tL aL tf un j = tf := by omega
          have e1 : rl_sk nL tL aL tf un (j + 1) = tf := by omega
          have e2 : E (tf - 1) = oL j := a3 (tf - 1) (by omega) (by omega)
          rw [e0] at hE
          have hn0 : 0 < n' := Nat.pos_of_ne_zero fun y => by have := hE.2.2.1 y; omega
          have e3 : E (tf - 1) = eo' (n' - 1) := by
            have h8 := hE.2.2.2.1 hn0
            exact hE.2.2.2.2.2.1 (n' - 1) (by omega) (tf - 1) (by omega) (by omega) (fun y => by omega)
          refine rl_x_beginEra0 hf hE (by omega) hn0 (e3.symm.trans e2) (nm_r (nI_1 _) (skip (by omega)))
        refine rl_x_beginEra (t' := rl_sk nL tL aL tf un (j + 1)) hf hE (by omega) (by omega) (fun o ho => hEb o (by omega)) (by omega) (fun o o1 o2 => a3 o (by omega) (by omega)) hoj (fun h0 => ?_) (by omega) ?_
        · have e2 := a3 (rl_sk nL tL aL tf un j) (by omega) (by omega)
          rw [← e2]; exact hmono _ _ (by omega) (by omega)
        · intro da do' ds m' fa fo hE2 _ hF2
          refine nm_r (nI_1 _) (ih (j + 1) da do' ds m' fa fo (by omega) (by omega) hE2 ⟨fun s hs => by rw [hF2.1 s hs]; exact hF.1 s hs, fun i hi => ?_⟩)
          rw [(hF2.2 i hi).1, (hF2.2 i hi).2]; exact hF.2 i hi
      rw [e1, c1, g1]
      refine ⟨v1, nm_e (rl_x_eraEnd hEL2 hnL hL eL z (pk_le (rl_nt nL tL aL j) tf (fun y => nm_r (nI_1 _) (skip (by omega))) (fun y => pk_le un (aL j) (fun w => nm_r (nI_1 _) (skip (by omega))) (fun w => pk_le (aL j) tf (fun q => take tf (by omega) y w) (fun q => take (aL j) (by omega) y w)))))⟩
end
section
variable {f_leader f_inside f_now f_foundKey f_foundValue f_foundTomb f_foundWho f_foundSequence f_foundEra : Int32} {a_offset a_kind a_who a_key a_value a_tomb a_sequence a_era a_state a_decidedAt a_dead a_count a_end a_mark a_cleaned a_gone a_eraAt a_eraOf a_eras a_epoch a_latest a_last a_places a_baseEpoch a_baseLatest a_baseLast a_basePlaces a_base a_fetched : Nat → Int32} {I : Nat → rl_ID} {O G : Nat → Prop} {f r t now : Nat}
/-- a record that is gone comes: the table stays -/
theorem rl_TB_gone (h : rl_TB a_offset a_kind a_who a_key a_value a_tomb a_sequence a_era a_state a_decidedAt r t I O G now) (ht : t < 600) (hW : rl_W (I t) now) (hg : G t) (hc : rl_C (I t) = 0) : rl_TB a_offset a_kind a_who a_key a_value a_tomb a_sequence a_era a_state a_decidedAt r (t + 1) I O G now := by
  have hs := rl_SS_data h hc
  obtain ⟨h1, h2, h3, h4⟩ := h
  refine ⟨h1, by omega, by rw [rl_rk_t hg]; exact h3, fun o ho => ?_⟩
  rcases Nat.lt_or_ge o t with y | y
  · exact ⟨(h4 o y).1, fun hgo => rl_TX_mk (rl_TX_T0 ((h4 o y).2 hgo)).1 (hs o y hgo)⟩
  · have e : o = t := by omega
    subst e; exact ⟨hW, fun z => absurd hg z⟩
theorem rl_x_copy {n j o w b ky tt z : Nat} {v sq er : Int32} (hf : f < 3) (hn : n < 40) (hj : j < 120) (hji : j ≠ 40 * f + n) (hc : a_count f = nI n) (hw : w < 128) (hb : b < 128) (hk : ky < 128) (ht : tt ≤ 1)
    (r1 : a_offset j = nI o) (r2 : a_kind j = nI w) (r3 : a_who j = nI b) (r4 : a_key j = nI ky) (r5 : a_value j = v) (r6 : a_tomb j = nI tt) (r7 : a_sequence j = sq) (r8 : a_era j = er) (hz : (a_state j = 0 → z = 0) ∧ (¬ a_state j = 0 → z = 1)) {post : SX → Prop}
    (k : post (f_leader, f_inside, f_now, f_foundKey, f_foundValue, f_foundTomb, f_foundWho, f_foundSequence, f_foundEra, upd a_offset (40 * f + n) (nI o), upd a_kind (40 * f + n) (nI w), upd a_who (40 * f + n) (nI b), upd (upd a_key (40 * f + n) 0) (40 * f + n) (nI ky), upd (upd a_value (40 * f + n) 0) (40 * f + n) v, upd (upd a_tomb (40 * f + n) 0) (40 * f + n) (nI tt), upd (upd a_sequence (40 * f + n) 0) (40 * f + n) sq, upd a_era (40 * f + n) er, upd (upd a_state (40 * f + n) 0) (40 * f + n) (nI z), a_decidedAt, a_dead, upd a_count f (nI (n + 1)), a_end, a_mark, a_cleaned, a_gone, a_eraAt, a_eraOf, a_eras, a_epoch, a_latest, a_last, a_places, a_baseEpoch, a_baseLatest, a_baseLast, a_basePlaces, a_base, a_fetched)) :
    wpX_copy post (f_leader, f_inside, f_now, f_foundKey, f_foundValue, f_foundTomb, f_foundWho, f_foundSequence, f_foundEra, a_offset, a_kind, a_who, a_key, a_value, a_tomb, a_sequence, a_era, a_state, a_decidedAt, a_dead, a_count, a_end, a_mark, a_cleaned, a_gone, a_eraAt, a_eraOf, a_eras, a_epoch, a_latest, a_last, a_places, a_baseEpoch, a_baseLatest, a_baseLast, a_basePlaces, a_base, a_fetched) (nI f) (nI j) := by
  have vj : vp_in (nI j) 120 := vp_in_nI hj (by omega)
  have cj : (nI j).toNatClampNeg = j := nI_clamp (by omega)
  have vi : vp_in (nI (40 * f + n)) 120 := vp_in_nI (by omega) (by omega)
  have ci : (nI (40 * f + n)).toNatClampNeg = 40 * f + n := nI_clamp (by omega)
  have nT : vp_nar .boolean (nI tt) = nI tt := by
    have : tt = 0 ∨ tt = 1 := by omega
    rcases this with e | e <;> rw [e] <;> rfl
  unfold wpX_copy
  dsimp only
  rw [cj, r1, r2, r3]
  refine ⟨vj, vj, vj, rl_x_place hf hn hw hb hc ?_⟩
  dsimp only
  rw [ci, pk_un hji, pk_un hji, pk_un hji, pk_un hji, pk_un hji, r4, r5, r6, r7, r8, rl_nar1 hk, nT]
  refine ⟨vj, vi, nm_e ⟨vj, vi, nm_e ⟨vj, vi, nm_e ⟨vj, vi, nm_e ⟨vj, vi, nm_e ⟨vj, ⟨fun y => ⟨vi, ?_⟩, fun y => ⟨vi, ?_⟩⟩⟩⟩⟩⟩⟩⟩
  · refine nm_r (e' := upd (upd a_state (40 * f + n) 0) (40 * f + n) (nI z)) ?_ k
    rw [hz.1 y]; rfl
  · refine nm_r (e' := upd (upd a_state (40 * f + n) 0) (40 * f + n) (nI z)) ?_ k
    rw [hz.2 y]; rfl
end
section
variable {f_leader f_inside f_now f_foundKey f_foundValue f_foundTomb f_foundWho f_foundSequence f_foundEra : Int32} {a_offset a_kind a_who a_key a_value a_tomb a_sequence a_era a_state a_decidedAt a_dead a_count a_end a_mark a_cleaned a_gone a_eraAt a_eraOf a_eras a_epoch a_latest a_last a_places a_baseEpoch a_baseLatest a_baseLast a_basePlaces a_base a_fetched : Nat → Int32} {I : Nat → rl_ID} {OL GL O2 G2 : Nat → Prop} {L f tL tf un b now : Nat}
/-- the records that come, one after another -/
theorem rl_x_tk173 (hL : L < 3) (hf : f < 3) (hne : f ≠ L) (hTL : rl_TB a_offset a_kind a_who a_key a_value a_tomb a_sequence a_era a_state a_decidedAt L tL I OL GL now) (h2 : un ≤ tL) (hG : ∀ o, tf ≤ o → (G2 o ↔ GL o)) (hO : ∀ o, tf ≤ o → (O2 o ↔ OL o)) (hgc : ∀ o, tf ≤ o → o < un → GL o → rl_C (I o) = 0 ∧ o < b)
    (hrk : rl_rk G2 un ≤ 40) (hb : a_base f = nI b) (hb6 : b ≤ 600) {post : SX → Prop}
    (k : ∀ c_offset c_kind c_who c_key c_value c_tomb c_sequence c_era c_state c_decidedAt c_count c_epoch c_latest c_last c_places : Nat → Int32,
      rl_TB c_offset c_kind c_who c_key c_value c_tomb c_sequence c_era c_state c_decidedAt f un I O2 G2 now → c_count f = nI (rl_rk G2 un) → rl_PR c_epoch c_latest c_last c_places f (max b un) I →
      (∀ i, (i < 40 * f ∨ 40 * f + 40 ≤ i) → rl_rw c_offset c_kind c_who c_key c_value c_tomb c_sequence c_era c_state c_decidedAt i = rl_rw a_offset a_kind a_who a_key a_value a_tomb a_sequence a_era a_state a_decidedAt i) → (∀ s, s ≠ f → c_count s = a_count s) → (∀ q, (q < 4 * f ∨ 4 * f + 4 ≤ q) → rl_pv c_epoch c_latest c_last c_places q = rl_pv a_epoch a_latest a_last a_places q) →
      post (f_leader, f_inside, f_now, f_foundKey, f_foundValue, f_foundTomb, f_foundWho, f_foundSequence, f_foundEra, c_offset, c_kind, c_who, c_key, c_value, c_tomb, c_sequence, c_era, c_state, c_decidedAt, a_dead, c_count, a_end, a_mark, a_cleaned, a_gone, a_eraAt, a_eraOf, a_eras, c_epoch, c_latest, c_last, c_places, a_baseEpoch, a_baseLatest, a_baseLast, a_basePlaces, a_base, a_fetched)) :
    ∀ d t n (c_offset c_kind c_who c_key c_value c_tomb c_sequence c_era c_state c_decidedAt c_count c_epoch c_latest c_last c_places : Nat → Int32), t + d = un → tf ≤ t → rl_rk GL un - rl_rk GL t < n →
      rl_TB c_offset c_kind c_who c_key c_value c_tomb c_sequence c_era c_state c_decidedAt f t I O2 G2 now → c_count f = nI (rl_rk G2 t) → rl_PR c_epoch c_latest c_last c_places f (max b t) I →
      (∀ i, (i < 40 * f ∨ 40 * f + 40 ≤ i) → rl_rw c_offset c_kind c_who c_key c_value c_tomb c_sequence c_era c_state c_decidedAt i = rl_rw a_offset a_kind a_who a_key a_value a_tomb a_sequence a_era a_state a_decidedAt i) → (∀ s, s ≠ f → c_count s = a_count s) → (∀ q, (q < 4 * f ∨ 4 * f + 4 ≤ q) → rl_pv c_epoch c_latest c_last c_places q = rl_pv a_epoch a_latest a_last a_places q) →
      wX_take_173 post (nI f) (nI (40 * L + rl_rk GL un)) n (nI (40 * L + rl_rk GL t)) f_leader f_inside f_now f_foundKey f_foundValue f_foundTomb f_foundWho f_foundSequence f_foundEra c_offset c_kind c_who c_key c_value c_tomb c_sequence c_era c_state c_decidedAt a_dead c_count a_end a_mark a_cleaned a_gone a_eraAt a_eraOf a_eras c_epoch c_latest c_last c_places a_baseEpoch a_baseLatest a_baseLast a_basePlaces a_base a_fetched := by
  have vf : vp_in (nI f) 3 := vp_in_nI hf (by omega)
  have cf : (nI f).toNatClampNeg = f := nI_clamp (by omega)
  have hkL := hTL.2.2.1
  have htL := hTL.2.1
  have hmL := rl_rk_mono (G := GL) h2
  intro d
  induction d with
  | zero =>
    intro t n c1 c2 c3 c4 c5 c6 c7 c8 c9 c10 cc ce cl ca cp ht htf hn hT hc hP hfr hcs hpf
    obtain ⟨m, rfl⟩ : ∃ m, n = m + 1 := ⟨n - 1, by omega⟩
    have e : t = un := by omega
    subst e
    exact br_t (nI_le (Nat.le_refl _) (by omega)) (k c1 c2 c3 c4 c5 c6 c7 c8 c9 c10 cc ce cl ca cp hT hc hP hfr hcs hpf)
  | succ d ih =>
    intro t n c1 c2 c3 c4 c5 c6 c7 c8 c9 c10 cc ce cl ca cp ht htf hn hT hc hP hfr hcs hpf
    have htu : t < un := by omega
    have hW := rl_xw hTL (show t < tL by omega)
    rcases Classical.em (GL t) with hg | hg
    · have e := rl_rk_t hg
      have hg2 : G2 t := (hG t htf).mpr hg
      have e2 := rl_rk_t hg2
      obtain ⟨g1, g2⟩ := hgc t htf htu hg
      rw [← e] at hn ⊢
      have em : max b (t + 1) = max b t := by omega
      exact ih (t + 1) n c1 c2 c3 c4 c5 c6 c7 c8 c9 c10 cc ce cl ca cp (by omega) (by omega) hn (rl_TB_gone hT (by omega) hW hg2 g1) (by rw [e2]; exact hc) (by rw [em]; exact hP) hfr hcs hpf
    · obtain ⟨m, rfl⟩ : ∃ m, n = m + 1 := ⟨n - 1, by omega⟩
      have e := rl_rk_f hg
      have hltL := rl_rk_lt (G := GL) htu hg
      have hg2 : ¬ G2 t := fun y => hg ((hG t htf).mp y)
      have e2 := rl_rk_f hg2
      have hlt2 := rl_rk_lt (G := G2) htu hg2
      obtain ⟨w1, w2, w3, w4, w5⟩ := hW
      -- the leader's row
      have hTX : rl_TX c1 c2 c3 c4 c5 c6 c7 c8 c9 c10 (40 * L + rl_rk GL t) tL I OL t := rl_TX_mv ((hTL.2.2.2 t (by omega)).2 hg) (hfr _ (by omega))
      obtain ⟨q1, q2, q3, q4, q5, q6, q7, q8, q9, -⟩ := hTX
      have hs3 := rl_st_le I OL tL t
      obtain ⟨z0, -⟩ := rl_st_sp I OL tL t
      have hzz : (c9 (40 * L + rl_rk GL t) = 0 → rl_i (rl_C (I t) = 0 ∧ O2 t) 1 0 = 0) ∧ (¬ c9 (40 * L + rl_rk GL t) = 0 → rl_i (rl_C (I t) = 0 ∧ O2 t) 1 0 = 1) := by
        rw [q9]
        constructor
        · intro y
          have y2 := (nI_eq (b := 0) (by omega) (by omega)).mp y
          exact rl_if (fun x => z0.mp y2 ⟨x.1, (hO t htf).mp x.2⟩)
        · intro y
          refine rl_it (Classical.byContradiction fun x => y ?_)
          rw [z0.mpr (fun x2 => x ⟨x2.1, (hO t htf).mpr x2.2⟩)]; rfl
      refine br_f (nI_ge (by omega) (by omega)) (rl_x_copy (n := rl_rk G2 t) (z := rl_i (rl_C (I t) = 0 ∧ O2 t) 1 0) hf (by omega) (by omega) (by omega) hc (by omega) (by omega) (by omega) w4 q1 q2 q3 q4 q5 q6 q7 q8 hzz ?_)
      have e8 : (40 : Int32) * nI f + upd cc f (nI (rl_rk G2 t + 1)) (nI f).toNatClampNeg - 1 = nI (40 * f + rl_rk G2 t) := by
        rw [cf, pk_us, rl_40, nI_add, ← Nat.add_assoc, nI_pred]
      have ci : (nI (40 * f + rl_rk G2 t)).toNatClampNeg = 40 * f + rl_rk G2 t := nI_clamp (by omega)
      have eb : a_base (nI f).toNatClampNeg = nI b := by rw [cf]; exact hb
      have eo : upd c1 (40 * f + rl_rk G2 t) (nI t) (nI (40 * f + rl_rk G2 t)).toNatClampNeg = nI t := by rw [ci, pk_us]
      have hst : rl_st I O2 (t + 1) t = rl_i (rl_C (I t) = 0 ∧ O2 t) 1 0 := by
        unfold rl_st
        rw [rl_de_last, rl_if (P := t + 1 < t + 1) (Nat.lt_irrefl _)]
      -- the table with the new row
      have hT2 : rl_TB (upd c1 (40 * f + rl_rk G2 t) (nI t)) (upd c2 (40 * f + rl_rk G2 t) (nI (rl_C (I t) - 1))) (upd c3 (40 * f + rl_rk G2 t) (nI (rl_B (I t)))) (upd (upd c4 (40 * f + rl_rk G2 t) 0) (40 * f + rl_rk G2 t) (nI (rl_K (I t)))) (upd (upd c5 (40 * f + rl_rk G2 t) 0) (40 * f + rl_rk G2 t) (rl_V (I t))) (upd (upd c6 (40 * f + rl_rk G2 t) 0) (40 * f + rl_rk G2 t) (nI (rl_T (I t)))) (upd (upd c7 (40 * f + rl_rk G2 t) 0) (40 * f + rl_rk G2 t) (rl_S (I t))) (upd c8 (40 * f + rl_rk G2 t) (nI (rl_E (I t)))) (upd (upd c9 (40 * f + rl_rk G2 t) 0) (40 * f + rl_rk G2 t) (nI (rl_i (rl_C (I t) = 0 ∧ O2 t) 1 0))) c10 f t I O2 G2 now := by
        refine rl_TB_fr hT (fun i i1 i2 => ?_)
        have hi : i ≠ 40 * f + rl_rk G2 t := by omega
        unfold rl_rw
        rw [pk_un hi, pk_un hi, pk_un hi, pk_un hi, pk_un hi, pk_un hi, pk_un hi, pk_un hi, pk_un hi, pk_un hi, pk_un hi, pk_un hi, pk_un hi, pk_un hi]
      have hPL : rl_PL (upd c1 (40 * f + rl_rk G2 t) (nI t)) (upd c2 (40 * f + rl_rk G2 t) (nI (rl_C (I t) - 1))) (upd c3 (40 * f + rl_rk G2 t) (nI (rl_B (I t)))) (upd (upd c4 (40 * f + rl_rk G2 t) 0) (40 * f + rl_rk G2 t) (nI (rl_K (I t)))) (upd (upd c5 (40 * f + rl_rk G2 t) 0) (40 * f + rl_rk G2 t) (rl_V (I t))) (upd (upd c6 (40 * f + rl_rk G2 t) 0) (40 * f + rl_rk G2 t) (nI (rl_T (I t)))) (upd (upd c7 (40 * f + rl_rk G2 t) 0) (40 * f + rl_rk G2 t) (rl_S (I t))) (upd c8 (40 * f + rl_rk G2 t) (nI (rl_E (I t)))) (upd (upd c9 (40 * f + rl_rk G2 t) 0) (40 * f + rl_rk G2 t) (nI (rl_i (rl_C (I t) = 0 ∧ O2 t) 1 0))) f t I O2 G2 now :=
        ⟨by omega, by omega, ⟨w1, w2, w3, w4, w5⟩, hg2, ⟨pk_us, pk_us, pk_us, pk_us, pk_us, pk_us, pk_us, pk_us⟩, by rw [hst, pk_us]⟩
      -- the frame after it
      have frm : ∀ c9' c10' : Nat → Int32, (∀ i, (i < 40 * f ∨ 40 * f + 40 ≤ i) → c9' i = upd (upd c9 (40 * f + rl_rk G2 t) 0) (40 * f + rl_rk G2 t) (nI (rl_i (rl_C (I t) = 0 ∧ O2 t) 1 0)) i ∧ c10' i = c10 i) → ∀ i, (i < 40 * f ∨ 40 * f + 40 ≤ i) →
          rl_rw (upd c1 (40 * f + rl_rk G2 t) (nI t)) (upd c2 (40 * f + rl_rk G2 t) (nI (rl_C (I t) - 1))) (upd c3 (40 * f + rl_rk G2 t) (nI (rl_B (I t)))) (upd (upd c4 (40 * f + rl_rk G2 t) 0) (40 * f + rl_rk G2 t) (nI (rl_K (I t)))) (upd (upd c5 (40 * f + rl_rk G2 t) 0) (40 * f + rl_rk G2 t) (rl_V (I t))) (upd (upd c6 (40 * f + rl_rk G2 t) 0) (40 * f + rl_rk G2 t) (nI (rl_T (I t)))) (upd (upd c7 (40 * f + rl_rk G2 t) 0) (40 * f + rl_rk G2 t) (rl_S (I t))) (upd c8 (40 * f + rl_rk G2 t) (nI (rl_E (I t)))) c9' c10' i = rl_rw a_offset a_kind a_who a_key a_value a_tomb a_sequence a_era a_state a_decidedAt i := fun c9' c10' h9 i hi => by
        have hne2 : i ≠ 40 * f + rl_rk G2 t := by omega
        have h0 := hfr i hi
        unfold rl_rw at h0 ⊢
        rw [(h9 i hi).1, (h9 i hi).2, pk_un hne2, pk_un hne2, pk_un hne2, pk_un hne2, pk_un hne2, pk_un hne2, pk_un hne2, pk_un hne2, pk_un hne2, pk_un hne2, pk_un hne2, pk_un hne2, pk_un hne2, pk_un hne2]
        exact h0
      have ecc : upd cc f (nI (rl_rk G2 t + 1)) f = nI (rl_rk G2 (t + 1)) := by rw [pk_us, e2]
      have ecs : ∀ s, s ≠ f → upd cc f (nI (rl_rk G2 t + 1)) s = a_count s := fun s hs => by rw [pk_un hs]; exact hcs s hs
      have go := fun c9' c10' ce' cl' ca' cp' hTn hPn hfn hpn => ih (t + 1) m (upd c1 (40 * f + rl_rk G2 t) (nI t)) (upd c2 (40 * f + rl_rk G2 t) (nI (rl_C (I t) - 1))) (upd c3 (40 * f + rl_rk G2 t) (nI (rl_B (I t)))) (upd (upd c4 (40 * f + rl_rk G2 t) 0) (40 * f + rl_rk G2 t) (nI (rl_K (I t)))) (upd (upd c5 (40 * f + rl_rk G2 t) 0) (40 * f + rl_rk G2 t) (rl_V (I t))) (upd (upd c6 (40 * f + rl_rk G2 t) 0) (40 * f + rl_rk G2 t) (nI (rl_T (I t)))) (upd (upd c7 (40 * f + rl_rk G2 t) 0) (40 * f + rl_rk G2 t) (rl_S (I t))) (upd c8 (40 * f + rl_rk G2 t) (nI (rl_E (I t)))) c9' c10' (upd cc f (nI (rl_rk G2 t + 1))) ce' cl' ca' cp' (by omega) (by omega) (by omega) hTn ecc hPn (frm c9' c10' hfn) ecs hpn
      rw [e] at go
      refine ⟨vf, nm_r e8 ⟨vp_in_nI (by omega) (by omega), vf, pk_le b t (fun y => ?_) (fun y => ?_) eb eo⟩⟩
      · have em : max b t = t := by omega
        have em1 : max b (t + 1) = t + 1 := by omega
        rw [em] at hP
        rw [em1] at go
        unfold wX_take_222
        refine br_t rfl (rl_x_settle2 hT2 hf hPL hP rfl ?_)
        intro s1 s2 s3 s4 s5 s6 hT3 hP3 hf3 hf4
        exact nm_r (nI_1 _) (go s1 s2 s3 s4 s5 s6 hT3 hP3 hf3 (fun q hq => by rw [hf4 q hq]; exact hpf q hq))
      · have em1 : max b (t + 1) = max b t := by omega
        rw [em1] at go
        unfold wX_take_222
        refine br_f (by decide) (rl_x_decide2 hT2 hf hPL rfl ?_)
        intro s1 s2 hT3 hf3
        exact nm_r (nI_1 _) (go s1 s2 ce cl ca cp hT3 hP hf3 hpf)
end
end
section
/-- up to where the records come -/
noncomputable def rl_ut (G : Nat → Nat → Prop) (top cle : Nat → Nat) (L f n : Nat) : Nat := rl_fs (fun o => top f ≤ o ∧ ¬ G L o ∧ n + rl_rk (G L) (top f) ≤ rl_rk (G L) o ∧ cle L ≤ o) (top L)
theorem rl_ut_sp {G : Nat → Nat → Prop} {top cle : Nat → Nat} {L f n : Nat} (h1 : top f ≤ top L) (h2 : cle L ≤ top L) : top f ≤ rl_ut G top cle L f n ∧ rl_ut G top cle L f n ≤ top L ∧ cle L ≤ rl_ut G top cle L f n ∧ (rl_ut G top cle L f n < top L → ¬ G L (rl_ut G top cle L f n)) := by
  obtain ⟨s1, s2, s3⟩ := rl_fs_sp (fun o => top f ≤ o ∧ ¬ G L o ∧ n + rl_rk (G L) (top f) ≤ rl_rk (G L) o ∧ cle L ≤ o) (top L)
  have e : rl_ut G top cle L f n = rl_fs (fun o => top f ≤ o ∧ ¬ G L o ∧ n + rl_rk (G L) (top f) ≤ rl_rk (G L) o ∧ cle L ≤ o) (top L) := rfl
  rw [← e] at s1 s3
  rcases Nat.lt_or_ge (rl_ut G top cle L f n) (top L) with y | y
  · obtain ⟨q1, q2, q3, q4⟩ := s3 y
    exact ⟨q1, s1, q4, fun _ => q2⟩
  · exact ⟨by omega, s1, by omega, fun z => by omega⟩
section
variable {f_leader f_inside f_now f_foundKey f_foundValue f_foundTomb f_foundWho f_foundSequence f_foundEra : Int32} {a_offset a_kind a_who a_key a_value a_tomb a_sequence a_era a_state a_decidedAt a_dead a_count a_end a_mark a_cleaned a_gone a_eraAt a_eraOf a_eras a_epoch a_latest a_last a_places a_baseEpoch a_baseLatest a_baseLast a_basePlaces a_base a_fetched : Nat → Int32} {I : Nat → Nat → rl_ID} {O G : Nat → Nat → Prop} {top mark cle fet bas : Nat → Nat} {mem wor : Nat → Prop} {L f un now : Nat}
theorem rl_x_take (hX : rl_XS f_leader f_inside f_now a_offset a_kind a_who a_key a_value a_tomb a_sequence a_era a_state a_decidedAt a_count a_end a_mark a_cleaned a_gone a_eraAt a_eraOf a_eras a_epoch a_latest a_last a_places a_baseEpoch a_baseLatest a_baseLast a_basePlaces a_base a_fetched I O G top mark cle fet bas mem wor L now) (hi : rl_IV I G top mark cle fet bas mem L now) (hf : f < 3) (hL : L < 3) (hne : f ≠ L) (hl : f_leader = nI L)
    (hag : ∀ o, o < top f → I f o = I L o) (h1 : top f ≤ un) (h2 : un ≤ top L) (hcu : cle L ≤ un) (hrk : rl_rk (rl_mx (top f) (G f) (G L)) un ≤ 40) {post : SX → Prop}
    (k : ∀ c_offset c_kind c_who c_key c_value c_tomb c_sequence c_era c_state c_decidedAt c_count c_end c_cleaned c_eraAt c_eraOf c_eras c_epoch c_latest c_last c_places c_baseEpoch c_baseLatest c_baseLast c_basePlaces c_base : Nat → Int32,
      rl_XS f_leader f_inside f_now c_offset c_kind c_who c_key c_value c_tomb c_sequence c_era c_state c_decidedAt c_count c_end a_mark c_cleaned a_gone c_eraAt c_eraOf c_eras c_epoch c_latest c_last c_places c_baseEpoch c_baseLatest c_baseLast c_basePlaces c_base a_fetched
        (rl_u I f (I L)) (rl_u O f (rl_mx (top f) (O f) (O L))) (rl_u G f (rl_mx (top f) (G f) (G L))) (rl_u top f un) mark (rl_u cle f (max (cle f) (cle L))) fet (rl_u bas f (if top f < bas L then bas L else bas f)) mem wor L now →
      post (f_leader, f_inside, f_now, f_foundKey, f_foundValue, f_foundTomb, f_foundWho, f_foundSequence, f_foundEra, c_offset, c_kind, c_who, c_key, c_value, c_tomb, c_sequence, c_era, c_state, c_decidedAt, a_dead, c_count, c_end, a_mark, c_cleaned, a_gone, c_eraAt, c_eraOf, c_eras, c_epoch, c_latest, c_last, c_places, c_baseEpoch, c_baseLatest, c_baseLast, c_basePlaces, c_base, a_fetched)) :
    wpX_take post (f_leader, f_inside, f_now, f_foundKey, f_foundValue, f_foundTomb, f_foundWho, f_foundSequence, f_foundEra, a_offset, a_kind, a_who, a_key, a_value, a_tomb, a_sequence, a_era, a_state, a_decidedAt, a_dead, a_count, a_end, a_mark, a_cleaned, a_gone, a_eraAt, a_eraOf, a_eras, a_epoch, a_latest, a_last, a_places, a_baseEpoch, a_baseLatest, a_baseLast, a_basePlaces, a_base, a_fetched) (nI f) (nI (40 * L + rl_rk (G L) (top f))) (nI (40 * L + rl_rk (G L) un)) (nI un) := by
  obtain ⟨⟨x1, x2, x3⟩, x4, x5, x6⟩ := hX
  obtain ⟨i1, i2, i3, i4, i5, i6, i7, i8, i9, i10⟩ := hi
  obtain ⟨t1, t2, t3, t4, t5, t6⟩ := x4 f hf
  obtain ⟨l1, l2, l3, l4, l5, l6⟩ := x4 L hL
  obtain ⟨nf, af, of, hnf, hEf⟩ := x5 f hf
  obtain ⟨nL, aL, oL, hnL, hEL⟩ := x5 L hL
  have bf := i1 f hf
  have bL := i1 L hL
  have lsf := rl_ls_le (mark := mark) hf
  have hnow : now ≤ 4000 := t1.1
  have vL : vp_in (nI L) 3 := vp_in_nI hL (by omega)
  have cL : (nI L).toNatClampNeg = L := nI_clamp (by omega)
  have vf : vp_in (nI f) 3 := vp_in_nI hf (by omega)
  have cf : (nI f).toNatClampNeg = f := nI_clamp (by omega)
  have hEf2 : rl_ER a_eraAt a_eraOf a_eras f (top f) (rl_ls mark) (fun o => rl_E (I L o)) nf af of := rl_ER_E hEf (fun o ho => by show rl_E (I f o) = rl_E (I L o); rw [hag o ho])
  have hTf : rl_TB a_offset a_kind a_who a_key a_value a_tomb a_sequence a_era a_state a_decidedAt f (top f) (I L) (rl_mx (top f) (O f) (O L)) (rl_mx (top f) (G f) (G L)) now := rl_TB_cg t1 hag (fun o ho => (rl_mx_lo ho).symm) (fun o ho => (rl_mx_lo ho).symm)
  have ecf : a_count f = nI (rl_rk (rl_mx (top f) (G f) (G L)) (top f)) := by rw [t2]; exact congrArg nI (rl_rk_cg (fun o ho => (rl_mx_lo ho).symm))
  have hPf : rl_PR a_epoch a_latest a_last a_places f (top f) (I L) := rl_PR_cg t5 hag
  have hBf : rl_PR a_baseEpoch a_baseLatest a_baseLast a_basePlaces f (bas f) (I L) := rl_PR_cg t6 (fun o ho => hag o (by omega))
  have es0 : rl_sk nL (top L) aL (top f) un 0 = top f := by
    unfold rl_sk
    by_cases y : 0 < nL
    · rw [if_pos y]
      have := hEL.2.2.2.2.2.2.1 y
      omega
    · have := hEL.2.2.1 (by omega)
      rw [if_neg y]; omega
  have hgc : ∀ o, top f ≤ o → o < un → G L o → rl_C (I L o) = 0 ∧ o < bas L := fun o o1 o2 hg => by
    obtain ⟨g1, g2⟩ := i10 L hL o (by omega) hg
    refine ⟨Classical.byContradiction fun y => ?_, g1⟩
    have := g2 y
    omega
  subst hl
  unfold wpX_take
  refine ⟨vf, nm_r (e' := nI (top f)) (by rw [cf]; exact t3) ⟨nL + 1, ?_⟩⟩
  refine rl_x_tk17 (E := fun o => rl_E (I L o)) (cle := cle) (ls := rl_ls mark) hL hf hne hEL hnL (fun o o' h3 h4 => i3 L hL o o' h3 h4) (fun o ho => by have := (i2 L hL o ho).2.2.2.2; exact Nat.le_trans this hnow) h1 h2 bL.1 (by omega) bL.2.1 l3 (fun s hs => ⟨(x6 s hs).2.1, by have := i1 s hs; omega⟩) ?_ (nL + 1) 0 a_eraAt a_eraOf a_eras nf af of (Nat.zero_le _) (by omega) (by rw [es0]; exact hEf2) ⟨fun _ _ => rfl, fun _ _ => ⟨rfl, rfl⟩⟩
  intro ca co cs cc n' ea' eo' hE hF hcc
  have hn61 := rl_ER_n hE (by omega)
  -- what stands at the end
  have fin : ∀ (b : Nat) (c_base c_baseEpoch c_baseLatest c_baseLast c_basePlaces p1 p2 p3 p4 : Nat → Int32), b = (if top f < bas L then bas L else bas f) → b ≤ un → (∀ o, top f ≤ o → o < un → G L o → o < b) → c_base f = nI b → (∀ s, s ≠ f → c_base s = a_base s) →
      rl_PR c_baseEpoch c_baseLatest c_baseLast c_basePlaces f b (I L) → (∀ q, (q < 4 * f ∨ 4 * f + 4 ≤ q) → rl_pv c_baseEpoch c_baseLatest c_baseLast c_basePlaces q = rl_pv a_baseEpoch a_baseLatest a_baseLast a_basePlaces q) →
      rl_PR p1 p2 p3 p4 f (max b (top f)) (I L) → (∀ q, (q < 4 * f ∨ 4 * f + 4 ≤ q) → rl_pv p1 p2 p3 p4 q = rl_pv a_epoch a_latest a_last a_places q) →
      ∃ n, wX_take_173 post (nI f) (nI (40 * L + rl_rk (G L) un)) n (nI (40 * L + rl_rk (G L) (top f))) (nI L) f_inside f_now f_foundKey f_foundValue f_foundTomb f_foundWho f_foundSequence f_foundEra a_offset a_kind a_who a_key a_value a_tomb a_sequence a_era a_state a_decidedAt a_dead a_count (upd a_end f (nI un)) a_mark cc a_gone ca co cs p1 p2 p3 p4 c_baseEpoch c_baseLatest c_baseLast c_basePlaces c_base a_fetched := by
    intro b cb g1 g2 g3 g4 p1 p2 p3 p4 eb hbu hgb hcb hcbs hB hBF hP hPF
    refine ⟨rl_rk (G L) un - rl_rk (G L) (top f) + 1, rl_x_tk173 (a_base := cb) (I := I L) (O2 := rl_mx (top f) (O f) (O L)) (G2 := rl_mx (top f) (G f) (G L)) (tf := top f) (b := b) hL hf hne l1 h2 (fun o ho => rl_mx_hi (by omega)) (fun o ho => rl_mx_hi (by omega)) (fun o o1 o2 hg => ⟨(hgc o o1 o2 hg).1, hgb o o1 o2 hg⟩) hrk hcb (by omega) ?_ (un - top f) (top f) _ a_offset a_kind a_who a_key a_value a_tomb a_sequence a_era a_state a_decidedAt a_count p1 p2 p3 p4 (by omega) (Nat.le_refl _) (by omega) hTf ecf hP (fun i _ => rfl) (fun s _ => rfl) (fun q _ => rfl)⟩
    intro d1 d2 d3 d4 d5 d6 d7 d8 d9 d10 dc e1 e2 e3 e4 hT3 hc3 hP3 hfr hcs3 hpf
    have em : max b un = un := by omega
    rw [em] at hP3
    refine k d1 d2 d3 d4 d5 d6 d7 d8 d9 d10 dc _ cc ca co cs e1 e2 e3 e4 g1 g2 g3 g4 cb ⟨⟨(rl_ld_t hL).symm, x2, x3⟩, fun s hs => ?_, fun s hs => ?_, fun s hs => ⟨(x6 s hs).1, hcc s hs, (x6 s hs).2.2⟩⟩
    · by_cases e : s = f
      · subst e
        rw [rl_us, rl_us, rl_us, rl_us, rl_us, ← eb]
        exact ⟨hT3, hc3, pk_us, hcb, hP3, hB⟩
      · obtain ⟨s1, s2, s3, s4, s5, s6⟩ := x4 s hs
        rw [rl_un e, rl_un e, rl_un e, rl_un e, rl_un e]
        have h40 := s1.2.2.1
        exact ⟨rl_TB_fr s1 (fun i j1 j2 => hfr i (by omega)), by rw [hcs3 s e]; exact s2, by rw [pk_un e]; exact s3, by rw [hcbs s e]; exact s4, rl_PR_fr s5 (fun q q1 q2 => by rw [hpf q (by omega), hPF q (by omega)]), rl_PR_fr s6 (fun q q1 q2 => hBF q (by omega))⟩
    · by_cases e : s = f
      · subst e
        rw [rl_us, rl_us]
        exact ⟨n', ea', eo', by omega, hE⟩
      · obtain ⟨n0, ea0, eo0, q1, q2⟩ := x5 s hs
        rw [rl_un e, rl_un e]
        exact ⟨n0, ea0, eo0, q1, rl_ER_cg q2 (by omega) (hF.1 s e) (fun i j1 j2 => hF.2 i (by omega))⟩
  have ebL : a_base (nI L).toNatClampNeg = nI (bas L) := by rw [cL]; exact l4
  unfold wX_take_139
  refine ⟨vL, pk_le (bas L) (top f) (fun y => ?_) (fun y => ?_) ebL⟩
  · have em : max (bas f) (top f) = top f := by omega
    exact fin (bas f) a_base a_baseEpoch a_baseLatest a_baseLast a_basePlaces a_epoch a_latest a_last a_places (by rw [if_neg (by omega)]) (by omega) (fun o o1 o2 hg => by have := (hgc o o1 o2 hg).2; omega) t4 (fun s _ => rfl) hBf (fun q _ => rfl) (by rw [em]; exact hPf) (fun q _ => rfl)
  · refine rl_x_recall hf hL l6 ?_
    intro p1 p2 p3 p4 hP hPF
    refine ⟨vL, ?_⟩
    rw [cL, l4]
    refine rl_x_rebase hf hP ?_
    intro g1 g2 g3 g4 hB hBF
    have em : max (bas L) (top f) = bas L := by omega
    exact fin (bas L) _ g1 g2 g3 g4 p1 p2 p3 p4 (by rw [if_pos y]) (by omega) (fun o o1 o2 hg => (hgc o o1 o2 hg).2) pk_us (fun s hs => pk_un hs) hB hBF (by rw [em]; exact hP) hPF
/-! the abstract state after the records have come -/
theorem rl_iv_take (hi : rl_IV I G top mark cle fet bas mem L now) (hf : f < 3) (hL : L < 3) (hne : f ≠ L) (hag : ∀ o, o < top f → I f o = I L o) (h1 : top f ≤ un) (h2 : un ≤ top L) (hcu : cle L ≤ un) :
    rl_IV (rl_u I f (I L)) (rl_u G f (rl_mx (top f) (G f) (G L))) (rl_u top f un) mark (rl_u cle f (max (cle f) (cle L))) (rl_u fet f un) (rl_u bas f (if top f < bas L then bas L else bas f)) (fun s => mem s ∨ (s = f ∧ un = top L)) L now := by
  obtain ⟨i1, i2, i3, i4, i5, i6, i7, i8, i9, i10⟩ := hi
  have hLf : L ≠ f := fun y => hne y.symm
  have bf := i1 f hf
  have bL := i1 L hL
  -- a replica's log is a beginning of an old one
  have gm : ∀ r, r < 3 → ∃ g, g < 3 ∧ rl_u I f (I L) r = I g ∧ rl_u top f un r ≤ top g ∧ (r ≠ f → g = r) := fun r hr => by
    by_cases e : r = f
    · subst e; exact ⟨L, hL, rl_us, by rw [rl_us]; exact h2, fun y => absurd rfl y⟩
    · exact ⟨r, hr, rl_un e, by rw [rl_un e]; exact Nat.le_refl _, fun _ => rfl⟩
  have eI : ∀ r, r ≠ f → rl_u I f (I L) r = I r := fun r e => rl_un e
  have eIf : rl_u I f (I L) f = I L := rl_us
  have eT : ∀ r, r ≠ f → rl_u top f un r = top r := fun r e => rl_un e
  have eTf : rl_u top f un f = un := rl_us
  have lsf := rl_ls_le (mark := mark) hf
  have mL := i6 hL
  refine ⟨fun r hr => ?_, fun r hr o ho => ?_, fun r hr o o' hoo ho => ?_, fun r s hr hs a b ha hb he o q1 q2 => ?_, ?_, fun _ => Or.inl mL, fun r s hr hs hm => ?_, fun _ s hs o ho he => ?_, fun _ s hs hn => ?_, fun r hr o ho hg => ?_⟩
  · by_cases e : r = f
    · subst e
      rw [eTf, eIf, rl_us, rl_us, rl_us]
      refine ⟨by omega, by omega, by omega, ?_, by omega, by omega, fun o ho hc => bL.2.2.2.2.2.2 o (by omega) hc⟩
      split <;> omega
    · rw [eT r e, eI r e, rl_un e, rl_un e, rl_un e]; exact i1 r hr
  · obtain ⟨g, g1, g2, g3, -⟩ := gm r hr
    rw [g2]; exact i2 g g1 o (by omega)
  · obtain ⟨g, g1, g2, g3, -⟩ := gm r hr
    rw [g2]; exact i3 g g1 o o' hoo (by omega)
  · obtain ⟨g, g1, g2, g3, -⟩ := gm r hr
    obtain ⟨h, h3, h4, h5, -⟩ := gm s hs
    rw [g2, h4] at he ⊢
    exact i4 g h g1 h3 a b (by omega) (by omega) he o q1 q2
  · obtain ⟨s, s1, s2⟩ := i5
    exact ⟨s, s1, Or.inl s2⟩
  · -- what r knows, the member s has
    have known : ∀ g, g < 3 → mem g → (mark r ≤ top g ∧ (rl_u cle f (max (cle f) (cle L)) r) ≤ top g) ∧ ∀ o, (o < mark r ∨ o < rl_u cle f (max (cle f) (cle L)) r) → rl_u I f (I L) r o = I g o := fun g hg hmg => by
      obtain ⟨p1, p2, p3⟩ := i7 r g hr hg hmg
      by_cases e : r = f
      · subst e
        rw [rl_us, eIf]
        obtain ⟨l1, l2, l3⟩ := i7 L g hL hg hmg
        refine ⟨⟨p1, by omega⟩, fun o ho => ?_⟩
        by_cases hoL : o < cle L
        · exact l3 o (Or.inr hoL)
        · rw [← hag o (by omega)]; exact p3 o (by omega)
      · rw [rl_un e, eI r e]; exact ⟨⟨p1, p2⟩, p3⟩
    by_cases es : s = f
    · subst es
      obtain ⟨⟨p1, p2⟩, p3⟩ := known L hL mL
      rw [eTf, eIf]
      refine ⟨?_, ?_, fun o ho => p3 o ho⟩
      · rcases hm with hm | hm
        · have := (i7 r s hr hs hm).1; omega
        · omega
      · by_cases e : r = s
        · subst e; rw [rl_us]; omega
        · rw [rl_un e] at p2 ⊢
          rcases hm with hm | hm
          · have := (i7 r s hr hs hm).2.1; omega
          · omega
    · have hms : mem s := hm.elim id (fun y => absurd y.1 es)
      obtain ⟨⟨p1, p2⟩, p3⟩ := known s hs hms
      rw [eT s es, eI s es]; exact ⟨p1, p2, p3⟩
  · rw [eT L hLf, eI L hLf]
    obtain ⟨g, g1, g2, g3, -⟩ := gm s hs
    rw [g2] at he
    exact i8 hL g g1 o (by omega) he
  · rw [eT L hLf, eI L hLf]
    by_cases es : s = f
    · subst es
      rw [eTf, eIf, rl_us]; exact ⟨Nat.le_refl _, h2, fun o _ => rfl⟩
    · rw [eT s es, eI s es, rl_un es]; exact i9 hL s hs hn
  · by_cases e : r = f
    · subst e
      rw [rl_us] at hg
      rw [eTf] at ho
      rw [rl_us, eIf]
      rcases hg with ⟨q1, q2⟩ | ⟨q1, q2⟩
      · obtain ⟨p1, p2⟩ := i10 r hr o q1 q2
        rw [hag o q1] at p2
        refine ⟨?_, p2⟩
        split <;> omega
      · obtain ⟨p1, p2⟩ := i10 L hL o (by omega) q2
        refine ⟨?_, p2⟩
        split <;> omega
    · rw [rl_un e] at hg
      rw [eT r e] at ho
      rw [rl_un e, eI r e]; exact i10 r hr o ho hg
/-- the follower's mark -/
theorem rl_iv_mf (hi : rl_IV I G top mark cle fet bas mem L now) (hf : f < 3) (hL : L < 3) (hag : ∀ o, o < top f → I f o = I L o) :
    rl_IV I G top (rl_u mark f (max (mark f) (min (top f) (mark L)))) cle fet bas mem L now := by
  obtain ⟨i1, i2, i3, i4, i5, i6, i7, i8, i9, i10⟩ := hi
  have hge : ∀ r, r < 3 → mark r ≤ rl_u mark f (max (mark f) (min (top f) (mark L))) r := fun r _ => by
    by_cases e : r = f
    · subst e; rw [rl_us]; omega
    · rw [rl_un e]; exact Nat.le_refl _
  have hls := rl_ls_mono hge
  refine ⟨fun r hr => ?_, i2, i3, i4, i5, i6, fun r s hr hs hm => ?_, i8, i9, fun r hr o ho hg => ⟨(i10 r hr o ho hg).1, fun hc => by have := (i10 r hr o ho hg).2 hc; omega⟩⟩
  · obtain ⟨a1, a2, a3, a4⟩ := i1 r hr
    refine ⟨a1, by omega, ?_, a4⟩
    by_cases e : r = f
    · subst e; rw [rl_us]; omega
    · rw [rl_un e]; exact a3
  · obtain ⟨m1, m2, m3⟩ := i7 r s hr hs hm
    by_cases e : r = f
    · subst e
      rw [rl_us]
      obtain ⟨l1, l2, l3⟩ := i7 L s hL hs hm
      refine ⟨by omega, m2, fun o ho => ?_⟩
      by_cases ho2 : o < mark r ∨ o < cle r
      · exact m3 o ho2
      · rw [hag o (by omega)]; exact l3 o (Or.inl (by omega))
    · rw [rl_un e]; exact ⟨m1, m2, m3⟩
end
end
section
theorem rl_in_add (mem : Nat → Prop) {r : Nat} (hr : r < 3) : rl_in mem ||| ((1 : Int32) <<< (nI r &&& 31)) = rl_in (fun s => mem s ∨ s = r) := by
  have : r = 0 ∨ r = 1 ∨ r = 2 := by omega
  unfold rl_in
  rcases this with e | e | e <;> subst e <;>
    rcases Classical.em (mem 0) with h0 | h0 <;> rcases Classical.em (mem 1) with h1 | h1 <;> rcases Classical.em (mem 2) with h2 | h2 <;>
      simp [rl_it, rl_if, h0, h1, h2] <;> decide
section
variable {f_leader f_inside f_now f_foundKey f_foundValue f_foundTomb f_foundWho f_foundSequence f_foundEra : Int32} {a_offset a_kind a_who a_key a_value a_tomb a_sequence a_era a_state a_decidedAt a_dead a_count a_end a_mark a_cleaned a_gone a_eraAt a_eraOf a_eras a_epoch a_latest a_last a_places a_baseEpoch a_baseLatest a_baseLast a_basePlaces a_base a_fetched : Nat → Int32} {I : Nat → Nat → rl_ID} {O G : Nat → Nat → Prop} {top mark cle fet bas : Nat → Nat} {mem wor : Nat → Prop} {L f now : Nat}
theorem rl_x_ft338 {ls : Nat} (hls : ls ≤ rl_ls mark) (ht : ∀ r, r < 3 → top r ≤ 600) (hm : ∀ r, r < 3 → a_mark r = nI (mark r) ∧ mark r ≤ 600) {x4 x6 : Int32} {post : Int32 → SX → Prop}
    (k : ∀ (c_eraAt c_eraOf c_eras : Nat → Int32), rl_EA c_eraAt c_eraOf c_eras top I (rl_ls mark) → post (x6 - x4) (f_leader, f_inside, f_now, f_foundKey, f_foundValue, f_foundTomb, f_foundWho, f_foundSequence, f_foundEra, a_offset, a_kind, a_who, a_key, a_value, a_tomb, a_sequence, a_era, a_state, a_decidedAt, a_dead, a_count, a_end, a_mark, a_cleaned, a_gone, c_eraAt, c_eraOf, c_eras, a_epoch, a_latest, a_last, a_places, a_baseEpoch, a_baseLatest, a_baseLast, a_basePlaces, a_base, a_fetched)) :
    ∀ n j (c_eraAt c_eraOf c_eras : Nat → Int32), j ≤ 3 → 3 - j < n → rl_EJ c_eraAt c_eraOf c_eras top I ls (rl_ls mark) j → wX_fetch_338 post x4 x6 n (nI j) f_leader f_inside f_now f_foundKey f_foundValue f_foundTomb f_foundWho f_foundSequence f_foundEra a_offset a_kind a_who a_key a_value a_tomb a_sequence a_era a_state a_decidedAt a_dead a_count a_end a_mark a_cleaned a_gone c_eraAt c_eraOf c_eras a_epoch a_latest a_last a_places a_baseEpoch a_baseLatest a_baseLast a_basePlaces a_base a_fetched := by
  intro n
  induction n with
  | zero => intro j ca co cs h1 h2; omega
  | succ n ih =>
    intro j ca co cs hj hn hE
    refine pk_le 3 j (fun z => k ca co cs (fun r hr => ?_)) (fun z => ?_)
    · obtain ⟨m, fa, fo, hm1, hm2⟩ := hE r hr
      rw [if_pos (by omega)] at hm2
      exact ⟨m, fa, fo, hm1, hm2⟩
    · exact rl_x_feJ z hE hls ht hm (fun c1 c2 c3 h1 => nm_r (nI_1 _) (ih (j + 1) c1 c2 c3 (by omega) (by omega) h1))
theorem rl_x_ft314 {m : Nat} (hX : rl_XS f_leader f_inside f_now a_offset a_kind a_who a_key a_value a_tomb a_sequence a_era a_state a_decidedAt a_count a_end a_mark a_cleaned a_gone a_eraAt a_eraOf a_eras a_epoch a_latest a_last a_places a_baseEpoch a_baseLatest a_baseLast a_basePlaces a_base a_fetched I O G top mark cle fet bas mem wor L now) (hb : ∀ s, s < 3 → top s ≤ 600 ∧ mark s ≤ top s) (hf : f < 3) (hm : m ≤ top f) {x4 x6 : Int32} {post : Int32 → SX → Prop}
    (k : ∀ c_mark c_eraAt c_eraOf c_eras : Nat → Int32, rl_XS f_leader f_inside f_now a_offset a_kind a_who a_key a_value a_tomb a_sequence a_era a_state a_decidedAt a_count a_end c_mark a_cleaned a_gone c_eraAt c_eraOf c_eras a_epoch a_latest a_last a_places a_baseEpoch a_baseLatest a_baseLast a_basePlaces a_base a_fetched I O G top (rl_u mark f (max (mark f) m)) cle fet bas mem wor L now →
      post (x6 - x4) (f_leader, f_inside, f_now, f_foundKey, f_foundValue, f_foundTomb, f_foundWho, f_foundSequence, f_foundEra, a_offset, a_kind, a_who, a_key, a_value, a_tomb, a_sequence, a_era, a_state, a_decidedAt, a_dead, a_count, a_end, c_mark, a_cleaned, a_gone, c_eraAt, c_eraOf, c_eras, a_epoch, a_latest, a_last, a_places, a_baseEpoch, a_baseLatest, a_baseLast, a_basePlaces, a_base, a_fetched)) : wX_fetch_314 post (nI f) x4 x6 (nI m) f_leader f_inside f_now f_foundKey f_foundValue f_foundTomb f_foundWho f_foundSequence f_foundEra a_offset a_kind a_who a_key a_value a_tomb a_sequence a_era a_state a_decidedAt a_dead a_count a_end a_mark a_cleaned a_gone a_eraAt a_eraOf a_eras a_epoch a_latest a_last a_places a_baseEpoch a_baseLatest a_baseLast a_basePlaces a_base a_fetched := by
  obtain ⟨⟨x1, x2, x3⟩, y4, y5, y6⟩ := hX
  have vf : vp_in (nI f) 3 := vp_in_nI hf (by omega)
  have cf : (nI f).toNatClampNeg = f := nI_clamp (by omega)
  have em : a_mark (nI f).toNatClampNeg = nI (mark f) := by rw [cf]; exact (y6 f hf).1
  have h6 := (hb f hf).1
  have h7 := (hb f hf).2
  have hge : ∀ r, r < 3 → mark r ≤ rl_u mark f (max (mark f) m) r := fun r _ => by
    by_cases e : r = f
    · subst e; rw [rl_us]; omega
    · rw [rl_un e]; exact Nat.le_refl _
  have hls := rl_ls_mono hge
  have ht2 : ∀ r, r < 3 → top r ≤ 600 := fun r hr => (hb r hr).1
  have hb2 : ∀ r, r < 3 → rl_u mark f (max (mark f) m) r ≤ 600 := fun r hr => by
    by_cases e : r = f
    · subst e; rw [rl_us]; omega
    · rw [rl_un e]; have := hb r hr; omega
  have E0 : rl_EJ a_eraAt a_eraOf a_eras top I (rl_ls mark) (rl_ls (rl_u mark f (max (mark f) m))) 0 := fun r hr => by
    obtain ⟨n, ea, eo, h1, h2⟩ := y5 r hr
    exact ⟨n, ea, eo, h1, by rw [if_neg (by omega)]; exact h2⟩
  unfold wX_fetch_314
  refine ⟨vf, pk_le m (mark f) (fun z => ⟨4, ?_⟩) (fun z => ⟨vf, ?_⟩) rfl em⟩
  · have hmk : ∀ r, r < 3 → a_mark r = nI (rl_u mark f (max (mark f) m) r) := fun r hr => by
      by_cases e : r = f
      · subst e; rw [rl_us, (y6 r hr).1]; exact congrArg nI (by omega)
      · rw [rl_un e]; exact (y6 r hr).1
    exact rl_x_ft338 hls ht2 (fun r hr => ⟨hmk r hr, hb2 r hr⟩) (fun c1 c2 c3 h1 => k a_mark c1 c2 c3 ⟨⟨x1, x2, x3⟩, y4, h1, fun s hs => ⟨hmk s hs, (y6 s hs).2⟩⟩) 4 0 a_eraAt a_eraOf a_eras (by omega) (by omega) E0
  · rw [cf]
    refine nm_e ⟨4, ?_⟩
    have hmk : ∀ r, r < 3 → upd a_mark f (nI m) r = nI (rl_u mark f (max (mark f) m) r) := fun r hr => by
      by_cases e : r = f
      · subst e; rw [rl_us, pk_us]; exact congrArg nI (by omega)
      · rw [rl_un e, pk_un e]; exact (y6 r hr).1
    exact rl_x_ft338 (a_mark := upd a_mark f (nI m)) hls ht2 (fun r hr => ⟨hmk r hr, hb2 r hr⟩) (fun c1 c2 c3 h1 => k _ c1 c2 c3 ⟨⟨x1, x2, x3⟩, y4, h1, fun s hs => ⟨hmk s hs, (y6 s hs).2⟩⟩) 4 0 a_eraAt a_eraOf a_eras (by omega) (by omega) E0
theorem rl_x_ft274 (hX : rl_XS f_leader f_inside f_now a_offset a_kind a_who a_key a_value a_tomb a_sequence a_era a_state a_decidedAt a_count a_end a_mark a_cleaned a_gone a_eraAt a_eraOf a_eras a_epoch a_latest a_last a_places a_baseEpoch a_baseLatest a_baseLast a_basePlaces a_base a_fetched I O G top mark cle fet bas mem wor L now) (hi : rl_IV I G top mark cle fet bas mem L now) (hf : f < 3) (hL : L < 3) {x4 x6 : Int32} {post : Int32 → SX → Prop}
    (k : ∀ c_mark c_eraAt c_eraOf c_eras : Nat → Int32, rl_XS f_leader f_inside f_now a_offset a_kind a_who a_key a_value a_tomb a_sequence a_era a_state a_decidedAt a_count a_end c_mark a_cleaned a_gone c_eraAt c_eraOf c_eras a_epoch a_latest a_last a_places a_baseEpoch a_baseLatest a_baseLast a_basePlaces a_base a_fetched
        I O G top (rl_u (rl_mq top mark fet mem L) f (max (rl_mq top mark fet mem L f) (min (top f) (rl_mq top mark fet mem L L)))) cle fet bas mem wor L now →
      post (x6 - x4) (f_leader, f_inside, f_now, f_foundKey, f_foundValue, f_foundTomb, f_foundWho, f_foundSequence, f_foundEra, a_offset, a_kind, a_who, a_key, a_value, a_tomb, a_sequence, a_era, a_state, a_decidedAt, a_dead, a_count, a_end, c_mark, a_cleaned, a_gone, c_eraAt, c_eraOf, c_eras, a_epoch, a_latest, a_last, a_places, a_baseEpoch, a_baseLatest, a_baseLast, a_basePlaces, a_base, a_fetched)) : wX_fetch_274 post (nI f) x4 x6 f_leader f_inside f_now f_foundKey f_foundValue f_foundTomb f_foundWho f_foundSequence f_foundEra a_offset a_kind a_who a_key a_value a_tomb a_sequence a_era a_state a_decidedAt a_dead a_count a_end a_mark a_cleaned a_gone a_eraAt a_eraOf a_eras a_epoch a_latest a_last a_places a_baseEpoch a_baseLatest a_baseLast a_basePlaces a_base a_fetched := by
  have hl : f_leader = nI L := hX.1.1.trans (rl_ld_t hL)
  have vf : vp_in (nI f) 3 := vp_in_nI hf (by omega)
  have cf : (nI f).toNatClampNeg = f := nI_clamp (by omega)
  have vL : vp_in (nI L) 3 := vp_in_nI hL (by omega)
  have cL : (nI L).toNatClampNeg = L := nI_clamp (by omega)
  have hi2 := rl_iv_adv hi
  have hb : ∀ s, s < 3 → top s ≤ 600 ∧ rl_mq top mark fet mem L s ≤ top s := fun s hs => ⟨(hi2.1 s hs).1, (hi2.1 s hs).2.2.1⟩
  have b1 := hb L hL
  have b2 := hb f hf
  subst hl
  unfold wX_fetch_274
  refine rl_xs_adv hX hi ?_
  intro cm ca co cs hX2
  have e1 : cm (nI L).toNatClampNeg = nI (rl_mq top mark fet mem L L) := by rw [cL]; exact (hX2.2.2.2 L hL).1
  have e2 : a_end (nI f).toNatClampNeg = nI (top f) := by rw [cf]; exact (hX2.2.1 f hf).2.2.1
  have fin : ∀ m, m = min (top f) (rl_mq top mark fet mem L L) → wX_fetch_314 post (nI f) x4 x6 (nI m) (nI L) f_inside f_now f_foundKey f_foundValue f_foundTomb f_foundWho f_foundSequence f_foundEra a_offset a_kind a_who a_key a_value a_tomb a_sequence a_era a_state a_decidedAt a_dead a_count a_end cm a_cleaned a_gone ca co cs a_epoch a_latest a_last a_places a_baseEpoch a_baseLatest a_baseLast a_basePlaces a_base a_fetched := fun m em => by
    refine rl_x_ft314 hX2 hb hf (by omega) ?_
    intro dm da do' ds h3
    subst em
    exact k dm da do' ds h3
  refine ⟨vf, vL, pk_le (rl_mq top mark fet mem L L) (top f) (fun z => ⟨vL, ?_⟩) (fun z => ⟨vf, ?_⟩) e1 e2⟩
  · show wX_fetch_314 post (nI f) x4 x6 (cm (nI L).toNatClampNeg) _ _ _ _ _ _ _ _ _ _ _ _ _ _ _ _ _ _ _ _ _ _ _ _ _ _ _ _ _ _ _ _ _ _ _ _ _ _
    rw [e1]; exact fin _ (by omega)
  · show wX_fetch_314 post (nI f) x4 x6 (a_end (nI f).toNatClampNeg) _ _ _ _ _ _ _ _ _ _ _ _ _ _ _ _ _ _ _ _ _ _ _ _ _ _ _ _ _ _ _ _ _ _ _ _ _ _
    rw [e2]; exact fin _ (by omega)
end
section
variable {f_leader f_inside f_now f_foundKey f_foundValue f_foundTomb f_foundWho f_foundSequence f_foundEra : Int32} {a_offset a_kind a_who a_key a_value a_tomb a_sequence a_era a_state a_decidedAt a_dead a_count a_end a_mark a_cleaned a_gone a_eraAt a_eraOf a_eras a_epoch a_latest a_last a_places a_baseEpoch a_baseLatest a_baseLast a_basePlaces a_base a_fetched : Nat → Int32} {I : Nat → Nat → rl_ID} {O G : Nat → Nat → Prop} {top mark cle fet bas : Nat → Nat} {mem wor : Nat → Prop} {L f now n : Nat}
/-- the marks at the end of a fetch -/
noncomputable def rl_m5 (top mark fet : Nat → Nat) (mem : Nat → Prop) (L f un : Nat) : Nat → Nat :=
  rl_u (rl_mq (rl_u top f un) mark (rl_u fet f un) (fun s => mem s ∨ (s = f ∧ un = top L)) L) f (max (rl_mq (rl_u top f un) mark (rl_u fet f un) (fun s => mem s ∨ (s = f ∧ un = top L)) L f) (min (rl_u top f un f) (rl_mq (rl_u top f un) mark (rl_u fet f un) (fun s => mem s ∨ (s = f ∧ un = top L)) L L)))
theorem rl_x_ft229 {un : Nat} (hX : rl_XS f_leader f_inside f_now a_offset a_kind a_who a_key a_value a_tomb a_sequence a_era a_state a_decidedAt a_count a_end a_mark a_cleaned a_gone a_eraAt a_eraOf a_eras a_epoch a_latest a_last a_places a_baseEpoch a_baseLatest a_baseLast a_basePlaces a_base a_fetched I O G top mark cle fet bas mem wor L now) (hi : rl_IV I G top mark cle fet bas mem L now) (hf : f < 3) (hL : L < 3) (hne : f ≠ L)
    (hag : ∀ o, o < top f → I f o = I L o) (h1 : top f ≤ un) (h2 : un ≤ top L) (hcu : cle L ≤ un) (hrk : rl_rk (rl_mx (top f) (G f) (G L)) un ≤ 40) {post : Int32 → SX → Prop}
    (k : ∀ (f_in : Int32) (c_offset c_kind c_who c_key c_value c_tomb c_sequence c_era c_state c_decidedAt c_count c_end c_mark c_cleaned c_eraAt c_eraOf c_eras c_epoch c_latest c_last c_places c_baseEpoch c_baseLatest c_baseLast c_basePlaces c_base c_fetched : Nat → Int32),
      rl_XS f_leader f_in f_now c_offset c_kind c_who c_key c_value c_tomb c_sequence c_era c_state c_decidedAt c_count c_end c_mark c_cleaned a_gone c_eraAt c_eraOf c_eras c_epoch c_latest c_last c_places c_baseEpoch c_baseLatest c_baseLast c_basePlaces c_base c_fetched
        (rl_u I f (I L)) (rl_u O f (rl_mx (top f) (O f) (O L))) (rl_u G f (rl_mx (top f) (G f) (G L))) (rl_u top f un) (rl_m5 top mark fet mem L f un) (rl_u cle f (max (cle f) (cle L))) (rl_u fet f un) (rl_u bas f (if top f < bas L then bas L else bas f)) (fun s => mem s ∨ (s = f ∧ un = top L)) wor L now →
      post (nI (rl_rk (G L) un - rl_rk (G L) (top f))) (f_leader, f_in, f_now, f_foundKey, f_foundValue, f_foundTomb, f_foundWho, f_foundSequence, f_foundEra, c_offset, c_kind, c_who, c_key, c_value, c_tomb, c_sequence, c_era, c_state, c_decidedAt, a_dead, c_count, c_end, c_mark, c_cleaned, a_gone, c_eraAt, c_eraOf, c_eras, c_epoch, c_latest, c_last, c_places, c_baseEpoch, c_baseLatest, c_baseLast, c_basePlaces, c_base, c_fetched)) :
    wX_fetch_229 post (nI f) (nI (40 * L + rl_rk (G L) (top f))) (nI (40 * L + rl_rk (G L) un)) (nI un) (nI (40 * L + rl_rk (G L) un)) (nI (40 * L + rl_rk (G L) (top f))) (nI f) f_leader f_inside f_now f_foundKey f_foundValue f_foundTomb f_foundWho f_foundSequence f_foundEra a_offset a_kind a_who a_key a_value a_tomb a_sequence a_era a_state a_decidedAt a_dead a_count a_end a_mark a_cleaned a_gone a_eraAt a_eraOf a_eras a_epoch a_latest a_last a_places a_baseEpoch a_baseLatest a_baseLast a_basePlaces a_base a_fetched := by
  have hl : f_leader = nI L := hX.1.1.trans (rl_ld_t hL)
  have vf : vp_in (nI f) 3 := vp_in_nI hf (by omega)
  have cf : (nI f).toNatClampNeg = f := nI_clamp (by omega)
  have vL : vp_in (nI L) 3 := vp_in_nI hL (by omega)
  have cL : (nI L).toNatClampNeg = L := nI_clamp (by omega)
  have bL := (hi.1 L hL).1
  have hi3 := rl_iv_take hi hf hL hne hag h1 h2 hcu
  have hrm := rl_rk_mono (G := G L) h1
  have ew : nI (40 * L + rl_rk (G L) un) - nI (40 * L + rl_rk (G L) (top f)) = nI (rl_rk (G L) un - rl_rk (G L) (top f)) := by rw [pk_sub (by omega)]; exact congrArg nI (by omega)
  subst hl
  unfold wX_fetch_229
  refine rl_x_take hX hi hf hL hne rfl hag h1 h2 hcu hrk ?_
  intro d1 d2 d3 d4 d5 d6 d7 d8 d9 d10 dc de dcl da do' ds p1 p2 p3 p4 g1 g2 g3 g4 db hX2
  obtain ⟨⟨z1, z2, z3⟩, z4, z5, z6⟩ := hX2
  have e1 : de (nI f).toNatClampNeg = nI un := by rw [cf]; have := (z4 f hf).2.2.1; rw [rl_us] at this; exact this
  have e2 : de (nI L).toNatClampNeg = nI (top L) := by rw [cL]; have := (z4 L hL).2.2.1; rw [rl_un (fun y => hne y.symm)] at this; exact this
  -- with the members' bits
  have fin : ∀ f_in : Int32, f_in = rl_in (fun s => mem s ∨ (s = f ∧ un = top L)) → wX_fetch_274 post (nI f) (nI (40 * L + rl_rk (G L) (top f))) (nI (40 * L + rl_rk (G L) un)) (nI L) f_in f_now f_foundKey f_foundValue f_foundTomb f_foundWho f_foundSequence f_foundEra d1 d2 d3 d4 d5 d6 d7 d8 d9 d10 a_dead dc de a_mark dcl a_gone da do' ds p1 p2 p3 p4 g1 g2 g3 g4 db (upd a_fetched f (nI un)) := by
    intro fi hfi
    refine rl_x_ft274 (fet := rl_u fet f un) (mem := fun s => mem s ∨ (s = f ∧ un = top L)) ⟨⟨z1, hfi, z3⟩, z4, z5, fun s hs => ⟨(z6 s hs).1, (z6 s hs).2.1, (z6 s hs).2.2.1, ?_⟩⟩ hi3 hf hL ?_
    · by_cases e : s = f
      · subst e; rw [rl_us, pk_us]
      · rw [rl_un e, pk_un e]; exact (z6 s hs).2.2.2
    · intro dm ea eo es hX5
      rw [ew]
      exact k fi d1 d2 d3 d4 d5 d6 d7 d8 d9 d10 dc de dm dcl ea eo es p1 p2 p3 p4 g1 g2 g3 g4 db _ hX5
  dsimp only
  rw [e1, e2, cf]
  refine ⟨vf, vf, nm_e ⟨vf, vL, pk_eq un (top L) (fun y => nm_e (fin _ ?_)) (fun y => fin _ ?_)⟩⟩
  · rw [z2, rl_in_add mem hf]
    exact rl_in_cg (fun s => or_congr Iff.rfl ⟨fun z => ⟨z, y⟩, fun z => z.1⟩)
  · rw [z2]
    exact rl_in_cg (fun s => ⟨Or.inl, fun z => z.elim id (fun q => absurd q.2 y)⟩)
theorem rl_x_ft136 (hX : rl_XS f_leader f_inside f_now a_offset a_kind a_who a_key a_value a_tomb a_sequence a_era a_state a_decidedAt a_count a_end a_mark a_cleaned a_gone a_eraAt a_eraOf a_eras a_epoch a_latest a_last a_places a_baseEpoch a_baseLatest a_baseLast a_basePlaces a_base a_fetched I O G top mark cle fet bas mem wor L now) (hi : rl_IV I G top mark cle fet bas mem L now) (hf : f < 3) (hL : L < 3) (htl : top f ≤ top L) (hn8 : n ≤ 8) {post : Int32 → SX → Prop}
    (k : wX_fetch_177 post (nI f) (nI (40 * L + rl_rk (G L) (top f))) (nI (40 * L + rl_rk (G L) (top L))) (nI (40 * L + rl_rk (G L) (rl_ut G top cle L f n))) f_leader f_inside f_now f_foundKey f_foundValue f_foundTomb f_foundWho f_foundSequence f_foundEra a_offset a_kind a_who a_key a_value a_tomb a_sequence a_era a_state a_decidedAt a_dead a_count a_end a_mark a_cleaned a_gone a_eraAt a_eraOf a_eras a_epoch a_latest a_last a_places a_baseEpoch a_baseLatest a_baseLast a_basePlaces a_base a_fetched) :
    ∀ d o m, o + d = top L → top f ≤ o → rl_rk (G L) (top L) - rl_rk (G L) o < m → (∀ j, j < o → ¬ (top f ≤ j ∧ ¬ G L j ∧ n + rl_rk (G L) (top f) ≤ rl_rk (G L) j ∧ cle L ≤ j)) →
      wX_fetch_136 post (nI f) (nI n) (nI (40 * L + rl_rk (G L) (top f))) (nI (40 * L + rl_rk (G L) (top L))) f_leader f_inside f_now f_foundKey f_foundValue f_foundTomb f_foundWho f_foundSequence f_foundEra a_offset a_kind a_who a_key a_value a_tomb a_sequence a_era a_state a_decidedAt a_dead a_count a_end a_mark a_cleaned a_gone a_eraAt a_eraOf a_eras a_epoch a_latest a_last a_places a_baseEpoch a_baseLatest a_baseLast a_basePlaces a_base a_fetched m (nI (40 * L + rl_rk (G L) o)) := by
  have hl : f_leader = nI L := hX.1.1.trans (rl_ld_t hL)
  have t1 := (hX.2.1 L hL).1
  have hkL := t1.2.2.1
  have htL := t1.2.1
  have vL : vp_in (nI L) 3 := vp_in_nI hL (by omega)
  have cL : (nI L).toNatClampNeg = L := nI_clamp (by omega)
  have ecl : a_cleaned (nI L).toNatClampNeg = nI (cle L) := by rw [cL]; exact (hX.2.2.2 L hL).2.1
  have hcl := (hi.1 L hL).2.2.2.2.1
  subst hl
  intro d
  induction d with
  | zero =>
    intro o m ho htf hm hj
    obtain ⟨q, rfl⟩ : ∃ q, m = q + 1 := ⟨m - 1, by omega⟩
    have e : o = top L := by omega
    have eu : rl_ut G top cle L f n = o := rl_fs_eq (by omega) hj (fun y => by omega)
    rw [eu] at k
    refine br_t ?_ k
    rw [e]; exact nI_le (Nat.le_refl _) (by omega)
  | succ d ih =>
    intro o m ho htf hm hj
    have hot : o < top L := by omega
    have nx : ¬ (top f ≤ o ∧ ¬ G L o ∧ n + rl_rk (G L) (top f) ≤ rl_rk (G L) o ∧ cle L ≤ o) → ∀ j, j < o + 1 → ¬ (top f ≤ j ∧ ¬ G L j ∧ n + rl_rk (G L) (top f) ≤ rl_rk (G L) j ∧ cle L ≤ j) := fun hno j hj2 => by
      rcases Nat.lt_or_ge j o with y | y
      · exact hj j y
      · have e : j = o := by omega
        rw [e]; exact hno
    rcases Classical.em (G L o) with hg | hg
    · have e := rl_rk_t hg
      rw [← e] at hm ⊢
      exact ih (o + 1) m (by omega) (by omega) hm (nx (fun y => y.2.1 hg))
    · obtain ⟨q, rfl⟩ : ∃ q, m = q + 1 := ⟨m - 1, by omega⟩
      have e := rl_rk_f hg
      have hlt := rl_rk_lt hot hg
      have hmo := rl_rk_mono (G := G L) htf
      obtain ⟨v0, vO, -⟩ := rl_xr t1 hL hot hg
      have go : ¬ (top f ≤ o ∧ ¬ G L o ∧ n + rl_rk (G L) (top f) ≤ rl_rk (G L) o ∧ cle L ≤ o) → wX_fetch_136 post (nI f) (nI n) (nI (40 * L + rl_rk (G L) (top f))) (nI (40 * L + rl_rk (G L) (top L))) (nI L) f_inside f_now f_foundKey f_foundValue f_foundTomb f_foundWho f_foundSequence f_foundEra a_offset a_kind a_who a_key a_value a_tomb a_sequence a_era a_state a_decidedAt a_dead a_count a_end a_mark a_cleaned a_gone a_eraAt a_eraOf a_eras a_epoch a_latest a_last a_places a_baseEpoch a_baseLatest a_baseLast a_basePlaces a_base a_fetched q (nI (40 * L + rl_rk (G L) o + 1)) := fun hno => by
        have := ih (o + 1) q (by omega) (by omega) (by omega) (nx hno)
        rw [e] at this; exact this
      have ed : nI (40 * L + rl_rk (G L) o) - nI (40 * L + rl_rk (G L) (top f)) = nI (rl_rk (G L) o - rl_rk (G L) (top f)) := by rw [pk_sub (by omega)]; exact congrArg nI (by omega)
      refine pk_le (40 * L + rl_rk (G L) (top L)) (40 * L + rl_rk (G L) o) (fun z => by omega) (fun z => pk_lt (rl_rk (G L) o - rl_rk (G L) (top f)) n (fun y => nm_r (nI_1 _) (go (fun w => by have := w.2.2.1; omega))) (fun y => ⟨v0, vL, pk_le (cle L) o (fun w => ?_) (fun w => nm_r (nI_1 _) (go (fun x => by have := x.2.2.2; omega))) ecl vO⟩) ed)
      have eu : rl_ut G top cle L f n = o := rl_fs_eq (by omega) hj (fun _ => ⟨htf, hg, by omega, w⟩)
      rw [eu] at k
      exact k
theorem rl_x_ft103 (hX : rl_XS f_leader f_inside f_now a_offset a_kind a_who a_key a_value a_tomb a_sequence a_era a_state a_decidedAt a_count a_end a_mark a_cleaned a_gone a_eraAt a_eraOf a_eras a_epoch a_latest a_last a_places a_baseEpoch a_baseLatest a_baseLast a_basePlaces a_base a_fetched I O G top mark cle fet bas mem wor L now) (hi : rl_IV I G top mark cle fet bas mem L now) (hf : f < 3) (hL : L < 3) (htl : top f ≤ top L) (hn8 : n ≤ 8) {post : Int32 → SX → Prop}
    (k : wX_fetch_177 post (nI f) (nI (40 * L + rl_rk (G L) (top f))) (nI (40 * L + rl_rk (G L) (top L))) (nI (40 * L + rl_rk (G L) (rl_ut G top cle L f n))) f_leader f_inside f_now f_foundKey f_foundValue f_foundTomb f_foundWho f_foundSequence f_foundEra a_offset a_kind a_who a_key a_value a_tomb a_sequence a_era a_state a_decidedAt a_dead a_count a_end a_mark a_cleaned a_gone a_eraAt a_eraOf a_eras a_epoch a_latest a_last a_places a_baseEpoch a_baseLatest a_baseLast a_basePlaces a_base a_fetched) :
    ∀ d o m, o + d = top f → rl_rk (G L) (top L) - rl_rk (G L) o < m → wX_fetch_103 post (nI f) (nI n) (nI (40 * L + rl_rk (G L) (top L))) f_leader f_inside f_now f_foundKey f_foundValue f_foundTomb f_foundWho f_foundSequence f_foundEra a_offset a_kind a_who a_key a_value a_tomb a_sequence a_era a_state a_decidedAt a_dead a_count a_end a_mark a_cleaned a_gone a_eraAt a_eraOf a_eras a_epoch a_latest a_last a_places a_baseEpoch a_baseLatest a_baseLast a_basePlaces a_base a_fetched m (nI (40 * L + rl_rk (G L) o)) := by
  have t1 := (hX.2.1 L hL).1
  have hkL := t1.2.2.1
  have htL := t1.2.1
  have vf : vp_in (nI f) 3 := vp_in_nI hf (by omega)
  have cf : (nI f).toNatClampNeg = f := nI_clamp (by omega)
  have ee : a_end (nI f).toNatClampNeg = nI (top f) := by rw [cf]; exact (hX.2.1 f hf).2.2.1
  have scan : ∃ m, wX_fetch_136 post (nI f) (nI n) (nI (40 * L + rl_rk (G L) (top f))) (nI (40 * L + rl_rk (G L) (top L))) f_leader f_inside f_now f_foundKey f_foundValue f_foundTomb f_foundWho f_foundSequence f_foundEra a_offset a_kind a_who a_key a_value a_tomb a_sequence a_era a_state a_decidedAt a_dead a_count a_end a_mark a_cleaned a_gone a_eraAt a_eraOf a_eras a_epoch a_latest a_last a_places a_baseEpoch a_baseLatest a_baseLast a_basePlaces a_base a_fetched m (nI (40 * L + rl_rk (G L) (top f))) :=
    ⟨rl_rk (G L) (top L) + 1, rl_x_ft136 hX hi hf hL htl hn8 k (top L - top f) (top f) _ (by omega) (Nat.le_refl _) (by omega) (fun j hj y => by have := y.1; omega)⟩
  have hml := rl_rk_mono (G := G L) htl
  intro d
  induction d with
  | zero =>
    intro o m ho hm
    obtain ⟨q, rfl⟩ : ∃ q, m = q + 1 := ⟨m - 1, by omega⟩
    have e : o = top f := by omega
    subst e
    refine pk_le (40 * L + rl_rk (G L) (top L)) (40 * L + rl_rk (G L) (top f)) (fun z => scan) (fun z => ?_)
    obtain ⟨j, j1, j2, j3⟩ := rl_rk_ex (G := G L) (i := rl_rk (G L) (top f)) (n := top L) (by omega)
    have hjf : top f ≤ j := by
      rcases Nat.lt_or_ge j (top f) with y | y
      · have := rl_rk_lt y j2; omega
      · exact y
    obtain ⟨v0, vO, -⟩ := rl_xr t1 hL j1 j2
    rw [j3] at v0 vO
    exact ⟨v0, vf, pk_le (top f) j (fun _ => scan) (fun y => by omega) ee vO⟩
  | succ d ih =>
    intro o m ho hm
    have hot : o < top L := by omega
    rcases Classical.em (G L o) with hg | hg
    · have e := rl_rk_t hg
      rw [← e] at hm ⊢
      exact ih (o + 1) m (by omega) hm
    · obtain ⟨q, rfl⟩ : ∃ q, m = q + 1 := ⟨m - 1, by omega⟩
      have e := rl_rk_f hg
      have hlt := rl_rk_lt hot hg
      obtain ⟨v0, vO, -⟩ := rl_xr t1 hL hot hg
      refine pk_le (40 * L + rl_rk (G L) (top L)) (40 * L + rl_rk (G L) o) (fun z => by omega) (fun z => ⟨v0, vf, pk_le (top f) o (fun y => by omega) (fun y => nm_r (nI_1 _) ?_) ee vO⟩)
      have := ih (o + 1) q (by omega) (by omega)
      rw [e] at this; exact this
theorem rl_x_ft80 {un : Nat} (hX : rl_XS f_leader f_inside f_now a_offset a_kind a_who a_key a_value a_tomb a_sequence a_era a_state a_decidedAt a_count a_end a_mark a_cleaned a_gone a_eraAt a_eraOf a_eras a_epoch a_latest a_last a_places a_baseEpoch a_baseLatest a_baseLast a_basePlaces a_base a_fetched I O G top mark cle fet bas mem wor L now) (hi : rl_IV I G top mark cle fet bas mem L now) (hf : f < 3) (hL : L < 3) (hne : f ≠ L) (htl : top f ≤ top L)
    (hag : ∀ o, o < top f → I f o = I L o) (hn8 : n ≤ 8) (hun : un = rl_ut G top cle L f n) {post : Int32 → SX → Prop}
    (kF : ¬ rl_rk (G f) (top f) + (rl_rk (G L) un - rl_rk (G L) (top f)) ≤ 40 → post (-10) (f_leader, f_inside, f_now, f_foundKey, f_foundValue, f_foundTomb, f_foundWho, f_foundSequence, f_foundEra, a_offset, a_kind, a_who, a_key, a_value, a_tomb, a_sequence, a_era, a_state, a_decidedAt, a_dead, a_count, a_end, a_mark, a_cleaned, a_gone, a_eraAt, a_eraOf, a_eras, a_epoch, a_latest, a_last, a_places, a_baseEpoch, a_baseLatest, a_baseLast, a_basePlaces, a_base, a_fetched))
    (k : rl_rk (G f) (top f) + (rl_rk (G L) un - rl_rk (G L) (top f)) ≤ 40 → ∀ (f_in : Int32) (c_offset c_kind c_who c_key c_value c_tomb c_sequence c_era c_state c_decidedAt c_count c_end c_mark c_cleaned c_eraAt c_eraOf c_eras c_epoch c_latest c_last c_places c_baseEpoch c_baseLatest c_baseLast c_basePlaces c_base c_fetched : Nat → Int32),
      rl_XS f_leader f_in f_now c_offset c_kind c_who c_key c_value c_tomb c_sequence c_era c_state c_decidedAt c_count c_end c_mark c_cleaned a_gone c_eraAt c_eraOf c_eras c_epoch c_latest c_last c_places c_baseEpoch c_baseLatest c_baseLast c_basePlaces c_base c_fetched
        (rl_u I f (I L)) (rl_u O f (rl_mx (top f) (O f) (O L))) (rl_u G f (rl_mx (top f) (G f) (G L))) (rl_u top f un) (rl_m5 top mark fet mem L f un) (rl_u cle f (max (cle f) (cle L))) (rl_u fet f un) (rl_u bas f (if top f < bas L then bas L else bas f)) (fun s => mem s ∨ (s = f ∧ un = top L)) wor L now →
      post (nI (rl_rk (G L) un - rl_rk (G L) (top f))) (f_leader, f_in, f_now, f_foundKey, f_foundValue, f_foundTomb, f_foundWho, f_foundSequence, f_foundEra, c_offset, c_kind, c_who, c_key, c_value, c_tomb, c_sequence, c_era, c_state, c_decidedAt, a_dead, c_count, c_end, c_mark, c_cleaned, a_gone, c_eraAt, c_eraOf, c_eras, c_epoch, c_latest, c_last, c_places, c_baseEpoch, c_baseLatest, c_baseLast, c_basePlaces, c_base, c_fetched)) :
    wX_fetch_80 post (nI f) (nI n) f_leader f_inside f_now f_foundKey f_foundValue f_foundTomb f_foundWho f_foundSequence f_foundEra a_offset a_kind a_who a_key a_value a_tomb a_sequence a_era a_state a_decidedAt a_dead a_count a_end a_mark a_cleaned a_gone a_eraAt a_eraOf a_eras a_epoch a_latest a_last a_places a_baseEpoch a_baseLatest a_baseLast a_basePlaces a_base a_fetched := by
  have hl : f_leader = nI L := hX.1.1.trans (rl_ld_t hL)
  have vf : vp_in (nI f) 3 := vp_in_nI hf (by omega)
  have cf : (nI f).toNatClampNeg = f := nI_clamp (by omega)
  have vL : vp_in (nI L) 3 := vp_in_nI hL (by omega)
  have cL : (nI L).toNatClampNeg = L := nI_clamp (by omega)
  obtain ⟨t1, t2, t3, -⟩ := hX.2.1 L hL
  have hkL := t1.2.2.1
  have htL := t1.2.1
  have hkf := (hX.2.1 f hf).1.2.2.1
  obtain ⟨u1, u2, u3, u4⟩ := rl_ut_sp (G := G) (top := top) (cle := cle) (L := L) (f := f) (n := n) htl (hi.1 L hL).2.2.2.2.1
  rw [← hun] at u1 u2 u3 u4
  have hm1 := rl_rk_mono (G := G L) u1
  have hm2 := rl_rk_mono (G := G L) u2
  have hl2 := hl
  subst hl
  have k177 : wX_fetch_177 post (nI f) (nI (40 * L + rl_rk (G L) (top f))) (nI (40 * L + rl_rk (G L) (top L))) (nI (40 * L + rl_rk (G L) un)) (nI L) f_inside f_now f_foundKey f_foundValue f_foundTomb f_foundWho f_foundSequence f_foundEra a_offset a_kind a_who a_key a_value a_tomb a_sequence a_era a_state a_decidedAt a_dead a_count a_end a_mark a_cleaned a_gone a_eraAt a_eraOf a_eras a_epoch a_latest a_last a_places a_baseEpoch a_baseLatest a_baseLast a_basePlaces a_base a_fetched := by
    have ec : a_count (nI f).toNatClampNeg + nI (40 * L + rl_rk (G L) un) - nI (40 * L + rl_rk (G L) (top f)) = nI (rl_rk (G f) (top f) + (rl_rk (G L) un - rl_rk (G L) (top f))) := by
      rw [cf, (hX.2.1 f hf).2.1, nI_add, pk_sub (by omega)]; exact congrArg nI (by omega)
    unfold wX_fetch_177
    refine ⟨vf, pk_le (rl_rk (G f) (top f) + (rl_rk (G L) un - rl_rk (G L) (top f))) 40 (fun z => ?_) (fun z => kF (by omega)) ec⟩
    have hrk : rl_rk (rl_mx (top f) (G f) (G L)) un ≤ 40 := by
      have := rl_mx_rk (tf := top f) (P := G f) (Q := G L) (un - top f)
      rw [show top f + (un - top f) = un by omega] at this
      omega
    have go := rl_x_ft229 hX hi hf hL hne hag u1 u2 u3 hrk (k z)
    refine pk_le (40 * L + rl_rk (G L) (top L)) (40 * L + rl_rk (G L) un) (fun y => ⟨vL, ?_⟩) (fun y => ?_)
    · have e : un = top L := by
        rcases Nat.lt_or_ge un (top L) with w | w
        · have := rl_rk_lt w (u4 w); omega
        · omega
      rw [cL, t3]
      rw [e] at go ⊢
      exact go
    · have w : un < top L := by
        rcases Nat.lt_or_ge un (top L) with w | w
        · exact w
        · have e : un = top L := by omega
          rw [e] at y; omega
      obtain ⟨v0, vO, -⟩ := rl_xr t1 hL w (u4 w)
      rw [vO]
      exact ⟨v0, go⟩
  rw [hun] at k177
  unfold wX_fetch_80
  refine nm_r (rl_40 L) ⟨vL, nm_r (e' := nI (40 * L + rl_rk (G L) (top L))) (by rw [cL, t2, nI_add]) ⟨rl_rk (G L) (top L) + 1, ?_⟩⟩
  exact rl_x_ft103 hX hi hf hL htl hn8 k177 (top f) 0 _ (by omega) (by omega)
end
end
section
section
variable {g_leader g_now : Int32} {b_by b_kind b_seq b_key b_val b_era b_tomb b_gone b_top b_mark b_cleaned b_fetched b_works b_member b_shown : Nat → Int32} {I : Nat → Nat → rl_ID} {O G : Nat → Nat → Prop} {top mark cle fet bas : Nat → Nat} {mem wor : Nat → Prop} {L f now n un : Nat}
theorem rl_ys_adv2 (h : rl_YS g_leader g_now b_by b_kind b_seq b_key b_val b_era b_tomb b_gone b_top b_mark b_cleaned b_fetched b_works b_member I O G top mark cle fet bas mem wor L now) (hb : ∀ r, r < 3 → top r ≤ 600 ∧ mark r ≤ top r ∧ fet r ≤ 600) (hL : L < 3) {post : SY → Prop}
    (k : ∀ c_mark : Nat → Int32, rl_YS g_leader g_now b_by b_kind b_seq b_key b_val b_era b_tomb b_gone b_top c_mark b_cleaned b_fetched b_works b_member I O G top (rl_mq top mark fet mem L) cle fet bas mem wor L now → post (g_leader, g_now, b_by, b_kind, b_seq, b_key, b_val, b_era, b_tomb, b_gone, b_top, c_mark, b_cleaned, b_fetched, b_works, b_member, b_shown)) : wpY_advance post (g_leader, g_now, b_by, b_kind, b_seq, b_key, b_val, b_era, b_tomb, b_gone, b_top, b_mark, b_cleaned, b_fetched, b_works, b_member, b_shown) := by
  obtain ⟨⟨h1, h2⟩, h4, h6⟩ := h
  unfold wpY_advance
  have e : rl_mq top mark fet mem L = rl_mk top mark fet mem L := if_pos hL
  rw [e] at k
  have hl : g_leader = nI L := h1.trans (rl_ld_t hL)
  subst hl
  have v : vp_in (nI L) 3 := vp_in_nI hL (by omega)
  have cL : (nI L).toNatClampNeg = L := nI_clamp (by omega)
  have hf : ∀ r, r < 3 → b_fetched r = nI (fet r) ∧ fet r ≤ 600 := fun r hr => ⟨(h6 r hr).2.2.1, (hb r hr).2.2⟩
  have hmm : ∀ r, r < 3 → b_member r = rl_b (mem r) := fun r hr => (h6 r hr).2.2.2.2
  obtain ⟨s1, s2⟩ := rl_am_sp top fet mem L
  have b1 := (hb L hL).1
  have b2 := (hb L hL).2.1
  have a0 := (rl_a1_le fet mem L (top L) 0).1
  have a1 := (rl_a1_le fet mem L (rl_a1 fet mem L (top L) 0) 1).1
  refine br_t (nI_pos' (by omega)) ⟨v, nm_r (e' := nI (top L)) (by rw [cL]; exact (h4.2 L hL).2.1) ⟨4, ?_⟩⟩
  refine rl_y_ad20s hL rfl hmm hf (j := 0) (by omega) b1 (rl_y_ad20s hL rfl hmm hf (j := 1) (by omega) (by omega) (rl_y_ad20s hL rfl hmm hf (j := 2) (by omega) (by omega) ?_))
  show wY_advance_20 post _ _ _ _ _ _ _ _ _ _ _ _ _ _ _ _ _ 1 (nI (rl_am top fet mem L)) (nI 3)
  refine pk_le 3 3 (fun _ => ⟨v, ?_⟩) (fun z => by omega)
  simp only [cL]
  refine pk_le (rl_am top fet mem L) (mark L) (fun z => k b_mark ⟨⟨h1, h2⟩, h4, fun r hr => ⟨?_, (h6 r hr).2⟩⟩) (fun z => ⟨v, nm_e (k _ ⟨⟨h1, h2⟩, h4, fun r hr => ⟨?_, (h6 r hr).2⟩⟩)⟩) rfl (h6 L hL).1
  · unfold rl_mk
    by_cases e : r = L
    · rw [e, rl_us, (h6 L hL).1]; exact congrArg nI (by omega)
    · rw [rl_un e]; exact (h6 r hr).1
  · unfold rl_mk
    by_cases e : r = L
    · rw [e, rl_us, pk_us]; exact congrArg nI (by omega)
    · rw [rl_un e, pk_un e]; exact (h6 r hr).1
/-- the end of the reference's fetch -/
theorem rl_y_ft347 {x5 : Int32} (hY : rl_YS g_leader g_now b_by b_kind b_seq b_key b_val b_era b_tomb b_gone b_top b_mark b_cleaned b_fetched b_works b_member I O G top mark cle fet bas mem wor L now) (hb : ∀ r, r < 3 → top r ≤ 600 ∧ mark r ≤ top r ∧ fet r ≤ 600 ∧ cle r ≤ 600) (hmb : ∀ r, r < 3 → rl_mq top mark fet mem L r ≤ 600) (hf : f < 3) (hL : L < 3) {post : Int32 → SY → Prop}
    (k : ∀ c_mark c_cleaned : Nat → Int32, rl_YS g_leader g_now b_by b_kind b_seq b_key b_val b_era b_tomb b_gone b_top c_mark c_cleaned b_fetched b_works b_member
        I O G top (rl_u (rl_mq top mark fet mem L) f (max (rl_mq top mark fet mem L f) (min (top f) (rl_mq top mark fet mem L L)))) (rl_u cle f (max (cle f) (cle L))) fet bas mem wor L now → post x5 (g_leader, g_now, b_by, b_kind, b_seq, b_key, b_val, b_era, b_tomb, b_gone, b_top, c_mark, c_cleaned, b_fetched, b_works, b_member, b_shown)) :
    wY_fetch_347 post (nI f) x5 (nI (top f)) g_leader g_now b_by b_kind b_seq b_key b_val b_era b_tomb b_gone b_top b_mark b_cleaned b_fetched b_works b_member b_shown := by
  have hl : g_leader = nI L := hY.1.1.trans (rl_ld_t hL)
  have vf : vp_in (nI f) 3 := vp_in_nI hf (by omega)
  have cf : (nI f).toNatClampNeg = f := nI_clamp (by omega)
  have vL : vp_in (nI L) 3 := vp_in_nI hL (by omega)
  have cL : (nI L).toNatClampNeg = L := nI_clamp (by omega)
  have q1 := hmb L hL
  have q2 := hmb f hf
  have q3 := hb L hL
  have q4 := hb f hf
  subst hl
  unfold wY_fetch_347
  refine rl_ys_adv2 hY (fun r hr => ⟨(hb r hr).1, (hb r hr).2.1, (hb r hr).2.2.1⟩) hL ?_
  intro cm hY2
  obtain ⟨⟨h1, h2⟩, h4, h6⟩ := hY2
  have e1 : cm (nI L).toNatClampNeg = nI (rl_mq top mark fet mem L L) := by rw [cL]; exact (h6 L hL).1
  have e2 : cm (nI f).toNatClampNeg = nI (rl_mq top mark fet mem L f) := by rw [cf]; exact (h6 f hf).1
  have c1 : b_cleaned (nI L).toNatClampNeg = nI (cle L) := by rw [cL]; exact (h6 L hL).2.1
  have c2 : b_cleaned (nI f).toNatClampNeg = nI (cle f) := by rw [cf]; exact (h6 f hf).2.1
  have f400 : ∀ c_mark : Nat → Int32, (∀ r, r < 3 → c_mark r = nI (rl_u (rl_mq top mark fet mem L) f (max (rl_mq top mark fet mem L f) (min (top f) (rl_mq top mark fet mem L L))) r)) → wY_fetch_400 post (nI f) x5 (nI L) g_now b_by b_kind b_seq b_key b_val b_era b_tomb b_gone b_top c_mark b_cleaned b_fetched b_works b_member b_shown := by
    intro dm hdm
    unfold wY_fetch_400
    refine ⟨vL, vf, pk_le (cle L) (cle f) (fun z => k dm b_cleaned ⟨⟨h1, h2⟩, h4, fun s hs => ⟨hdm s hs, ?_, (h6 s hs).2.2⟩⟩) (fun z => ⟨vL, vf, ?_⟩) c1 c2⟩
    · by_cases e : s = f
      · subst e; rw [rl_us, (h6 s hs).2.1]; exact congrArg nI (by omega)
      · rw [rl_un e]; exact (h6 s hs).2.1
    · rw [c1, cf]
      refine nm_e (k dm _ ⟨⟨h1, h2⟩, h4, fun s hs => ⟨hdm s hs, ?_, (h6 s hs).2.2⟩⟩)
      by_cases e : s = f
      · subst e; rw [rl_us, pk_us]; exact congrArg nI (by omega)
      · rw [rl_un e, pk_un e]; exact (h6 s hs).2.1
  have f379 : ∀ m, m = min (top f) (rl_mq top mark fet mem L L) → wY_fetch_379 post (nI f) x5 (nI m) (nI L) g_now b_by b_kind b_seq b_key b_val b_era b_tomb b_gone b_top cm b_cleaned b_fetched b_works b_member b_shown := by
    intro m em
    unfold wY_fetch_379
    refine ⟨vf, pk_le m (rl_mq top mark fet mem L f) (fun z => f400 cm (fun s hs => ?_)) (fun z => ⟨vf, ?_⟩) rfl e2⟩
    · by_cases e : s = f
      · subst e; rw [rl_us, (h6 s hs).1]; exact congrArg nI (by omega)
      · rw [rl_un e]; exact (h6 s hs).1
    · rw [cf]
      refine nm_e (f400 _ (fun s hs => ?_))
      by_cases e : s = f
      · subst e; rw [rl_us, pk_us]; exact congrArg nI (by omega)
      · rw [rl_un e, pk_un e]; exact (h6 s hs).1
  refine ⟨vL, pk_le (rl_mq top mark fet mem L L) (top f) (fun z => ⟨vL, ?_⟩) (fun z => f379 _ (by omega)) e1⟩
  show wY_fetch_379 post (nI f) x5 (cm (nI L).toNatClampNeg) _ _ _ _ _ _ _ _ _ _ _ _ _ _ _ _ _
  rw [e1]; exact f379 _ (by omega)
/-! the cells that come -/
def rl_YP (b_by b_kind b_seq b_key b_val b_era b_tomb b_gone : Nat → Int32) (I : Nat → Nat → rl_ID) (O G : Nat → Nat → Prop) (top : Nat → Nat) (f j : Nat) : Prop :=
  ∀ s, s < 3 → ∀ o, o < (if s = f then j else top s) → rl_YR b_by b_kind b_seq b_key b_val b_era b_tomb b_gone I O G s o
theorem rl_y_take {j : Nat} {x : rl_ID} {op gn : Prop} (hf : f < 3) (hL : L < 3) (hj : j < 620) (hT : rl_T x ≤ 1)
    (r1 : b_by (620 * L + j) = nI (rl_B x)) (r2 : b_kind (620 * L + j) = nI (rl_kd (rl_C x) op)) (r3 : b_seq (620 * L + j) = rl_S x) (r4 : b_key (620 * L + j) = nI (rl_K x)) (r5 : b_val (620 * L + j) = rl_V x) (r6 : b_era (620 * L + j) = nI (rl_E x)) (r7 : b_tomb (620 * L + j) = nI (rl_T x)) (r8 : b_gone (620 * L + j) = rl_b gn) {post : SY → Prop}
    (k : post (g_leader, g_now, upd b_by (620 * f + j) (nI (rl_B x)), upd b_kind (620 * f + j) (nI (rl_kd (rl_C x) op)), upd b_seq (620 * f + j) (rl_S x), upd b_key (620 * f + j) (nI (rl_K x)), upd b_val (620 * f + j) (rl_V x), upd b_era (620 * f + j) (nI (rl_E x)), upd b_tomb (620 * f + j) (nI (rl_T x)), upd b_gone (620 * f + j) (rl_b gn), b_top, b_mark, b_cleaned, b_fetched, b_works, b_member, b_shown)) :
    wpY_take post (g_leader, g_now, b_by, b_kind, b_seq, b_key, b_val, b_era, b_tomb, b_gone, b_top, b_mark, b_cleaned, b_fetched, b_works, b_member, b_shown) (nI (620 * L + j)) (nI (620 * f + j)) := by
  have v1 : vp_in (nI (620 * L + j)) 1860 := vp_in_nI (by omega) (by omega)
  have c1 : (nI (620 * L + j)).toNatClampNeg = 620 * L + j := nI_clamp (by omega)
  have v2 : vp_in (nI (620 * f + j)) 1860 := vp_in_nI (by omega) (by omega)
  have c2 : (nI (620 * f + j)).toNatClampNeg = 620 * f + j := nI_clamp (by omega)
  have nT : vp_nar .boolean (nI (rl_T x)) = nI (rl_T x) := by
    have : rl_T x = 0 ∨ rl_T x = 1 := by omega
    rcases this with e | e <;> rw [e] <;> rfl
  unfold wpY_take
  dsimp only
  rw [c1, c2, r1, r2, r3, r4, r5, r6, r7, r8, nT, rl_bnar]
  exact ⟨v1, v2, nm_e ⟨v1, v2, nm_e ⟨v1, v2, nm_e ⟨v1, v2, nm_e ⟨v1, v2, nm_e ⟨v1, v2, nm_e ⟨v1, v2, nm_e ⟨v1, v2, nm_e k⟩⟩⟩⟩⟩⟩⟩⟩
theorem rl_y_ft274 {x5 : Int32} {I3 : Nat → Nat → rl_ID} {O3 G3 : Nat → Nat → Prop} (hf : f < 3) (hL : L < 3) (hne : f ≠ L) (hl : g_leader = nI L) (hun : un ≤ top L) (htL : ∀ s, s < 3 → top s ≤ 600) (hT : ∀ o, o < top L → rl_T (I L o) ≤ 1)
    (eI : ∀ o, I3 f o = I L o) (eO : ∀ o, top f ≤ o → (O3 f o ↔ O L o)) (eG : ∀ o, top f ≤ o → (G3 f o ↔ G L o)) (eIL : I3 L = I L) (eOL : O3 L = O L) (eGL : G3 L = G L) {post : Int32 → SY → Prop}
    (k : ∀ c_by c_kind c_seq c_key c_val c_era c_tomb c_gone : Nat → Int32, rl_YP c_by c_kind c_seq c_key c_val c_era c_tomb c_gone I3 O3 G3 top f un →
      vp_in (nI f) 3 ∧ ∀ a_top_44, a_top_44 = upd b_top (nI f).toNatClampNeg (nI un) → (vp_in (nI f) 3 ∧ ∀ a_fetched_46, a_fetched_46 = upd b_fetched (nI f).toNatClampNeg (nI un) → (vp_in g_leader 3 ∧ ((nI un = (a_top_44 g_leader.toNatClampNeg) → (vp_in (nI f) 3 ∧ ∀ a_member_81, a_member_81 = upd b_member (nI f).toNatClampNeg (vp_nar .boolean 1) → (wY_fetch_347 post (nI f) x5 (nI un) g_leader g_now c_by c_kind c_seq c_key c_val c_era c_tomb c_gone a_top_44 b_mark b_cleaned a_fetched_46 b_works a_member_81 b_shown))) ∧ (¬ nI un = (a_top_44 g_leader.toNatClampNeg) → (wY_fetch_347 post (nI f) x5 (nI un) g_leader g_now c_by c_kind c_seq c_key c_val c_era c_tomb c_gone a_top_44 b_mark b_cleaned a_fetched_46 b_works b_member b_shown)))))) :
    ∀ d j m (c_by c_kind c_seq c_key c_val c_era c_tomb c_gone : Nat → Int32), j + d = un → top f ≤ j → d < m → rl_YP c_by c_kind c_seq c_key c_val c_era c_tomb c_gone I3 O3 G3 top f j →
      wY_fetch_274 post (nI f) x5 (nI un) m (nI j) g_leader g_now c_by c_kind c_seq c_key c_val c_era c_tomb c_gone b_top b_mark b_cleaned b_fetched b_works b_member b_shown := by
  have h6 := htL L hL
  subst hl
  intro d
  induction d with
  | zero =>
    intro j m c1 c2 c3 c4 c5 c6 c7 c8 hj htf hm hP
    obtain ⟨q, rfl⟩ : ∃ q, m = q + 1 := ⟨m - 1, by omega⟩
    have e : j = un := by omega
    subst e
    exact br_t (nI_le (Nat.le_refl _) (by omega)) (k c1 c2 c3 c4 c5 c6 c7 c8 hP)
  | succ d ih =>
    intro j m c1 c2 c3 c4 c5 c6 c7 c8 hj htf hm hP
    obtain ⟨q, rfl⟩ : ∃ q, m = q + 1 := ⟨m - 1, by omega⟩
    have hrow := hP L hL j (by rw [if_neg (fun y => hne y.symm)]; omega)
    unfold rl_YR at hrow
    rw [eIL, eOL, eGL] at hrow
    obtain ⟨r1, r2, r3, r4, r5, r6, r7, r8⟩ := hrow
    have e1 : (620 : Int32) * nI L + nI j = nI (620 * L + j) := by rw [rl_620, nI_add]
    have e2 : (620 : Int32) * nI f + nI j = nI (620 * f + j) := by rw [rl_620, nI_add]
    refine br_f (nI_ge (by omega) (by omega)) ?_
    rw [e1, e2]
    refine rl_y_take (x := I L j) (op := O L j) (gn := G L j) hf hL (by omega) (hT j (by omega)) r1 r2 r3 r4 r5 r6 r7 r8 (nm_r (nI_1 _) (ih (j + 1) q _ _ _ _ _ _ _ _ (by omega) (by omega) (by omega) (fun s hs o ho => ?_)))
    have hs6 := htL s hs
    by_cases e : s = f
    · subst e
      rw [if_pos rfl] at ho
      rcases Nat.lt_or_ge o j with y | y
      · have hn : 620 * s + o ≠ 620 * s + j := by omega
        unfold rl_YR
        rw [pk_un hn, pk_un hn, pk_un hn, pk_un hn, pk_un hn, pk_un hn, pk_un hn, pk_un hn]
        exact hP s hs o (by rw [if_pos rfl]; exact y)
      · have eo : o = j := by omega
        subst eo
        unfold rl_YR
        rw [pk_us, pk_us, pk_us, pk_us, pk_us, pk_us, pk_us, pk_us, eI o, propext (eO o htf), propext (eG o htf)]
        exact ⟨rfl, rfl, rfl, rfl, rfl, rfl, rfl, rfl⟩
    · rw [if_neg e] at ho
      have hn : 620 * s + o ≠ 620 * f + j := by omega
      unfold rl_YR
      rw [pk_un hn, pk_un hn, pk_un hn, pk_un hn, pk_un hn, pk_un hn, pk_un hn, pk_un hn]
      exact hP s hs o (by rw [if_neg e]; exact ho)
theorem rl_y_ft250 (hY : rl_YS g_leader g_now b_by b_kind b_seq b_key b_val b_era b_tomb b_gone b_top b_mark b_cleaned b_fetched b_works b_member I O G top mark cle fet bas mem wor L now) (hi : rl_IV I G top mark cle fet bas mem L now) (hf : f < 3) (hL : L < 3) (hne : f ≠ L)
    (hag : ∀ o, o < top f → I f o = I L o) (h1 : top f ≤ un) (h2 : un ≤ top L) (hcu : cle L ≤ un) (hkL : rl_rk (G L) (top L) ≤ 40) {post : Int32 → SY → Prop}
    (kF : ¬ rl_rk (G f) (top f) + (rl_rk (G L) un - rl_rk (G L) (top f)) ≤ 40 → post (-10) (g_leader, g_now, b_by, b_kind, b_seq, b_key, b_val, b_era, b_tomb, b_gone, b_top, b_mark, b_cleaned, b_fetched, b_works, b_member, b_shown))
    (k : rl_rk (G f) (top f) + (rl_rk (G L) un - rl_rk (G L) (top f)) ≤ 40 → ∀ c_by c_kind c_seq c_key c_val c_era c_tomb c_gone c_top c_mark c_cleaned c_fetched c_member : Nat → Int32,
      rl_YS g_leader g_now c_by c_kind c_seq c_key c_val c_era c_tomb c_gone c_top c_mark c_cleaned c_fetched b_works c_member
        (rl_u I f (I L)) (rl_u O f (rl_mx (top f) (O f) (O L))) (rl_u G f (rl_mx (top f) (G f) (G L))) (rl_u top f un) (rl_m5 top mark fet mem L f un) (rl_u cle f (max (cle f) (cle L))) (rl_u fet f un) (rl_u bas f (if top f < bas L then bas L else bas f)) (fun s => mem s ∨ (s = f ∧ un = top L)) wor L now →
      post (nI (rl_rk (G L) un - rl_rk (G L) (top f))) (g_leader, g_now, c_by, c_kind, c_seq, c_key, c_val, c_era, c_tomb, c_gone, c_top, c_mark, c_cleaned, c_fetched, b_works, c_member, b_shown)) :
    wY_fetch_250 post (nI f) (nI (rl_rk (G L) un - rl_rk (G L) (top f))) (nI un) g_leader g_now b_by b_kind b_seq b_key b_val b_era b_tomb b_gone b_top b_mark b_cleaned b_fetched b_works b_member b_shown := by
  have hl : g_leader = nI L := hY.1.1.trans (rl_ld_t hL)
  have vf : vp_in (nI f) 3 := vp_in_nI hf (by omega)
  have cf : (nI f).toNatClampNeg = f := nI_clamp (by omega)
  have vL : vp_in (nI L) 3 := vp_in_nI hL (by omega)
  have cL : (nI L).toNatClampNeg = L := nI_clamp (by omega)
  have hLf : L ≠ f := fun y => hne y.symm
  have hi3 := rl_iv_take hi hf hL hne hag h1 h2 hcu
  have hi4 := rl_iv_adv hi3
  obtain ⟨⟨y1, y2⟩, y3, y4⟩ := hY
  have bL := hi.1 L hL
  have bf := hi.1 f hf
  have hrf := rl_rk_le (G f) (top f)
  have hm2 := rl_rk_mono (G := G L) h2
  unfold wY_fetch_250
  refine rl_y_held y3 hf (pk_le (rl_rk (G f) (top f) + (rl_rk (G L) un - rl_rk (G L) (top f))) 40 (fun z => ⟨vf, nm_r (e' := nI (top f)) (by rw [cf]; exact (y3.2 f hf).2.1) ⟨un - top f + 1, ?_⟩⟩) (fun z => kF (by omega)) (nI_add _ _))
  refine rl_y_ft274 (I := I) (O := O) (G := G) (top := top) (I3 := rl_u I f (I L)) (O3 := rl_u O f (rl_mx (top f) (O f) (O L))) (G3 := rl_u G f (rl_mx (top f) (G f) (G L))) hf hL hne hl h2 (fun s hs => (hi.1 s hs).1) (fun o ho => (hi.2.1 L hL o ho).2.2.2.1)
    (fun o => by rw [rl_us]) (fun o ho => by rw [rl_us]; exact rl_mx_hi (by omega)) (fun o ho => by rw [rl_us]; exact rl_mx_hi (by omega)) (rl_un hLf) (rl_un hLf) (rl_un hLf) ?_ (un - top f) (top f) (un - top f + 1) b_by b_kind b_seq b_key b_val b_era b_tomb b_gone (by omega) (Nat.le_refl _) (by omega) (fun s hs o ho => ?_)
  · intro c1 c2 c3 c4 c5 c6 c7 c8 hP
    subst hl
    rw [cf, cL]
    -- the rows, with the new top
    have hYL : rl_YL c1 c2 c3 c4 c5 c6 c7 c8 (upd b_top f (nI un)) (rl_u I f (I L)) (rl_u O f (rl_mx (top f) (O f) (O L))) (rl_u G f (rl_mx (top f) (G f) (G L))) (rl_u top f un) now := by
      refine ⟨y3.1, fun s hs => ⟨(hi3.1 s hs).1, ?_, fun o ho => ⟨hP s hs o ?_, hi3.2.1 s hs o ho⟩⟩⟩
      · by_cases e : s = f
        · subst e; rw [rl_us, pk_us]
        · rw [rl_un e, pk_un e]; exact (y3.2 s hs).2.1
      · by_cases e : s = f
        · subst e; rw [rl_us] at ho; rw [if_pos rfl]; exact ho
        · rw [rl_un e] at ho; rw [if_neg e]; exact ho
    have fin : ∀ c_member : Nat → Int32, (∀ s, s < 3 → c_member s = rl_b (mem s ∨ (s = f ∧ un = top L))) → wY_fetch_347 post (nI f) (nI (rl_rk (G L) un - rl_rk (G L) (top f))) (nI un) (nI L) g_now c1 c2 c3 c4 c5 c6 c7 c8 (upd b_top f (nI un)) b_mark b_cleaned (upd b_fetched f (nI un)) b_works c_member b_shown := by
      intro cme hcme
      have hYS : rl_YS (nI L) g_now c1 c2 c3 c4 c5 c6 c7 c8 (upd b_top f (nI un)) b_mark b_cleaned (upd b_fetched f (nI un)) b_works cme (rl_u I f (I L)) (rl_u O f (rl_mx (top f) (O f) (O L))) (rl_u G f (rl_mx (top f) (G f) (G L))) (rl_u top f un) mark cle (rl_u fet f un) (rl_u bas f (if top f < bas L then bas L else bas f)) (fun s => mem s ∨ (s = f ∧ un = top L)) wor L now := by
        refine ⟨⟨y1, y2⟩, hYL, fun s hs => ⟨(y4 s hs).1, (y4 s hs).2.1, ?_, (y4 s hs).2.2.2.1, hcme s hs⟩⟩
        by_cases e : s = f
        · subst e; rw [rl_us, pk_us]
        · rw [rl_un e, pk_un e]; exact (y4 s hs).2.2.1
      have eT : rl_u top f un f = un := rl_us
      have := rl_y_ft347 (b_shown := b_shown) (x5 := nI (rl_rk (G L) un - rl_rk (G L) (top f))) hYS (fun s hs => ⟨(hi3.1 s hs).1, (hi3.1 s hs).2.2.1, (hi3.1 s hs).2.2.2.2.2.1, by have := hi.1 s hs; omega⟩) (fun s hs => by have := hi4.1 s hs; omega) hf hL (post := post) ?_
      · rw [eT] at this; exact this
      · intro dm dc hY5
        exact k z c1 c2 c3 c4 c5 c6 c7 c8 _ dm dc _ cme hY5
    refine ⟨vf, nm_e ⟨vf, nm_e ⟨vL, ?_⟩⟩⟩
    rw [pk_un hLf, (y3.2 L hL).2.1]
    refine pk_eq un (top L) (fun y => ⟨vf, nm_r (e' := upd b_member f 1) rfl (fin _ (fun s hs => ?_))⟩) (fun y => fin b_member (fun s hs => ?_))
    · by_cases e : s = f
      · subst e; rw [pk_us, rl_bt (Or.inr ⟨rfl, y⟩)]
      · rw [pk_un e, (y4 s hs).2.2.2.2]
        exact rl_bcg ⟨Or.inl, fun w => w.elim id (fun q => absurd q.1 e)⟩
    · rw [(y4 s hs).2.2.2.2]
      exact rl_bcg ⟨Or.inl, fun w => w.elim id (fun q => absurd q.2 y)⟩
  · by_cases e : s = f
    · subst e
      rw [if_pos rfl] at ho
      have := ((y3.2 s hs).2.2 o ho).1
      unfold rl_YR at this ⊢
      rw [rl_us, rl_us, rl_us, ← hag o ho, propext (rl_mx_lo (P := O s) (Q := O L) ho), propext (rl_mx_lo (P := G s) (Q := G L) ho)]
      exact this
    · rw [if_neg e] at ho
      have := ((y3.2 s hs).2.2 o ho).1
      unfold rl_YR at this ⊢
      rw [rl_un e, rl_un e, rl_un e]
      exact this
/-! which records come -/
theorem rl_y_ft168 (hY : rl_YS g_leader g_now b_by b_kind b_seq b_key b_val b_era b_tomb b_gone b_top b_mark b_cleaned b_fetched b_works b_member I O G top mark cle fet bas mem wor L now) (hi : rl_IV I G top mark cle fet bas mem L now) (hf : f < 3) (hL : L < 3) (htl : top f ≤ top L) (hn8 : n ≤ 8) {post : Int32 → SY → Prop}
    (k : wY_fetch_250 post (nI f) (nI (rl_rk (G L) (rl_ut G top cle L f n) - rl_rk (G L) (top f))) (nI (rl_ut G top cle L f n)) g_leader g_now b_by b_kind b_seq b_key b_val b_era b_tomb b_gone b_top b_mark b_cleaned b_fetched b_works b_member b_shown) :
    ∀ d o m, o + d = top L → top f ≤ o → d < m → (∀ j, j < o → ¬ (top f ≤ j ∧ ¬ G L j ∧ n + rl_rk (G L) (top f) ≤ rl_rk (G L) j ∧ cle L ≤ j)) →
      wY_fetch_168 post (nI f) (nI n) g_leader g_now b_by b_kind b_seq b_key b_val b_era b_tomb b_gone b_top b_mark b_cleaned b_fetched b_works b_member b_shown m (nI (rl_rk (G L) o - rl_rk (G L) (top f))) (nI o) := by
  have hl : g_leader = nI L := hY.1.1.trans (rl_ld_t hL)
  obtain ⟨⟨y1, y2⟩, y3, y4⟩ := hY
  have vL : vp_in (nI L) 3 := vp_in_nI hL (by omega)
  have cL : (nI L).toNatClampNeg = L := nI_clamp (by omega)
  have eT : b_top (nI L).toNatClampNeg = nI (top L) := by rw [cL]; exact (y3.2 L hL).2.1
  have ecl : b_cleaned (nI L).toNatClampNeg = nI (cle L) := by rw [cL]; exact (y4 L hL).2.1
  have bL := hi.1 L hL
  subst hl
  intro d
  induction d with
  | zero =>
    intro o m ho htf hm hj
    obtain ⟨q, rfl⟩ : ∃ q, m = q + 1 := ⟨m - 1, by omega⟩
    have eu : rl_ut G top cle L f n = o := rl_fs_eq (by omega) hj (fun y => by omega)
    rw [eu] at k
    exact ⟨vL, br_t (by rw [eT, show o = top L by omega]; exact nI_le (Nat.le_refl _) (by omega)) k⟩
  | succ d ih =>
    intro o m ho htf hm hj
    obtain ⟨q, rfl⟩ : ∃ q, m = q + 1 := ⟨m - 1, by omega⟩
    have hot : o < top L := by omega
    have hmo := rl_rk_mono (G := G L) htf
    have hro := rl_rk_le (G L) o
    have nx : ¬ (top f ≤ o ∧ ¬ G L o ∧ n + rl_rk (G L) (top f) ≤ rl_rk (G L) o ∧ cle L ≤ o) → ∀ j, j < o + 1 → ¬ (top f ≤ j ∧ ¬ G L j ∧ n + rl_rk (G L) (top f) ≤ rl_rk (G L) j ∧ cle L ≤ j) := fun hno j hj2 => by
      rcases Nat.lt_or_ge j o with y | y
      · exact hj j y
      · have e : j = o := by omega
        rw [e]; exact hno
    obtain ⟨v0, -, -, -, -, -, -, -, vG⟩ := rl_yr y3 hL hot
    have e6 : (620 : Int32) * nI L + nI o = nI (620 * L + o) := by rw [rl_620, nI_add]
    refine ⟨vL, br_f (by rw [eT]; exact nI_ge hot (by omega)) ?_⟩
    rw [e6]
    refine ⟨v0, rl_br vG (fun hg => ?_) (fun hg => ?_)⟩
    · have e := rl_rk_f hg
      have go : ¬ (top f ≤ o ∧ ¬ G L o ∧ n + rl_rk (G L) (top f) ≤ rl_rk (G L) o ∧ cle L ≤ o) → wY_fetch_236 post (wY_fetch_168 post (nI f) (nI n) (nI L) g_now b_by b_kind b_seq b_key b_val b_era b_tomb b_gone b_top b_mark b_cleaned b_fetched b_works b_member b_shown q) (nI f) (nI n) (nI (rl_rk (G L) o - rl_rk (G L) (top f))) (nI o) 1 (nI L) g_now b_by b_kind b_seq b_key b_val b_era b_tomb b_gone b_top b_mark b_cleaned b_fetched b_works b_member b_shown := fun hno => by
        unfold wY_fetch_236
        have := ih (o + 1) q (by omega) (by omega) (by omega) (nx hno)
        rw [e, show rl_rk (G L) o + 1 - rl_rk (G L) (top f) = rl_rk (G L) o - rl_rk (G L) (top f) + 1 by omega] at this
        exact br_f (by decide) (nm_r (nI_1 _) (nm_r (nI_1 _) this))
      unfold wY_fetch_206
      refine br_f (by decide) (pk_lt (rl_rk (G L) o - rl_rk (G L) (top f)) n (fun y => go (fun w => by have := w.2.2.1; omega)) (fun y => ⟨vL, pk_lt o (cle L) (fun w => go (fun x => by have := x.2.2.2; omega)) (fun w => ?_) rfl ecl⟩))
      have eu : rl_ut G top cle L f n = o := rl_fs_eq (by omega) hj (fun _ => ⟨htf, hg, by omega, w⟩)
      rw [eu] at k
      exact k
    · have e := rl_rk_t hg
      have := ih (o + 1) q (by omega) (by omega) (by omega) (nx (fun y => y.2.1 hg))
      rw [e] at this
      unfold wY_fetch_206
      refine br_t rfl ?_
      unfold wY_fetch_236
      exact br_t rfl (nm_r (nI_1 _) this)
/-! up to where the logs are the same -/
theorem rl_y_ft94 (hY : rl_YS g_leader g_now b_by b_kind b_seq b_key b_val b_era b_tomb b_gone b_top b_mark b_cleaned b_fetched b_works b_member I O G top mark cle fet bas mem wor L now) (hf : f < 3) (hL : L < 3) {x2 : Int32} {post : Int32 → SY → Prop}
    (k : wY_fetch_138 post (nI f) x2 (nI (rl_cp I top L f)) g_leader g_now b_by b_kind b_seq b_key b_val b_era b_tomb b_gone b_top b_mark b_cleaned b_fetched b_works b_member b_shown) :
    ∀ d o m, o + d = min (top f) (top L) → d < m → (∀ j, j < o → ¬ rl_E (I f j) ≠ rl_E (I L j)) → wY_fetch_94 post (nI f) x2 (nI (min (top f) (top L))) g_leader g_now b_by b_kind b_seq b_key b_val b_era b_tomb b_gone b_top b_mark b_cleaned b_fetched b_works b_member b_shown m (nI o) := by
  have hl : g_leader = nI L := hY.1.1.trans (rl_ld_t hL)
  obtain ⟨⟨y1, y2⟩, y3, y4⟩ := hY
  have b1 := (y3.2 L hL).1
  have b2 := (y3.2 f hf).1
  subst hl
  intro d
  induction d with
  | zero =>
    intro o m ho hm hj
    obtain ⟨q, rfl⟩ : ∃ q, m = q + 1 := ⟨m - 1, by omega⟩
    have eu : rl_cp I top L f = o := rl_fs_eq (by omega) hj (fun y => by omega)
    rw [eu] at k
    exact br_t (by rw [show o = min (top f) (top L) by omega]; exact nI_le (Nat.le_refl _) (by omega)) k
  | succ d ih =>
    intro o m ho hm hj
    obtain ⟨q, rfl⟩ : ∃ q, m = q + 1 := ⟨m - 1, by omega⟩
    have e1 : (620 : Int32) * nI f + nI o = nI (620 * f + o) := by rw [rl_620, nI_add]
    have e2 : (620 : Int32) * nI L + nI o = nI (620 * L + o) := by rw [rl_620, nI_add]
    obtain ⟨v0, -, -, -, -, -, vE, -⟩ := rl_yr y3 hf (show o < top f by omega)
    obtain ⟨u0, -, -, -, -, -, uE, -⟩ := rl_yr y3 hL (show o < top L by omega)
    have w1 := (rl_yw y3 hf (show o < top f by omega)).2.2.2.2
    have w2 := (rl_yw y3 hL (show o < top L by omega)).2.2.2.2
    have hnow := y3.1
    refine br_f (nI_ge (by omega) (by omega)) ?_
    rw [e1, e2]
    refine ⟨v0, u0, pk_eq (rl_E (I f o)) (rl_E (I L o)) (fun y => nm_r (nI_1 _) (ih (o + 1) q (by omega) (by omega) (fun j hj2 => ?_))) (fun y => ?_) vE uE⟩
    · rcases Nat.lt_or_ge j o with w | w
      · exact hj j w
      · have e : j = o := by omega
        rw [e]; exact fun z => z y
    · have eu : rl_cp I top L f = o := rl_fs_eq (by omega) hj (fun _ => y)
      rw [eu] at k
      exact k
end
end
section
section
variable {g_leader g_now : Int32} {b_by b_kind b_seq b_key b_val b_era b_tomb b_gone b_top b_mark b_cleaned b_fetched b_works b_member b_shown : Nat → Int32} {I : Nat → Nat → rl_ID} {O G : Nat → Nat → Prop} {top mark cle fet bas : Nat → Nat} {mem wor : Nat → Prop} {L f now n un : Nat}
theorem rl_y_fetch (hY : rl_YS g_leader g_now b_by b_kind b_seq b_key b_val b_era b_tomb b_gone b_top b_mark b_cleaned b_fetched b_works b_member I O G top mark cle fet bas mem wor L now) (hi : rl_IV I G top mark cle fet bas mem L now) (hf : f < 3) (hL : L < 3) (hne : f ≠ L) (hw : wor f) (hn1 : 1 ≤ n) (hn8 : n ≤ 8) (hkL : rl_rk (G L) (top L) ≤ 40)
    (hun : un = rl_ut G (rl_u top f (rl_cp I top L f)) cle L f n) {post : Int32 → SY → Prop}
    (kF : ¬ rl_rk (G f) (rl_cp I top L f) + (rl_rk (G L) un - rl_rk (G L) (rl_cp I top L f)) ≤ 40 → ∀ c_top : Nat → Int32, rl_YS g_leader g_now b_by b_kind b_seq b_key b_val b_era b_tomb b_gone c_top b_mark b_cleaned b_fetched b_works b_member I O G (rl_u top f (rl_cp I top L f)) mark cle fet bas mem wor L now → post (-10) (g_leader, g_now, b_by, b_kind, b_seq, b_key, b_val, b_era, b_tomb, b_gone, c_top, b_mark, b_cleaned, b_fetched, b_works, b_member, b_shown))
    (k : rl_rk (G f) (rl_cp I top L f) + (rl_rk (G L) un - rl_rk (G L) (rl_cp I top L f)) ≤ 40 → ∀ c_by c_kind c_seq c_key c_val c_era c_tomb c_gone c_top c_mark c_cleaned c_fetched c_member : Nat → Int32,
      rl_YS g_leader g_now c_by c_kind c_seq c_key c_val c_era c_tomb c_gone c_top c_mark c_cleaned c_fetched b_works c_member
        (rl_u I f (I L)) (rl_u O f (rl_mx (rl_cp I top L f) (O f) (O L))) (rl_u G f (rl_mx (rl_cp I top L f) (G f) (G L))) (rl_u (rl_u top f (rl_cp I top L f)) f un) (rl_m5 (rl_u top f (rl_cp I top L f)) mark fet mem L f un) (rl_u cle f (max (cle f) (cle L))) (rl_u fet f un) (rl_u bas f (if rl_cp I top L f < bas L then bas L else bas f)) (fun s => mem s ∨ (s = f ∧ un = rl_u top f (rl_cp I top L f) L)) wor L now →
      post (nI (rl_rk (G L) un - rl_rk (G L) (rl_cp I top L f))) (g_leader, g_now, c_by, c_kind, c_seq, c_key, c_val, c_era, c_tomb, c_gone, c_top, c_mark, c_cleaned, c_fetched, b_works, c_member, b_shown)) :
    wpY_fetch post (g_leader, g_now, b_by, b_kind, b_seq, b_key, b_val, b_era, b_tomb, b_gone, b_top, b_mark, b_cleaned, b_fetched, b_works, b_member, b_shown) (nI f) (nI n) := by
  have hl : g_leader = nI L := hY.1.1.trans (rl_ld_t hL)
  have vf : vp_in (nI f) 3 := vp_in_nI hf (by omega)
  have cf : (nI f).toNatClampNeg = f := nI_clamp (by omega)
  have vL : vp_in (nI L) 3 := vp_in_nI hL (by omega)
  have cL : (nI L).toNatClampNeg = L := nI_clamp (by omega)
  have hLf : L ≠ f := fun y => hne y.symm
  have hY0 := hY
  obtain ⟨⟨y1, y2⟩, y3, y4⟩ := hY
  have ew : b_works (nI f).toNatClampNeg = rl_b (wor f) := by rw [cf]; exact (y4 f hf).2.2.2.1
  have eTf : b_top (nI f).toNatClampNeg = nI (top f) := by rw [cf]; exact (y3.2 f hf).2.1
  have eTL : b_top (nI L).toNatClampNeg = nI (top L) := by rw [cL]; exact (y3.2 L hL).2.1
  have bf := (hi.1 f hf).1
  have bL := (hi.1 L hL).1
  have hcp := rl_cp_le I top L f
  have hi1 := rl_iv_cut hi hf hL hne
  have hag := rl_cp_ag hi hf hL
  have e1 : rl_u top f (rl_cp I top L f) f = rl_cp I top L f := rl_us
  have e2 : rl_u top f (rl_cp I top L f) L = top L := rl_un hLf
  have run : ∀ c_top : Nat → Int32, rl_YS g_leader g_now b_by b_kind b_seq b_key b_val b_era b_tomb b_gone c_top b_mark b_cleaned b_fetched b_works b_member I O G (rl_u top f (rl_cp I top L f)) mark cle fet bas mem wor L now → ∃ m, wY_fetch_168 post (nI f) (nI n) g_leader g_now b_by b_kind b_seq b_key b_val b_era b_tomb b_gone c_top b_mark b_cleaned b_fetched b_works b_member b_shown m 0 (nI (rl_cp I top L f)) := by
    intro ct hY1
    obtain ⟨u1, u2, u3, u4⟩ := rl_ut_sp (G := G) (top := rl_u top f (rl_cp I top L f)) (cle := cle) (L := L) (f := f) (n := n) (by rw [e1, e2]; exact hcp.2) (hi1.1 L hL).2.2.2.2.1
    rw [← hun] at u1 u2 u3 u4
    have k250 := rl_y_ft250 (b_shown := b_shown) hY1 hi1 hf hL hne (by rw [e1]; exact hag) u1 u2 u3 (by rw [e2]; exact hkL) (post := post)
      (by rw [e1]; exact fun z => kF z ct hY1)
      (by rw [e1]; exact k)
    rw [hun] at k250
    have fin := rl_y_ft168 hY1 hi1 hf hL (by rw [e1, e2]; exact hcp.2) hn8 k250 (top L - rl_cp I top L f) (rl_cp I top L f) (top L - rl_cp I top L f + 1) (by rw [e2]; omega) (by rw [e1]; exact Nat.le_refl _) (by omega) (fun j hj y => by have := y.1; rw [e1] at this; omega)
    rw [e1, Nat.sub_self] at fin
    exact ⟨_, fin⟩
  have k138 : wY_fetch_138 post (nI f) (nI n) (nI (rl_cp I top L f)) g_leader g_now b_by b_kind b_seq b_key b_val b_era b_tomb b_gone b_top b_mark b_cleaned b_fetched b_works b_member b_shown := by
    unfold wY_fetch_138
    refine ⟨vf, pk_le (top f) (rl_cp I top L f) (fun z => ⟨vf, nm_r (e' := nI (rl_cp I top L f)) (by rw [eTf, show top f = rl_cp I top L f by omega]) ?_⟩) (fun z => ⟨vf, ?_⟩) eTf⟩
    · have e : rl_u top f (rl_cp I top L f) = top := by
        funext s
        by_cases es : s = f
        · subst es; rw [rl_us]; omega
        · rw [rl_un es]
      exact run b_top (by rw [e]; exact hY0)
    · rw [cf]
      refine nm_e ⟨vf, nm_r (e' := nI (rl_cp I top L f)) pk_us (run _ ⟨⟨y1, y2⟩, ⟨y3.1, fun s hs => ?_⟩, y4⟩)⟩
      obtain ⟨q1, q2, q3⟩ := y3.2 s hs
      by_cases es : s = f
      · subst es
        rw [rl_us, pk_us]
        exact ⟨by omega, rfl, fun o ho => q3 o (by omega)⟩
      · rw [rl_un es, pk_un es]; exact ⟨q1, q2, q3⟩
  have k94 : ∃ m, wY_fetch_94 post (nI f) (nI n) (nI (min (top f) (top L))) g_leader g_now b_by b_kind b_seq b_key b_val b_era b_tomb b_gone b_top b_mark b_cleaned b_fetched b_works b_member b_shown m 0 := ⟨_, rl_y_ft94 hY0 hf hL k138 (min (top f) (top L)) 0 (min (top f) (top L) + 1) (by omega) (by omega) (fun j hj => absurd hj (Nat.not_lt_zero _))⟩
  subst hl
  unfold wpY_fetch
  refine rl_amG (n := 3) hf (by omega) (br_f (by decide) (br_f (nI_nlt (b := 1) hn1 (by omega)) (br_t (nI_le (b := 8) hn8 (by omega)) (br_t (nI_pos' (by omega)) (pk_eq L f (fun y => absurd y hLf) (fun _ => ⟨vf, rl_br ew (fun y => absurd hw y) (fun _ => ⟨vf, vL, pk_le (top L) (top f) (fun z => ⟨vL, nm_r eTL ?_⟩) (fun z => ⟨vf, nm_r eTf ?_⟩) eTL eTf⟩)⟩))))))
  · rw [show min (top f) (top L) = top L by omega] at k94; exact k94
  · rw [show min (top f) (top L) = top f by omega] at k94; exact k94
end
theorem i_vc_fetch {k : Nat} {u : SX} {v : SY} (I : i_Rel k u v) (hk : k + 7 ≤ 3584) (v1 : Int32) (v2 : Int32) : wpX_fetch (fun r u' => wpY_fetch (fun r' v' => r' = r ∧ i_Rel (k + 7) u' v') v v1 v2) u v1 v2 := by
  refine rl_el (P := fun u v => wpX_fetch (fun r u' => wpY_fetch (fun r' v' => r' = r ∧ i_Rel (k + 7) u' v') v v1 v2) u v1 v2) ?_ I
  clear I u v
  intro f_leader f_inside f_now f_foundKey f_foundValue f_foundTomb f_foundWho f_foundSequence f_foundEra a_offset a_kind a_who a_key a_value a_tomb a_sequence a_era a_state a_decidedAt a_dead a_count a_end a_mark a_cleaned a_gone a_eraAt a_eraOf a_eras a_epoch a_latest a_last a_places a_baseEpoch a_baseLatest a_baseLast a_basePlaces a_base a_fetched g_leader g_now b_by b_kind b_seq b_key b_val b_era b_tomb b_gone b_top b_mark b_cleaned b_fetched b_works b_member b_shown I O G top mark cle fet bas mem wor L now h
  have hR := rl_fold7 h
  obtain ⟨hn, hI, hX, hY, hS⟩ := h
  have x1 := hX.1.1
  have y1 := hY.1.1
  unfold wpX_fetch
  rcases rl_ix v1 (n := 3) (by omega) with hb | ⟨f, hf, rfl⟩
  · refine rl_outB (n := 3) hb (br_f (by decide) ?_)
    unfold wpY_fetch
    exact rl_amB (n := 3) hb (br_t rfl ⟨by trivial, hR⟩)
  refine rl_outG (n := 3) hf (by omega) (br_t rfl ⟨fun h1 => ?_, fun h1 => ⟨fun h8 => ?_, fun h8 => ?_⟩⟩)
  · unfold wpY_fetch
    exact rl_amG (n := 3) hf (by omega) (br_f (by decide) (br_t h1 ⟨by trivial, hR⟩))
  · have hneg : ¬ v2 < 0 := fun y => h1 (Int32.lt_trans y (by decide))
    obtain ⟨n, hn8, rfl⟩ := nI_of2 (M := 8) (n := 8) (by decide) hneg h8
    have hn1 : 1 ≤ n := Nat.pos_of_ne_zero fun y => h1 (by rw [y]; decide)
    have vf : vp_in (nI f) 3 := vp_in_nI hf (by omega)
    have cf : (nI f).toNatClampNeg = f := nI_clamp (by omega)
    by_cases hL : L < 3
    · have eX : f_leader = nI L := x1.trans (rl_ld_t hL)
      have eY : g_leader = nI L := y1.trans (rl_ld_t hL)
      subst eX eY
      refine br_t (nI_pos' (by omega)) (pk_eq f L (fun e => ?_) (fun hne => ⟨vf, ?_⟩))
      · unfold wpY_fetch
        exact rl_amG (n := 3) hf (by omega) (br_f (by decide) (br_f h1 (br_t h8 (br_t (nI_pos' (by omega)) (pk_eq L f (fun _ => ⟨by trivial, hR⟩) (fun y => absurd e.symm y))))))
      · have eg : a_gone (nI f).toNatClampNeg = rl_b (¬ wor f) := by rw [cf]; exact (hX.2.2.2 f hf).2.2.1
        have ew : b_works (nI f).toNatClampNeg = rl_b (wor f) := by rw [cf]; exact (hY.2.2 f hf).2.2.2.1
        have ee : a_end (nI f).toNatClampNeg = nI (top f) := by rw [cf]; exact (hX.2.1 f hf).2.2.1
        have hLf : L ≠ f := fun y => hne y.symm
        refine rl_br eg (fun hw0 => ?_) (fun hw0 => ?_)
        · have hw : wor f := Classical.not_not.mp hw0
          have hcp := rl_cp_le I top L f
          have hi1 := rl_iv_cut hI hf hL hne
          have hag := rl_cp_ag hI hf hL
          have e1 : rl_u top f (rl_cp I top L f) f = rl_cp I top L f := rl_us
          have e2 : rl_u top f (rl_cp I top L f) L = top L := rl_un hLf
          have hkL := (hX.2.1 L hL).1.2.2.1
          have bf := (hI.1 f hf).1
          have bL := (hI.1 L hL).1
          -- from the state after the cut on
          have run : ∀ c_state c_count c_end c_eras c_epoch c_latest c_last c_places : Nat → Int32,
              rl_XS (nI L) f_inside f_now a_offset a_kind a_who a_key a_value a_tomb a_sequence a_era c_state a_decidedAt c_count c_end a_mark a_cleaned a_gone a_eraAt a_eraOf c_eras c_epoch c_latest c_last c_places a_baseEpoch a_baseLatest a_baseLast a_basePlaces a_base a_fetched I O G (rl_u top f (rl_cp I top L f)) mark cle fet bas mem wor L now →
              wX_fetch_80 (fun r u' => wpY_fetch (fun r' v' => r' = r ∧ i_Rel (k + 7) u' v') (nI L, g_now, b_by, b_kind, b_seq, b_key, b_val, b_era, b_tomb, b_gone, b_top, b_mark, b_cleaned, b_fetched, b_works, b_member, b_shown) (nI f) (nI n)) (nI f) (nI n) (nI L) f_inside f_now f_foundKey f_foundValue f_foundTomb f_foundWho f_foundSequence f_foundEra a_offset a_kind a_who a_key a_value a_tomb a_sequence a_era c_state a_decidedAt a_dead c_count c_end a_mark a_cleaned a_gone a_eraAt a_eraOf c_eras c_epoch c_latest c_last c_places a_baseEpoch a_baseLatest a_baseLast a_basePlaces a_base a_fetched := by
            intro s1 s2 s3 s4 s5 s6 s7 s8 hX1
            refine rl_x_ft80 hX1 hi1 hf hL hne (by rw [e1, e2]; exact hcp.2) (by rw [e1]; exact hag) hn8 rfl ?_ ?_
            · rw [e1]
              intro hfull
              refine rl_y_fetch hY hI hf hL hne hw hn1 hn8 hkL rfl (fun _ ct hY1 => ⟨rfl, i_up (rl_fold (O := O) ⟨hn, hi1, hX1, hY1, hS⟩)⟩) (fun z => absurd z hfull)
            · rw [e1]
              intro hok fi c1 c2 c3 c4 c5 c6 c7 c8 c9 c10 c11 c12 c13 c14 c15 c16 c17 c18 c19 c20 c21 c22 c23 c24 c25 c26 c27 hX5
              refine rl_y_fetch hY hI hf hL hne hw hn1 hn8 hkL rfl (fun z => absurd hok z) ?_
              intro _ d1 d2 d3 d4 d5 d6 d7 d8 d9 d10 d11 d12 d13 hY5
              obtain ⟨u1, u2, u3, u4⟩ := rl_ut_sp (G := G) (top := rl_u top f (rl_cp I top L f)) (cle := cle) (L := L) (f := f) (n := n) (by rw [e1, e2]; exact hcp.2) (hi1.1 L hL).2.2.2.2.1
              have hi3 := rl_iv_take hi1 hf hL hne (by rw [e1]; exact hag) u1 u2 u3
              have hi5 := rl_iv_mf (rl_iv_adv hi3) hf hL (fun o _ => by rw [rl_us, rl_un hLf])
              rw [e1] at hi5
              exact ⟨rfl, i_up (rl_fold ⟨hn, hi5, hX5, hY5, hS⟩)⟩
          have lsf := rl_ls_le (mark := mark) hf
          have b1 := (hi1.1 f hf)
          rw [e1] at b1
          refine rl_x_common hX hI hf hL ⟨vf, pk_le (top f) (rl_cp I top L f) (fun z => ?_) (fun z => ?_) ee⟩
          · have e : rl_u top f (rl_cp I top L f) = top := by
              funext s
              by_cases es : s = f
              · subst es; rw [rl_us]; omega
              · rw [rl_un es]
            exact run a_state a_count a_end a_eras a_epoch a_latest a_last a_places (by rw [e]; exact hX)
          · refine rl_x_cut hX hI hf hcp.1 (by omega) (by omega) ?_
            intro s1 s2 s3 s4 s5 s6 s7 s8 hX1
            exact run s1 s2 s3 s4 s5 s6 s7 s8 hX1
        · unfold wpY_fetch
          exact rl_amG (n := 3) hf (by omega) (br_f (by decide) (br_f h1 (br_t h8 (br_t (nI_pos' (by omega)) (pk_eq L f (fun y => absurd y hLf) (fun _ => ⟨vf, rl_br ew (fun _ => ⟨by trivial, hR⟩) (fun y => absurd y hw0)⟩))))))
    · have eX : f_leader = -1 := x1.trans (rl_ld_f hL)
      have eY : g_leader = -1 := y1.trans (rl_ld_f hL)
      refine br_f (by rw [eX]; decide) ?_
      unfold wpY_fetch
      exact rl_amG (n := 3) hf (by omega) (br_f (by decide) (br_f h1 (br_t h8 (br_f (by rw [eY]; decide) ⟨by trivial, hR⟩))))
  · unfold wpY_fetch
    exact rl_amG (n := 3) hf (by omega) (br_f (by decide) (br_f h1 (br_f h8 ⟨by trivial, hR⟩)))
end
