section
/-! pure rows to paste: stores, nI and lN arithmetic, masks, shifts, narrowing, branches by naturals (pk_le, pk_lt, pk_eq), loops (lp1 .. lp16: the measure of the state; rp1 ..: recursion), negatives. Take what you need -/
theorem pk_us {f : Nat → Int32} {k : Nat} {x : Int32} : upd f k x k = x := if_pos rfl
theorem pk_un {f : Nat → Int32} {k j : Nat} {x : Int32} (h : j ≠ k) : upd f k x j = f j := if_neg h
theorem pk_uLs {f : Nat → Int64} {k : Nat} {x : Int64} : vp_updL f k x k = x := if_pos rfl
theorem pk_uLn {f : Nat → Int64} {k j : Nat} {x : Int64} (h : j ≠ k) : vp_updL f k x j = f j := if_neg h
theorem pk_sub {a b : Nat} (h : b ≤ a) : nI a - nI b = nI (a - b) := by
  obtain ⟨c, rfl⟩ : ∃ c, a = c + b := ⟨a - b, by omega⟩
  rw [← nI_add, Int32.add_sub_cancel, Nat.add_sub_cancel]
theorem pk_m1 (n : Nat) : nI (n + 1) + (-1) = nI n := by
  rw [← nI_1, Int32.add_assoc, show (1 : Int32) + (-1) = 0 from rfl, Int32.add_zero]
theorem pk_mul (a b : Nat) : nI a * nI b = nI (a * b) := (Int32.ofNat_mul a b).symm
theorem pk_div {a d : Nat} (ha : a < 2 ^ 31) (h0 : 0 < d) (hd : d < 2 ^ 31) : nI a / nI d = nI (a / d) := by
  apply Int32.toInt_inj.mp
  rw [lg_idiv_nonneg (by rw [nI_toInt ha]; omega) (by rw [nI_toInt hd]; omega), nI_toInt ha, nI_toInt hd, nI_toInt (Nat.lt_of_le_of_lt (Nat.div_le_self a d) ha)]
  first | rfl | exact (Int.natCast_ediv _ _).symm
theorem pk_rem {a d : Nat} (ha : a < 2 ^ 31) (h0 : 0 < d) (hd : d < 2 ^ 31) : nI a - nI a / nI d * nI d = nI (a % d) := by
  rw [pk_div ha h0 hd, pk_mul, pk_sub (Nat.div_mul_le_self a d)]
  exact congrArg nI (by have := Nat.div_add_mod' a d; omega)
theorem pk_sub_toInt {a b : Nat} (ha : a < 2 ^ 30) (hb : b < 2 ^ 30) : (nI a - nI b).toInt = (a : Int) - b := by
  rw [Int32.toInt_sub, nI_toInt (by omega), nI_toInt (by omega)]
  exact Int.bmod_eq_of_le (by omega) (by omega)
theorem pk_sneg {a b : Nat} (hb : b < 2 ^ 30) (h : a < b) : nI a - nI b < 0 := by
  rw [Int32.lt_iff_toInt_lt, pk_sub_toInt (by omega) hb, show (0 : Int32).toInt = 0 from by decide]
  omega
theorem pk_ix (x : Int32) {n : Nat} (hn : n < 2 ^ 31) : x < 0 ∨ nI n ≤ x ∨ ∃ j : Nat, j < n ∧ x = nI j := by
  by_cases h : x < 0
  · exact Or.inl h
  · obtain ⟨j, hj, rfl⟩ := nI_of h
    by_cases h2 : j < n
    · exact Or.inr (Or.inr ⟨j, h2, rfl⟩)
    · exact Or.inr (Or.inl (nI_le (by omega) hj))
theorem pk_le {x y : Int32} {A B : Prop} (a b : Nat) (f : a ≤ b → A) (g : b < a → B) (hx : x = nI a := by rfl) (hy : y = nI b := by rfl) (ha : a < 2 ^ 31 := by omega) (hb : b < 2 ^ 31 := by omega) : (x ≤ y → A) ∧ (¬ x ≤ y → B) := by
  subst hx hy
  rw [nI_leI ha hb]
  exact ⟨f, fun z => g (by omega)⟩
theorem pk_lt {x y : Int32} {A B : Prop} (a b : Nat) (f : a < b → A) (g : b ≤ a → B) (hx : x = nI a := by rfl) (hy : y = nI b := by rfl) (ha : a < 2 ^ 31 := by omega) (hb : b < 2 ^ 31 := by omega) : (x < y → A) ∧ (¬ x < y → B) := by
  subst hx hy
  rw [nI_ltI ha hb]
  exact ⟨f, fun z => g (by omega)⟩
theorem pk_eq {x y : Int32} {A B : Prop} (a b : Nat) (f : a = b → A) (g : a ≠ b → B) (hx : x = nI a := by rfl) (hy : y = nI b := by rfl) (ha : a < 2 ^ 31 := by omega) (hb : b < 2 ^ 31 := by omega) : (x = y → A) ∧ (¬ x = y → B) := by
  subst hx hy
  rw [nI_eq ha hb]
  exact ⟨f, g⟩
theorem pk_in {x : Int32} (n N : Nat) (h : n < N) (hx : x = nI n := by rfl) (hN : N < 2 ^ 31 := by omega) : vp_in x N := by
  subst hx
  exact vp_in_nI h hN
theorem pk_cl {x : Int32} (n : Nat) (hx : x = nI n := by rfl) (h : n < 2 ^ 31 := by omega) : x.toNatClampNeg = n := by
  subst hx
  exact nI_clamp h
theorem pk_tn {n : Nat} (h : n < 2 ^ 32) : (nI n).toBitVec.toNat = n := Nat.mod_eq_of_lt h
theorem pk_and (x : Int32) {m : Int32} (k : Nat) (hm : m.toBitVec.toNat = 2 ^ k - 1) : x &&& m = nI (x.toBitVec.toNat % 2 ^ k) := by
  apply Int32.toBitVec_inj.mp
  apply BitVec.eq_of_toNat_eq
  rw [Int32.toBitVec_and, BitVec.toNat_and, hm, Nat.and_two_pow_sub_one_eq_mod]
  show _ = (BitVec.ofNat 32 _).toNat
  rw [BitVec.toNat_ofNat]
  exact (Nat.mod_eq_of_lt (Nat.lt_of_le_of_lt (Nat.mod_le _ _) x.toBitVec.isLt)).symm
theorem pk_andN {n : Nat} (h : n < 2 ^ 32) {m : Int32} (k : Nat) (hm : m.toBitVec.toNat = 2 ^ k - 1) : nI n &&& m = nI (n % 2 ^ k) := by
  rw [pk_and _ k hm, pk_tn h]
theorem pk_andE (x : Int32) {m : Int32} (k : Nat) (hm : m.toBitVec.toNat = 2 ^ k - 1) : ∃ j : Nat, j < 2 ^ k ∧ x &&& m = nI j := ⟨_, Nat.mod_lt _ (Nat.two_pow_pos k), pk_and x k hm⟩
theorem pk_andIn (x : Int32) {m : Int32} (k : Nat) (hm : m.toBitVec.toNat = 2 ^ k - 1) (hk : k ≤ 30) : vp_in (x &&& m) (2 ^ k) := by
  obtain ⟨j, hj, e⟩ := pk_andE x k hm
  rw [e]
  exact vp_in_nI hj (Nat.lt_of_le_of_lt (Nat.pow_le_pow_right (by decide) hk) (by decide))
theorem pk_shl (a s : Int32) (k : Nat) (hs : (s.toBitVec.smod 32).toNat = k) : (a <<< s).toBitVec.toNat = a.toBitVec.toNat * 2 ^ k % 2 ^ 32 := by
  show (a.toBitVec <<< (s.toBitVec.smod 32).toNat).toNat = _
  rw [hs, BitVec.toNat_shiftLeft, Nat.shiftLeft_eq]
theorem pk_shlN {n : Nat} (s : Int32) (k : Nat) (hs : (s.toBitVec.smod 32).toNat = k) (h : n * 2 ^ k < 2 ^ 32) : nI n <<< s = nI (n * 2 ^ k) := by
  apply Int32.toBitVec_inj.mp
  apply BitVec.eq_of_toNat_eq
  have hn : n < 2 ^ 32 := Nat.lt_of_le_of_lt (Nat.le_mul_of_pos_right n (Nat.two_pow_pos k)) h
  rw [pk_shl _ _ k hs, pk_tn hn, pk_tn h, Nat.mod_eq_of_lt h]
theorem pk_shr (a s : Int32) (k : Nat) (hs : (s.toBitVec.smod 32).toNat = k) : (a >>> s).toInt = a.toInt >>> k := by
  show (a.toBitVec.sshiftRight (s.toBitVec.smod 32).toNat).toInt = _
  rw [hs, BitVec.toInt_sshiftRight]
  rfl
theorem pk_shrN {n : Nat} (h : n < 2 ^ 31) (s : Int32) (k : Nat) (hs : (s.toBitVec.smod 32).toNat = k) : nI n >>> s = nI (n / 2 ^ k) := by
  apply Int32.toInt_inj.mp
  have h2 : n / 2 ^ k ≤ n := Nat.div_le_self _ _
  rw [pk_shr _ _ k hs, nI_toInt h, nI_toInt (by omega), Int.shiftRight_eq_div_pow]
  rfl
theorem pk_ushr (x s : Int32) (k : Nat) (hs : ((s.toUInt32 &&& Int32.toUInt32 31).toBitVec % 32).toNat = k) : (x.toUInt32 >>> (s.toUInt32 &&& Int32.toUInt32 31)).toInt32.toBitVec.toNat = x.toBitVec.toNat / 2 ^ k := by
  have e : (x.toUInt32 >>> (s.toUInt32 &&& Int32.toUInt32 31)).toInt32.toBitVec = x.toBitVec >>> k := by
    rw [← hs]
    exact UInt32.toBitVec_shiftRight _ _
  rw [e, BitVec.toNat_ushiftRight, Nat.shiftRight_eq_div_pow]
theorem pk_ushrN {n : Nat} (hn : n < 2 ^ 32) (s : Int32) (k : Nat) (hs : ((s.toUInt32 &&& Int32.toUInt32 31).toBitVec % 32).toNat = k) : ((nI n).toUInt32 >>> (s.toUInt32 &&& Int32.toUInt32 31)).toInt32 = nI (n / 2 ^ k) := by
  apply Int32.toBitVec_inj.mp
  apply BitVec.eq_of_toNat_eq
  rw [pk_ushr _ s k hs, pk_tn hn, pk_tn (Nat.lt_of_le_of_lt (Nat.div_le_self _ _) hn)]
theorem pk_nb (z : Int32) : narrow .byte (.int z.toInt8.toInt32) = .int z.toInt8.toInt32 := congrArg Value.int (by simp)
theorem pk_ns (z : Int32) : narrow .short (.int z.toInt16.toInt32) = .int z.toInt16.toInt32 := congrArg Value.int (by simp)
theorem pk_fb (r : Int32) : fits .byte (.int r.toInt8.toInt32) = true := by
  have ⟨a, b⟩ := lg_i2b_range r
  have h1 : (-128 : Int32).toInt = -128 := by decide
  have h2 : (127 : Int32).toInt = 127 := by decide
  simp only [fits, Bool.and_eq_true, decide_eq_true_eq, Int32.le_iff_toInt_le, h1, h2]
  omega
theorem pk_fs (r : Int32) : fits .short (.int r.toInt16.toInt32) = true := by
  have ⟨a, b⟩ := lg_i2s_range r
  have h1 : (-32768 : Int32).toInt = -32768 := by decide
  have h2 : (32767 : Int32).toInt = 32767 := by decide
  simp only [fits, Bool.and_eq_true, decide_eq_true_eq, Int32.le_iff_toInt_le, h1, h2]
  omega
theorem pk_charN {q : Nat} (hq : q < 65536) : narrow .char (.int (nI q)) = .int (nI q) ∧ fits .char (.int (nI q)) = true := by
  constructor
  · have e : (nI q).toUInt32.toUInt16.toUInt32.toInt32 = nI q := by
      apply Int32.toBitVec_inj.mp
      apply BitVec.eq_of_toNat_eq
      show (nI q).toUInt32.toUInt16.toUInt32.toNat = q % 2 ^ 32
      rw [UInt16.toNat_toUInt32, UInt32.toNat_toUInt16, show (nI q).toUInt32.toNat = q % 2 ^ 32 from rfl]
      omega
    exact congrArg Value.int e
  · have a : (0 : Int32) ≤ nI q := nI_pos' (by omega)
    have b : nI q ≤ 65535 := nI_le (b := 65535) (by omega) (by decide)
    show (decide ((0 : Int32) ≤ nI q) && decide (nI q ≤ 65535)) = true
    rw [decide_eq_true a, decide_eq_true b]
    rfl
theorem pk_char (x : Int32) : (x.toUInt32 % 65536).toInt32 = nI (x.toBitVec.toNat % 65536) := by
  apply Int32.toBitVec_inj.mp
  apply BitVec.eq_of_toNat_eq
  rw [pk_tn (by omega)]
  show (x.toUInt32 % 65536).toNat = _
  rw [UInt32.toNat_mod]
  rfl
theorem pk_nc (x : Int32) : narrow .char (.int (x.toUInt32 % 65536).toInt32) = .int (x.toUInt32 % 65536).toInt32 := by
  rw [pk_char]
  exact (pk_charN (Nat.mod_lt _ (by decide))).1
theorem pk_fc (x : Int32) : fits .char (.int (x.toUInt32 % 65536).toInt32) = true := by
  rw [pk_char]
  exact (pk_charN (Nat.mod_lt _ (by decide))).2
theorem pk_vb (z : Int32) : vp_nar .byte z.toInt8.toInt32 = z.toInt8.toInt32 := by rw [vp_nar_byte]; simp
theorem pk_vs (z : Int32) : vp_nar .short z.toInt16.toInt32 = z.toInt16.toInt32 := by rw [vp_nar_short]; simp
theorem pk_vc (z : Int32) : vp_nar .char (z.toUInt32 % 65536).toInt32 = (z.toUInt32 % 65536).toInt32 := Value.int.inj (pk_nc z)
theorem pk_lT {n : Nat} (h : n < 2 ^ 63) : (lN n).toInt = (n : Int) := lg_ofNat_toInt h
theorem pk_lLT {a b : Nat} (ha : a < 2 ^ 63) (hb : b < 2 ^ 63) : lN a < lN b ↔ a < b := by
  rw [Int64.lt_iff_toInt_lt, pk_lT ha, pk_lT hb]; omega
theorem pk_lLE {a b : Nat} (ha : a < 2 ^ 63) (hb : b < 2 ^ 63) : lN a ≤ lN b ↔ a ≤ b := by
  rw [Int64.le_iff_toInt_le, pk_lT ha, pk_lT hb]; omega
theorem pk_lEQ {a b : Nat} (ha : a < 2 ^ 63) (hb : b < 2 ^ 63) : lN a = lN b ↔ a = b := by
  rw [← Int64.toInt_inj, pk_lT ha, pk_lT hb]; omega
theorem pk_lOf {x : Int64} (h : ¬ x < 0) : ∃ k : Nat, k < 2 ^ 63 ∧ x = lN k := by
  rw [Int64.lt_iff_toInt_lt] at h
  have h0 : (0 : Int64).toInt = 0 := by decide
  have hx := Int64.toInt_lt x
  refine ⟨x.toInt.toNat, by omega, Int64.toInt_inj.mp ?_⟩
  rw [pk_lT (by omega)]
  omega
theorem pk_lDiv {a b : Nat} (ha : a < 2 ^ 63) (h0 : 0 < b) (hb : b < 2 ^ 63) : lN a / lN b = lN (a / b) := by
  apply Int64.toInt_inj.mp
  rw [lg_ldiv_nonneg (by rw [pk_lT ha]; omega) (by rw [pk_lT hb]; omega), pk_lT ha, pk_lT hb, pk_lT (Nat.lt_of_le_of_lt (Nat.div_le_self a b) ha)]
  rfl
theorem pk_lRem {a b : Nat} (ha : a < 2 ^ 63) (h0 : 0 < b) (hb : b < 2 ^ 63) : lN a - lN a / lN b * lN b = lN (a % b) := by
  rw [pk_lDiv ha h0 hb, lN_mul, lN_sub (Nat.div_mul_le_self a b)]
  exact congrArg lN (by have := Nat.div_add_mod' a b; omega)
theorem pk_loop {σ : Type} (W : Nat → Nat → σ → Prop) (I : Nat → σ → Prop) (e i0 : Nat) (s : σ) (hi : i0 ≤ e) (h0 : I i0 s) (hx : ∀ n s, I e s → W (n + 1) e s)
    (hs : ∀ n i s, i < e → I i s → (∀ s', I (i + 1) s' → W n (i + 1) s') → W (n + 1) i s) : ∃ n, W n i0 s :=
  ⟨e + 1, loop_i W I e hx hs (e + 1) i0 s hi (by omega) h0⟩
theorem pk_loopD {σ : Type} (W : Nat → Nat → σ → Prop) (I : Nat → σ → Prop) (hx : ∀ n s, I 0 s → W (n + 1) 0 s)
    (hs : ∀ n i s, I (i + 1) s → (∀ s', I i s' → W n i s') → W (n + 1) (i + 1) s) : ∀ (e : Nat) (s : σ), I e s → W (e + 1) e s := by
  intro e
  induction e with
  | zero => exact fun s h => hx 0 s h
  | succ e ih => exact fun s h => hs (e + 1) e s h (fun s' h' => ih s' h')
theorem lp1 {A1 : Type} (W : Nat → A1 → Prop) (I : A1 → Prop) (μ : A1 → Nat) (hs : ∀ (n : Nat) (a1 : A1), I a1 → (∀ (b1 : A1), I b1 → μ b1 < μ a1 → W n b1) → W (n + 1) a1) (a1 : A1) (h : I a1) : ∃ n, W n a1 :=
  loop_m (σ := A1) (fun n s => W n s) (fun s => I s) (fun s => μ s) (fun n s hI hk => hs n s hI (fun b1 h9 hm => hk b1 h9 hm)) a1 h
theorem lp2 {A1 A2 : Type} (W : Nat → A1 → A2 → Prop) (I : A1 → A2 → Prop) (μ : A1 → A2 → Nat) (hs : ∀ (n : Nat) (a1 : A1) (a2 : A2), I a1 a2 → (∀ (b1 : A1) (b2 : A2), I b1 b2 → μ b1 b2 < μ a1 a2 → W n b1 b2) → W (n + 1) a1 a2) (a1 : A1) (a2 : A2) (h : I a1 a2) : ∃ n, W n a1 a2 :=
  loop_m (σ := A1 × A2) (fun n s => W n s.1 s.2) (fun s => I s.1 s.2) (fun s => μ s.1 s.2) (fun n s hI hk => hs n s.1 s.2 hI (fun b1 b2 h9 hm => hk (b1, b2) h9 hm)) (a1, a2) h
theorem lp3 {A1 A2 A3 : Type} (W : Nat → A1 → A2 → A3 → Prop) (I : A1 → A2 → A3 → Prop) (μ : A1 → A2 → A3 → Nat) (hs : ∀ (n : Nat) (a1 : A1) (a2 : A2) (a3 : A3), I a1 a2 a3 → (∀ (b1 : A1) (b2 : A2) (b3 : A3), I b1 b2 b3 → μ b1 b2 b3 < μ a1 a2 a3 → W n b1 b2 b3) → W (n + 1) a1 a2 a3) (a1 : A1) (a2 : A2) (a3 : A3) (h : I a1 a2 a3) : ∃ n, W n a1 a2 a3 :=
  loop_m (σ := A1 × A2 × A3) (fun n s => W n s.1 s.2.1 s.2.2) (fun s => I s.1 s.2.1 s.2.2) (fun s => μ s.1 s.2.1 s.2.2) (fun n s hI hk => hs n s.1 s.2.1 s.2.2 hI (fun b1 b2 b3 h9 hm => hk (b1, b2, b3) h9 hm)) (a1, a2, a3) h
theorem lp4 {A1 A2 A3 A4 : Type} (W : Nat → A1 → A2 → A3 → A4 → Prop) (I : A1 → A2 → A3 → A4 → Prop) (μ : A1 → A2 → A3 → A4 → Nat) (hs : ∀ (n : Nat) (a1 : A1) (a2 : A2) (a3 : A3) (a4 : A4), I a1 a2 a3 a4 → (∀ (b1 : A1) (b2 : A2) (b3 : A3) (b4 : A4), I b1 b2 b3 b4 → μ b1 b2 b3 b4 < μ a1 a2 a3 a4 → W n b1 b2 b3 b4) → W (n + 1) a1 a2 a3 a4) (a1 : A1) (a2 : A2) (a3 : A3) (a4 : A4) (h : I a1 a2 a3 a4) : ∃ n, W n a1 a2 a3 a4 :=
  loop_m (σ := A1 × A2 × A3 × A4) (fun n s => W n s.1 s.2.1 s.2.2.1 s.2.2.2) (fun s => I s.1 s.2.1 s.2.2.1 s.2.2.2) (fun s => μ s.1 s.2.1 s.2.2.1 s.2.2.2) (fun n s hI hk => hs n s.1 s.2.1 s.2.2.1 s.2.2.2 hI (fun b1 b2 b3 b4 h9 hm => hk (b1, b2, b3, b4) h9 hm)) (a1, a2, a3, a4) h
theorem lp5 {A1 A2 A3 A4 A5 : Type} (W : Nat → A1 → A2 → A3 → A4 → A5 → Prop) (I : A1 → A2 → A3 → A4 → A5 → Prop) (μ : A1 → A2 → A3 → A4 → A5 → Nat) (hs : ∀ (n : Nat) (a1 : A1) (a2 : A2) (a3 : A3) (a4 : A4) (a5 : A5), I a1 a2 a3 a4 a5 → (∀ (b1 : A1) (b2 : A2) (b3 : A3) (b4 : A4) (b5 : A5), I b1 b2 b3 b4 b5 → μ b1 b2 b3 b4 b5 < μ a1 a2 a3 a4 a5 → W n b1 b2 b3 b4 b5) → W (n + 1) a1 a2 a3 a4 a5) (a1 : A1) (a2 : A2) (a3 : A3) (a4 : A4) (a5 : A5) (h : I a1 a2 a3 a4 a5) : ∃ n, W n a1 a2 a3 a4 a5 :=
  loop_m (σ := A1 × A2 × A3 × A4 × A5) (fun n s => W n s.1 s.2.1 s.2.2.1 s.2.2.2.1 s.2.2.2.2) (fun s => I s.1 s.2.1 s.2.2.1 s.2.2.2.1 s.2.2.2.2) (fun s => μ s.1 s.2.1 s.2.2.1 s.2.2.2.1 s.2.2.2.2) (fun n s hI hk => hs n s.1 s.2.1 s.2.2.1 s.2.2.2.1 s.2.2.2.2 hI (fun b1 b2 b3 b4 b5 h9 hm => hk (b1, b2, b3, b4, b5) h9 hm)) (a1, a2, a3, a4, a5) h
theorem lp6 {A1 A2 A3 A4 A5 A6 : Type} (W : Nat → A1 → A2 → A3 → A4 → A5 → A6 → Prop) (I : A1 → A2 → A3 → A4 → A5 → A6 → Prop) (μ : A1 → A2 → A3 → A4 → A5 → A6 → Nat) (hs : ∀ (n : Nat) (a1 : A1) (a2 : A2) (a3 : A3) (a4 : A4) (a5 : A5) (a6 : A6), I a1 a2 a3 a4 a5 a6 → (∀ (b1 : A1) (b2 : A2) (b3 : A3) (b4 : A4) (b5 : A5) (b6 : A6), I b1 b2 b3 b4 b5 b6 → μ b1 b2 b3 b4 b5 b6 < μ a1 a2 a3 a4 a5 a6 → W n b1 b2 b3 b4 b5 b6) → W (n + 1) a1 a2 a3 a4 a5 a6) (a1 : A1) (a2 : A2) (a3 : A3) (a4 : A4) (a5 : A5) (a6 : A6) (h : I a1 a2 a3 a4 a5 a6) : ∃ n, W n a1 a2 a3 a4 a5 a6 :=
  loop_m (σ := A1 × A2 × A3 × A4 × A5 × A6) (fun n s => W n s.1 s.2.1 s.2.2.1 s.2.2.2.1 s.2.2.2.2.1 s.2.2.2.2.2) (fun s => I s.1 s.2.1 s.2.2.1 s.2.2.2.1 s.2.2.2.2.1 s.2.2.2.2.2) (fun s => μ s.1 s.2.1 s.2.2.1 s.2.2.2.1 s.2.2.2.2.1 s.2.2.2.2.2) (fun n s hI hk => hs n s.1 s.2.1 s.2.2.1 s.2.2.2.1 s.2.2.2.2.1 s.2.2.2.2.2 hI (fun b1 b2 b3 b4 b5 b6 h9 hm => hk (b1, b2, b3, b4, b5, b6) h9 hm)) (a1, a2, a3, a4, a5, a6) h
theorem lp7 {A1 A2 A3 A4 A5 A6 A7 : Type} (W : Nat → A1 → A2 → A3 → A4 → A5 → A6 → A7 → Prop) (I : A1 → A2 → A3 → A4 → A5 → A6 → A7 → Prop) (μ : A1 → A2 → A3 → A4 → A5 → A6 → A7 → Nat) (hs : ∀ (n : Nat) (a1 : A1) (a2 : A2) (a3 : A3) (a4 : A4) (a5 : A5) (a6 : A6) (a7 : A7), I a1 a2 a3 a4 a5 a6 a7 → (∀ (b1 : A1) (b2 : A2) (b3 : A3) (b4 : A4) (b5 : A5) (b6 : A6) (b7 : A7), I b1 b2 b3 b4 b5 b6 b7 → μ b1 b2 b3 b4 b5 b6 b7 < μ a1 a2 a3 a4 a5 a6 a7 → W n b1 b2 b3 b4 b5 b6 b7) → W (n + 1) a1 a2 a3 a4 a5 a6 a7) (a1 : A1) (a2 : A2) (a3 : A3) (a4 : A4) (a5 : A5) (a6 : A6) (a7 : A7) (h : I a1 a2 a3 a4 a5 a6 a7) : ∃ n, W n a1 a2 a3 a4 a5 a6 a7 :=
  loop_m (σ := A1 × A2 × A3 × A4 × A5 × A6 × A7) (fun n s => W n s.1 s.2.1 s.2.2.1 s.2.2.2.1 s.2.2.2.2.1 s.2.2.2.2.2.1 s.2.2.2.2.2.2) (fun s => I s.1 s.2.1 s.2.2.1 s.2.2.2.1 s.2.2.2.2.1 s.2.2.2.2.2.1 s.2.2.2.2.2.2) (fun s => μ s.1 s.2.1 s.2.2.1 s.2.2.2.1 s.2.2.2.2.1 s.2.2.2.2.2.1 s.2.2.2.2.2.2) (fun n s hI hk => hs n s.1 s.2.1 s.2.2.1 s.2.2.2.1 s.2.2.2.2.1 s.2.2.2.2.2.1 s.2.2.2.2.2.2 hI (fun b1 b2 b3 b4 b5 b6 b7 h9 hm => hk (b1, b2, b3, b4, b5, b6, b7) h9 hm)) (a1, a2, a3, a4, a5, a6, a7) h
theorem lp8 {A1 A2 A3 A4 A5 A6 A7 A8 : Type} (W : Nat → A1 → A2 → A3 → A4 → A5 → A6 → A7 → A8 → Prop) (I : A1 → A2 → A3 → A4 → A5 → A6 → A7 → A8 → Prop) (μ : A1 → A2 → A3 → A4 → A5 → A6 → A7 → A8 → Nat) (hs : ∀ (n : Nat) (a1 : A1) (a2 : A2) (a3 : A3) (a4 : A4) (a5 : A5) (a6 : A6) (a7 : A7) (a8 : A8), I a1 a2 a3 a4 a5 a6 a7 a8 → (∀ (b1 : A1) (b2 : A2) (b3 : A3) (b4 : A4) (b5 : A5) (b6 : A6) (b7 : A7) (b8 : A8), I b1 b2 b3 b4 b5 b6 b7 b8 → μ b1 b2 b3 b4 b5 b6 b7 b8 < μ a1 a2 a3 a4 a5 a6 a7 a8 → W n b1 b2 b3 b4 b5 b6 b7 b8) → W (n + 1) a1 a2 a3 a4 a5 a6 a7 a8) (a1 : A1) (a2 : A2) (a3 : A3) (a4 : A4) (a5 : A5) (a6 : A6) (a7 : A7) (a8 : A8) (h : I a1 a2 a3 a4 a5 a6 a7 a8) : ∃ n, W n a1 a2 a3 a4 a5 a6 a7 a8 :=
  loop_m (σ := A1 × A2 × A3 × A4 × A5 × A6 × A7 × A8) (fun n s => W n s.1 s.2.1 s.2.2.1 s.2.2.2.1 s.2.2.2.2.1 s.2.2.2.2.2.1 s.2.2.2.2.2.2.1 s.2.2.2.2.2.2.2) (fun s => I s.1 s.2.1 s.2.2.1 s.2.2.2.1 s.2.2.2.2.1 s.2.2.2.2.2.1 s.2.2.2.2.2.2.1 s.2.2.2.2.2.2.2) (fun s => μ s.1 s.2.1 s.2.2.1 s.2.2.2.1 s.2.2.2.2.1 s.2.2.2.2.2.1 s.2.2.2.2.2.2.1 s.2.2.2.2.2.2.2) (fun n s hI hk => hs n s.1 s.2.1 s.2.2.1 s.2.2.2.1 s.2.2.2.2.1 s.2.2.2.2.2.1 s.2.2.2.2.2.2.1 s.2.2.2.2.2.2.2 hI (fun b1 b2 b3 b4 b5 b6 b7 b8 h9 hm => hk (b1, b2, b3, b4, b5, b6, b7, b8) h9 hm)) (a1, a2, a3, a4, a5, a6, a7, a8) h
theorem lp9 {A1 A2 A3 A4 A5 A6 A7 A8 A9 : Type} (W : Nat → A1 → A2 → A3 → A4 → A5 → A6 → A7 → A8 → A9 → Prop) (I : A1 → A2 → A3 → A4 → A5 → A6 → A7 → A8 → A9 → Prop) (μ : A1 → A2 → A3 → A4 → A5 → A6 → A7 → A8 → A9 → Nat) (hs : ∀ (n : Nat) (a1 : A1) (a2 : A2) (a3 : A3) (a4 : A4) (a5 : A5) (a6 : A6) (a7 : A7) (a8 : A8) (a9 : A9), I a1 a2 a3 a4 a5 a6 a7 a8 a9 → (∀ (b1 : A1) (b2 : A2) (b3 : A3) (b4 : A4) (b5 : A5) (b6 : A6) (b7 : A7) (b8 : A8) (b9 : A9), I b1 b2 b3 b4 b5 b6 b7 b8 b9 → μ b1 b2 b3 b4 b5 b6 b7 b8 b9 < μ a1 a2 a3 a4 a5 a6 a7 a8 a9 → W n b1 b2 b3 b4 b5 b6 b7 b8 b9) → W (n + 1) a1 a2 a3 a4 a5 a6 a7 a8 a9) (a1 : A1) (a2 : A2) (a3 : A3) (a4 : A4) (a5 : A5) (a6 : A6) (a7 : A7) (a8 : A8) (a9 : A9) (h : I a1 a2 a3 a4 a5 a6 a7 a8 a9) : ∃ n, W n a1 a2 a3 a4 a5 a6 a7 a8 a9 :=
  loop_m (σ := A1 × A2 × A3 × A4 × A5 × A6 × A7 × A8 × A9) (fun n s => W n s.1 s.2.1 s.2.2.1 s.2.2.2.1 s.2.2.2.2.1 s.2.2.2.2.2.1 s.2.2.2.2.2.2.1 s.2.2.2.2.2.2.2.1 s.2.2.2.2.2.2.2.2) (fun s => I s.1 s.2.1 s.2.2.1 s.2.2.2.1 s.2.2.2.2.1 s.2.2.2.2.2.1 s.2.2.2.2.2.2.1 s.2.2.2.2.2.2.2.1 s.2.2.2.2.2.2.2.2) (fun s => μ s.1 s.2.1 s.2.2.1 s.2.2.2.1 s.2.2.2.2.1 s.2.2.2.2.2.1 s.2.2.2.2.2.2.1 s.2.2.2.2.2.2.2.1 s.2.2.2.2.2.2.2.2) (fun n s hI hk => hs n s.1 s.2.1 s.2.2.1 s.2.2.2.1 s.2.2.2.2.1 s.2.2.2.2.2.1 s.2.2.2.2.2.2.1 s.2.2.2.2.2.2.2.1 s.2.2.2.2.2.2.2.2 hI (fun b1 b2 b3 b4 b5 b6 b7 b8 b9 h9 hm => hk (b1, b2, b3, b4, b5, b6, b7, b8, b9) h9 hm)) (a1, a2, a3, a4, a5, a6, a7, a8, a9) h
theorem lp10 {A1 A2 A3 A4 A5 A6 A7 A8 A9 A10 : Type} (W : Nat → A1 → A2 → A3 → A4 → A5 → A6 → A7 → A8 → A9 → A10 → Prop) (I : A1 → A2 → A3 → A4 → A5 → A6 → A7 → A8 → A9 → A10 → Prop) (μ : A1 → A2 → A3 → A4 → A5 → A6 → A7 → A8 → A9 → A10 → Nat) (hs : ∀ (n : Nat) (a1 : A1) (a2 : A2) (a3 : A3) (a4 : A4) (a5 : A5) (a6 : A6) (a7 : A7) (a8 : A8) (a9 : A9) (a10 : A10), I a1 a2 a3 a4 a5 a6 a7 a8 a9 a10 → (∀ (b1 : A1) (b2 : A2) (b3 : A3) (b4 : A4) (b5 : A5) (b6 : A6) (b7 : A7) (b8 : A8) (b9 : A9) (b10 : A10), I b1 b2 b3 b4 b5 b6 b7 b8 b9 b10 → μ b1 b2 b3 b4 b5 b6 b7 b8 b9 b10 < μ a1 a2 a3 a4 a5 a6 a7 a8 a9 a10 → W n b1 b2 b3 b4 b5 b6 b7 b8 b9 b10) → W (n + 1) a1 a2 a3 a4 a5 a6 a7 a8 a9 a10) (a1 : A1) (a2 : A2) (a3 : A3) (a4 : A4) (a5 : A5) (a6 : A6) (a7 : A7) (a8 : A8) (a9 : A9) (a10 : A10) (h : I a1 a2 a3 a4 a5 a6 a7 a8 a9 a10) : ∃ n, W n a1 a2 a3 a4 a5 a6 a7 a8 a9 a10 :=
  loop_m (σ := A1 × A2 × A3 × A4 × A5 × A6 × A7 × A8 × A9 × A10) (fun n s => W n s.1 s.2.1 s.2.2.1 s.2.2.2.1 s.2.2.2.2.1 s.2.2.2.2.2.1 s.2.2.2.2.2.2.1 s.2.2.2.2.2.2.2.1 s.2.2.2.2.2.2.2.2.1 s.2.2.2.2.2.2.2.2.2) (fun s => I s.1 s.2.1 s.2.2.1 s.2.2.2.1 s.2.2.2.2.1 s.2.2.2.2.2.1 s.2.2.2.2.2.2.1 s.2.2.2.2.2.2.2.1 s.2.2.2.2.2.2.2.2.1 s.2.2.2.2.2.2.2.2.2) (fun s => μ s.1 s.2.1 s.2.2.1 s.2.2.2.1 s.2.2.2.2.1 s.2.2.2.2.2.1 s.2.2.2.2.2.2.1 s.2.2.2.2.2.2.2.1 s.2.2.2.2.2.2.2.2.1 s.2.2.2.2.2.2.2.2.2) (fun n s hI hk => hs n s.1 s.2.1 s.2.2.1 s.2.2.2.1 s.2.2.2.2.1 s.2.2.2.2.2.1 s.2.2.2.2.2.2.1 s.2.2.2.2.2.2.2.1 s.2.2.2.2.2.2.2.2.1 s.2.2.2.2.2.2.2.2.2 hI (fun b1 b2 b3 b4 b5 b6 b7 b8 b9 b10 h9 hm => hk (b1, b2, b3, b4, b5, b6, b7, b8, b9, b10) h9 hm)) (a1, a2, a3, a4, a5, a6, a7, a8, a9, a10) h
theorem lp11 {A1 A2 A3 A4 A5 A6 A7 A8 A9 A10 A11 : Type} (W : Nat → A1 → A2 → A3 → A4 → A5 → A6 → A7 → A8 → A9 → A10 → A11 → Prop) (I : A1 → A2 → A3 → A4 → A5 → A6 → A7 → A8 → A9 → A10 → A11 → Prop) (μ : A1 → A2 → A3 → A4 → A5 → A6 → A7 → A8 → A9 → A10 → A11 → Nat) (hs : ∀ (n : Nat) (a1 : A1) (a2 : A2) (a3 : A3) (a4 : A4) (a5 : A5) (a6 : A6) (a7 : A7) (a8 : A8) (a9 : A9) (a10 : A10) (a11 : A11), I a1 a2 a3 a4 a5 a6 a7 a8 a9 a10 a11 → (∀ (b1 : A1) (b2 : A2) (b3 : A3) (b4 : A4) (b5 : A5) (b6 : A6) (b7 : A7) (b8 : A8) (b9 : A9) (b10 : A10) (b11 : A11), I b1 b2 b3 b4 b5 b6 b7 b8 b9 b10 b11 → μ b1 b2 b3 b4 b5 b6 b7 b8 b9 b10 b11 < μ a1 a2 a3 a4 a5 a6 a7 a8 a9 a10 a11 → W n b1 b2 b3 b4 b5 b6 b7 b8 b9 b10 b11) → W (n + 1) a1 a2 a3 a4 a5 a6 a7 a8 a9 a10 a11) (a1 : A1) (a2 : A2) (a3 : A3) (a4 : A4) (a5 : A5) (a6 : A6) (a7 : A7) (a8 : A8) (a9 : A9) (a10 : A10) (a11 : A11) (h : I a1 a2 a3 a4 a5 a6 a7 a8 a9 a10 a11) : ∃ n, W n a1 a2 a3 a4 a5 a6 a7 a8 a9 a10 a11 :=
  loop_m (σ := A1 × A2 × A3 × A4 × A5 × A6 × A7 × A8 × A9 × A10 × A11) (fun n s => W n s.1 s.2.1 s.2.2.1 s.2.2.2.1 s.2.2.2.2.1 s.2.2.2.2.2.1 s.2.2.2.2.2.2.1 s.2.2.2.2.2.2.2.1 s.2.2.2.2.2.2.2.2.1 s.2.2.2.2.2.2.2.2.2.1 s.2.2.2.2.2.2.2.2.2.2) (fun s => I s.1 s.2.1 s.2.2.1 s.2.2.2.1 s.2.2.2.2.1 s.2.2.2.2.2.1 s.2.2.2.2.2.2.1 s.2.2.2.2.2.2.2.1 s.2.2.2.2.2.2.2.2.1 s.2.2.2.2.2.2.2.2.2.1 s.2.2.2.2.2.2.2.2.2.2) (fun s => μ s.1 s.2.1 s.2.2.1 s.2.2.2.1 s.2.2.2.2.1 s.2.2.2.2.2.1 s.2.2.2.2.2.2.1 s.2.2.2.2.2.2.2.1 s.2.2.2.2.2.2.2.2.1 s.2.2.2.2.2.2.2.2.2.1 s.2.2.2.2.2.2.2.2.2.2) (fun n s hI hk => hs n s.1 s.2.1 s.2.2.1 s.2.2.2.1 s.2.2.2.2.1 s.2.2.2.2.2.1 s.2.2.2.2.2.2.1 s.2.2.2.2.2.2.2.1 s.2.2.2.2.2.2.2.2.1 s.2.2.2.2.2.2.2.2.2.1 s.2.2.2.2.2.2.2.2.2.2 hI (fun b1 b2 b3 b4 b5 b6 b7 b8 b9 b10 b11 h9 hm => hk (b1, b2, b3, b4, b5, b6, b7, b8, b9, b10, b11) h9 hm)) (a1, a2, a3, a4, a5, a6, a7, a8, a9, a10, a11) h
theorem lp12 {A1 A2 A3 A4 A5 A6 A7 A8 A9 A10 A11 A12 : Type} (W : Nat → A1 → A2 → A3 → A4 → A5 → A6 → A7 → A8 → A9 → A10 → A11 → A12 → Prop) (I : A1 → A2 → A3 → A4 → A5 → A6 → A7 → A8 → A9 → A10 → A11 → A12 → Prop) (μ : A1 → A2 → A3 → A4 → A5 → A6 → A7 → A8 → A9 → A10 → A11 → A12 → Nat) (hs : ∀ (n : Nat) (a1 : A1) (a2 : A2) (a3 : A3) (a4 : A4) (a5 : A5) (a6 : A6) (a7 : A7) (a8 : A8) (a9 : A9) (a10 : A10) (a11 : A11) (a12 : A12), I a1 a2 a3 a4 a5 a6 a7 a8 a9 a10 a11 a12 → (∀ (b1 : A1) (b2 : A2) (b3 : A3) (b4 : A4) (b5 : A5) (b6 : A6) (b7 : A7) (b8 : A8) (b9 : A9) (b10 : A10) (b11 : A11) (b12 : A12), I b1 b2 b3 b4 b5 b6 b7 b8 b9 b10 b11 b12 → μ b1 b2 b3 b4 b5 b6 b7 b8 b9 b10 b11 b12 < μ a1 a2 a3 a4 a5 a6 a7 a8 a9 a10 a11 a12 → W n b1 b2 b3 b4 b5 b6 b7 b8 b9 b10 b11 b12) → W (n + 1) a1 a2 a3 a4 a5 a6 a7 a8 a9 a10 a11 a12) (a1 : A1) (a2 : A2) (a3 : A3) (a4 : A4) (a5 : A5) (a6 : A6) (a7 : A7) (a8 : A8) (a9 : A9) (a10 : A10) (a11 : A11) (a12 : A12) (h : I a1 a2 a3 a4 a5 a6 a7 a8 a9 a10 a11 a12) : ∃ n, W n a1 a2 a3 a4 a5 a6 a7 a8 a9 a10 a11 a12 :=
  loop_m (σ := A1 × A2 × A3 × A4 × A5 × A6 × A7 × A8 × A9 × A10 × A11 × A12) (fun n s => W n s.1 s.2.1 s.2.2.1 s.2.2.2.1 s.2.2.2.2.1 s.2.2.2.2.2.1 s.2.2.2.2.2.2.1 s.2.2.2.2.2.2.2.1 s.2.2.2.2.2.2.2.2.1 s.2.2.2.2.2.2.2.2.2.1 s.2.2.2.2.2.2.2.2.2.2.1 s.2.2.2.2.2.2.2.2.2.2.2) (fun s => I s.1 s.2.1 s.2.2.1 s.2.2.2.1 s.2.2.2.2.1 s.2.2.2.2.2.1 s.2.2.2.2.2.2.1 s.2.2.2.2.2.2.2.1 s.2.2.2.2.2.2.2.2.1 s.2.2.2.2.2.2.2.2.2.1 s.2.2.2.2.2.2.2.2.2.2.1 s.2.2.2.2.2.2.2.2.2.2.2) (fun s => μ s.1 s.2.1 s.2.2.1 s.2.2.2.1 s.2.2.2.2.1 s.2.2.2.2.2.1 s.2.2.2.2.2.2.1 s.2.2.2.2.2.2.2.1 s.2.2.2.2.2.2.2.2.1 s.2.2.2.2.2.2.2.2.2.1 s.2.2.2.2.2.2.2.2.2.2.1 s.2.2.2.2.2.2.2.2.2.2.2) (fun n s hI hk => hs n s.1 s.2.1 s.2.2.1 s.2.2.2.1 s.2.2.2.2.1 s.2.2.2.2.2.1 s.2.2.2.2.2.2.1 s.2.2.2.2.2.2.2.1 s.2.2.2.2.2.2.2.2.1 s.2.2.2.2.2.2.2.2.2.1 s.2.2.2.2.2.2.2.2.2.2.1 s.2.2.2.2.2.2.2.2.2.2.2 hI (fun b1 b2 b3 b4 b5 b6 b7 b8 b9 b10 b11 b12 h9 hm => hk (b1, b2, b3, b4, b5, b6, b7, b8, b9, b10, b11, b12) h9 hm)) (a1, a2, a3, a4, a5, a6, a7, a8, a9, a10, a11, a12) h
theorem lp13 {A1 A2 A3 A4 A5 A6 A7 A8 A9 A10 A11 A12 A13 : Type} (W : Nat → A1 → A2 → A3 → A4 → A5 → A6 → A7 → A8 → A9 → A10 → A11 → A12 → A13 → Prop) (I : A1 → A2 → A3 → A4 → A5 → A6 → A7 → A8 → A9 → A10 → A11 → A12 → A13 → Prop) (μ : A1 → A2 → A3 → A4 → A5 → A6 → A7 → A8 → A9 → A10 → A11 → A12 → A13 → Nat) (hs : ∀ (n : Nat) (a1 : A1) (a2 : A2) (a3 : A3) (a4 : A4) (a5 : A5) (a6 : A6) (a7 : A7) (a8 : A8) (a9 : A9) (a10 : A10) (a11 : A11) (a12 : A12) (a13 : A13), I a1 a2 a3 a4 a5 a6 a7 a8 a9 a10 a11 a12 a13 → (∀ (b1 : A1) (b2 : A2) (b3 : A3) (b4 : A4) (b5 : A5) (b6 : A6) (b7 : A7) (b8 : A8) (b9 : A9) (b10 : A10) (b11 : A11) (b12 : A12) (b13 : A13), I b1 b2 b3 b4 b5 b6 b7 b8 b9 b10 b11 b12 b13 → μ b1 b2 b3 b4 b5 b6 b7 b8 b9 b10 b11 b12 b13 < μ a1 a2 a3 a4 a5 a6 a7 a8 a9 a10 a11 a12 a13 → W n b1 b2 b3 b4 b5 b6 b7 b8 b9 b10 b11 b12 b13) → W (n + 1) a1 a2 a3 a4 a5 a6 a7 a8 a9 a10 a11 a12 a13) (a1 : A1) (a2 : A2) (a3 : A3) (a4 : A4) (a5 : A5) (a6 : A6) (a7 : A7) (a8 : A8) (a9 : A9) (a10 : A10) (a11 : A11) (a12 : A12) (a13 : A13) (h : I a1 a2 a3 a4 a5 a6 a7 a8 a9 a10 a11 a12 a13) : ∃ n, W n a1 a2 a3 a4 a5 a6 a7 a8 a9 a10 a11 a12 a13 :=
  loop_m (σ := A1 × A2 × A3 × A4 × A5 × A6 × A7 × A8 × A9 × A10 × A11 × A12 × A13) (fun n s => W n s.1 s.2.1 s.2.2.1 s.2.2.2.1 s.2.2.2.2.1 s.2.2.2.2.2.1 s.2.2.2.2.2.2.1 s.2.2.2.2.2.2.2.1 s.2.2.2.2.2.2.2.2.1 s.2.2.2.2.2.2.2.2.2.1 s.2.2.2.2.2.2.2.2.2.2.1 s.2.2.2.2.2.2.2.2.2.2.2.1 s.2.2.2.2.2.2.2.2.2.2.2.2) (fun s => I s.1 s.2.1 s.2.2.1 s.2.2.2.1 s.2.2.2.2.1 s.2.2.2.2.2.1 s.2.2.2.2.2.2.1 s.2.2.2.2.2.2.2.1 s.2.2.2.2.2.2.2.2.1 s.2.2.2.2.2.2.2.2.2.1 s.2.2.2.2.2.2.2.2.2.2.1 s.2.2.2.2.2.2.2.2.2.2.2.1 s.2.2.2.2.2.2.2.2.2.2.2.2) (fun s => μ s.1 s.2.1 s.2.2.1 s.2.2.2.1 s.2.2.2.2.1 s.2.2.2.2.2.1 s.2.2.2.2.2.2.1 s.2.2.2.2.2.2.2.1 s.2.2.2.2.2.2.2.2.1 s.2.2.2.2.2.2.2.2.2.1 s.2.2.2.2.2.2.2.2.2.2.1 s.2.2.2.2.2.2.2.2.2.2.2.1 s.2.2.2.2.2.2.2.2.2.2.2.2) (fun n s hI hk => hs n s.1 s.2.1 s.2.2.1 s.2.2.2.1 s.2.2.2.2.1 s.2.2.2.2.2.1 s.2.2.2.2.2.2.1 s.2.2.2.2.2.2.2.1 s.2.2.2.2.2.2.2.2.1 s.2.2.2.2.2.2.2.2.2.1 s.2.2.2.2.2.2.2.2.2.2.1 s.2.2.2.2.2.2.2.2.2.2.2.1 s.2.2.2.2.2.2.2.2.2.2.2.2 hI (fun b1 b2 b3 b4 b5 b6 b7 b8 b9 b10 b11 b12 b13 h9 hm => hk (b1, b2, b3, b4, b5, b6, b7, b8, b9, b10, b11, b12, b13) h9 hm)) (a1, a2, a3, a4, a5, a6, a7, a8, a9, a10, a11, a12, a13) h
theorem lp14 {A1 A2 A3 A4 A5 A6 A7 A8 A9 A10 A11 A12 A13 A14 : Type} (W : Nat → A1 → A2 → A3 → A4 → A5 → A6 → A7 → A8 → A9 → A10 → A11 → A12 → A13 → A14 → Prop) (I : A1 → A2 → A3 → A4 → A5 → A6 → A7 → A8 → A9 → A10 → A11 → A12 → A13 → A14 → Prop) (μ : A1 → A2 → A3 → A4 → A5 → A6 → A7 → A8 → A9 → A10 → A11 → A12 → A13 → A14 → Nat) (hs : ∀ (n : Nat) (a1 : A1) (a2 : A2) (a3 : A3) (a4 : A4) (a5 : A5) (a6 : A6) (a7 : A7) (a8 : A8) (a9 : A9) (a10 : A10) (a11 : A11) (a12 : A12) (a13 : A13) (a14 : A14), I a1 a2 a3 a4 a5 a6 a7 a8 a9 a10 a11 a12 a13 a14 → (∀ (b1 : A1) (b2 : A2) (b3 : A3) (b4 : A4) (b5 : A5) (b6 : A6) (b7 : A7) (b8 : A8) (b9 : A9) (b10 : A10) (b11 : A11) (b12 : A12) (b13 : A13) (b14 : A14), I b1 b2 b3 b4 b5 b6 b7 b8 b9 b10 b11 b12 b13 b14 → μ b1 b2 b3 b4 b5 b6 b7 b8 b9 b10 b11 b12 b13 b14 < μ a1 a2 a3 a4 a5 a6 a7 a8 a9 a10 a11 a12 a13 a14 → W n b1 b2 b3 b4 b5 b6 b7 b8 b9 b10 b11 b12 b13 b14) → W (n + 1) a1 a2 a3 a4 a5 a6 a7 a8 a9 a10 a11 a12 a13 a14) (a1 : A1) (a2 : A2) (a3 : A3) (a4 : A4) (a5 : A5) (a6 : A6) (a7 : A7) (a8 : A8) (a9 : A9) (a10 : A10) (a11 : A11) (a12 : A12) (a13 : A13) (a14 : A14) (h : I a1 a2 a3 a4 a5 a6 a7 a8 a9 a10 a11 a12 a13 a14) : ∃ n, W n a1 a2 a3 a4 a5 a6 a7 a8 a9 a10 a11 a12 a13 a14 :=
  loop_m (σ := A1 × A2 × A3 × A4 × A5 × A6 × A7 × A8 × A9 × A10 × A11 × A12 × A13 × A14) (fun n s => W n s.1 s.2.1 s.2.2.1 s.2.2.2.1 s.2.2.2.2.1 s.2.2.2.2.2.1 s.2.2.2.2.2.2.1 s.2.2.2.2.2.2.2.1 s.2.2.2.2.2.2.2.2.1 s.2.2.2.2.2.2.2.2.2.1 s.2.2.2.2.2.2.2.2.2.2.1 s.2.2.2.2.2.2.2.2.2.2.2.1 s.2.2.2.2.2.2.2.2.2.2.2.2.1 s.2.2.2.2.2.2.2.2.2.2.2.2.2) (fun s => I s.1 s.2.1 s.2.2.1 s.2.2.2.1 s.2.2.2.2.1 s.2.2.2.2.2.1 s.2.2.2.2.2.2.1 s.2.2.2.2.2.2.2.1 s.2.2.2.2.2.2.2.2.1 s.2.2.2.2.2.2.2.2.2.1 s.2.2.2.2.2.2.2.2.2.2.1 s.2.2.2.2.2.2.2.2.2.2.2.1 s.2.2.2.2.2.2.2.2.2.2.2.2.1 s.2.2.2.2.2.2.2.2.2.2.2.2.2) (fun s => μ s.1 s.2.1 s.2.2.1 s.2.2.2.1 s.2.2.2.2.1 s.2.2.2.2.2.1 s.2.2.2.2.2.2.1 s.2.2.2.2.2.2.2.1 s.2.2.2.2.2.2.2.2.1 s.2.2.2.2.2.2.2.2.2.1 s.2.2.2.2.2.2.2.2.2.2.1 s.2.2.2.2.2.2.2.2.2.2.2.1 s.2.2.2.2.2.2.2.2.2.2.2.2.1 s.2.2.2.2.2.2.2.2.2.2.2.2.2) (fun n s hI hk => hs n s.1 s.2.1 s.2.2.1 s.2.2.2.1 s.2.2.2.2.1 s.2.2.2.2.2.1 s.2.2.2.2.2.2.1 s.2.2.2.2.2.2.2.1 s.2.2.2.2.2.2.2.2.1 s.2.2.2.2.2.2.2.2.2.1 s.2.2.2.2.2.2.2.2.2.2.1 s.2.2.2.2.2.2.2.2.2.2.2.1 s.2.2.2.2.2.2.2.2.2.2.2.2.1 s.2.2.2.2.2.2.2.2.2.2.2.2.2 hI (fun b1 b2 b3 b4 b5 b6 b7 b8 b9 b10 b11 b12 b13 b14 h9 hm => hk (b1, b2, b3, b4, b5, b6, b7, b8, b9, b10, b11, b12, b13, b14) h9 hm)) (a1, a2, a3, a4, a5, a6, a7, a8, a9, a10, a11, a12, a13, a14) h
theorem lp15 {A1 A2 A3 A4 A5 A6 A7 A8 A9 A10 A11 A12 A13 A14 A15 : Type} (W : Nat → A1 → A2 → A3 → A4 → A5 → A6 → A7 → A8 → A9 → A10 → A11 → A12 → A13 → A14 → A15 → Prop) (I : A1 → A2 → A3 → A4 → A5 → A6 → A7 → A8 → A9 → A10 → A11 → A12 → A13 → A14 → A15 → Prop) (μ : A1 → A2 → A3 → A4 → A5 → A6 → A7 → A8 → A9 → A10 → A11 → A12 → A13 → A14 → A15 → Nat) (hs : ∀ (n : Nat) (a1 : A1) (a2 : A2) (a3 : A3) (a4 : A4) (a5 : A5) (a6 : A6) (a7 : A7) (a8 : A8) (a9 : A9) (a10 : A10) (a11 : A11) (a12 : A12) (a13 : A13) (a14 : A14) (a15 : A15), I a1 a2 a3 a4 a5 a6 a7 a8 a9 a10 a11 a12 a13 a14 a15 → (∀ (b1 : A1) (b2 : A2) (b3 : A3) (b4 : A4) (b5 : A5) (b6 : A6) (b7 : A7) (b8 : A8) (b9 : A9) (b10 : A10) (b11 : A11) (b12 : A12) (b13 : A13) (b14 : A14) (b15 : A15), I b1 b2 b3 b4 b5 b6 b7 b8 b9 b10 b11 b12 b13 b14 b15 → μ b1 b2 b3 b4 b5 b6 b7 b8 b9 b10 b11 b12 b13 b14 b15 < μ a1 a2 a3 a4 a5 a6 a7 a8 a9 a10 a11 a12 a13 a14 a15 → W n b1 b2 b3 b4 b5 b6 b7 b8 b9 b10 b11 b12 b13 b14 b15) → W (n + 1) a1 a2 a3 a4 a5 a6 a7 a8 a9 a10 a11 a12 a13 a14 a15) (a1 : A1) (a2 : A2) (a3 : A3) (a4 : A4) (a5 : A5) (a6 : A6) (a7 : A7) (a8 : A8) (a9 : A9) (a10 : A10) (a11 : A11) (a12 : A12) (a13 : A13) (a14 : A14) (a15 : A15) (h : I a1 a2 a3 a4 a5 a6 a7 a8 a9 a10 a11 a12 a13 a14 a15) : ∃ n, W n a1 a2 a3 a4 a5 a6 a7 a8 a9 a10 a11 a12 a13 a14 a15 :=
  loop_m (σ := A1 × A2 × A3 × A4 × A5 × A6 × A7 × A8 × A9 × A10 × A11 × A12 × A13 × A14 × A15) (fun n s => W n s.1 s.2.1 s.2.2.1 s.2.2.2.1 s.2.2.2.2.1 s.2.2.2.2.2.1 s.2.2.2.2.2.2.1 s.2.2.2.2.2.2.2.1 s.2.2.2.2.2.2.2.2.1 s.2.2.2.2.2.2.2.2.2.1 s.2.2.2.2.2.2.2.2.2.2.1 s.2.2.2.2.2.2.2.2.2.2.2.1 s.2.2.2.2.2.2.2.2.2.2.2.2.1 s.2.2.2.2.2.2.2.2.2.2.2.2.2.1 s.2.2.2.2.2.2.2.2.2.2.2.2.2.2) (fun s => I s.1 s.2.1 s.2.2.1 s.2.2.2.1 s.2.2.2.2.1 s.2.2.2.2.2.1 s.2.2.2.2.2.2.1 s.2.2.2.2.2.2.2.1 s.2.2.2.2.2.2.2.2.1 s.2.2.2.2.2.2.2.2.2.1 s.2.2.2.2.2.2.2.2.2.2.1 s.2.2.2.2.2.2.2.2.2.2.2.1 s.2.2.2.2.2.2.2.2.2.2.2.2.1 s.2.2.2.2.2.2.2.2.2.2.2.2.2.1 s.2.2.2.2.2.2.2.2.2.2.2.2.2.2) (fun s => μ s.1 s.2.1 s.2.2.1 s.2.2.2.1 s.2.2.2.2.1 s.2.2.2.2.2.1 s.2.2.2.2.2.2.1 s.2.2.2.2.2.2.2.1 s.2.2.2.2.2.2.2.2.1 s.2.2.2.2.2.2.2.2.2.1 s.2.2.2.2.2.2.2.2.2.2.1 s.2.2.2.2.2.2.2.2.2.2.2.1 s.2.2.2.2.2.2.2.2.2.2.2.2.1 s.2.2.2.2.2.2.2.2.2.2.2.2.2.1 s.2.2.2.2.2.2.2.2.2.2.2.2.2.2) (fun n s hI hk => hs n s.1 s.2.1 s.2.2.1 s.2.2.2.1 s.2.2.2.2.1 s.2.2.2.2.2.1 s.2.2.2.2.2.2.1 s.2.2.2.2.2.2.2.1 s.2.2.2.2.2.2.2.2.1 s.2.2.2.2.2.2.2.2.2.1 s.2.2.2.2.2.2.2.2.2.2.1 s.2.2.2.2.2.2.2.2.2.2.2.1 s.2.2.2.2.2.2.2.2.2.2.2.2.1 s.2.2.2.2.2.2.2.2.2.2.2.2.2.1 s.2.2.2.2.2.2.2.2.2.2.2.2.2.2 hI (fun b1 b2 b3 b4 b5 b6 b7 b8 b9 b10 b11 b12 b13 b14 b15 h9 hm => hk (b1, b2, b3, b4, b5, b6, b7, b8, b9, b10, b11, b12, b13, b14, b15) h9 hm)) (a1, a2, a3, a4, a5, a6, a7, a8, a9, a10, a11, a12, a13, a14, a15) h
theorem lp16 {A1 A2 A3 A4 A5 A6 A7 A8 A9 A10 A11 A12 A13 A14 A15 A16 : Type} (W : Nat → A1 → A2 → A3 → A4 → A5 → A6 → A7 → A8 → A9 → A10 → A11 → A12 → A13 → A14 → A15 → A16 → Prop) (I : A1 → A2 → A3 → A4 → A5 → A6 → A7 → A8 → A9 → A10 → A11 → A12 → A13 → A14 → A15 → A16 → Prop) (μ : A1 → A2 → A3 → A4 → A5 → A6 → A7 → A8 → A9 → A10 → A11 → A12 → A13 → A14 → A15 → A16 → Nat) (hs : ∀ (n : Nat) (a1 : A1) (a2 : A2) (a3 : A3) (a4 : A4) (a5 : A5) (a6 : A6) (a7 : A7) (a8 : A8) (a9 : A9) (a10 : A10) (a11 : A11) (a12 : A12) (a13 : A13) (a14 : A14) (a15 : A15) (a16 : A16), I a1 a2 a3 a4 a5 a6 a7 a8 a9 a10 a11 a12 a13 a14 a15 a16 → (∀ (b1 : A1) (b2 : A2) (b3 : A3) (b4 : A4) (b5 : A5) (b6 : A6) (b7 : A7) (b8 : A8) (b9 : A9) (b10 : A10) (b11 : A11) (b12 : A12) (b13 : A13) (b14 : A14) (b15 : A15) (b16 : A16), I b1 b2 b3 b4 b5 b6 b7 b8 b9 b10 b11 b12 b13 b14 b15 b16 → μ b1 b2 b3 b4 b5 b6 b7 b8 b9 b10 b11 b12 b13 b14 b15 b16 < μ a1 a2 a3 a4 a5 a6 a7 a8 a9 a10 a11 a12 a13 a14 a15 a16 → W n b1 b2 b3 b4 b5 b6 b7 b8 b9 b10 b11 b12 b13 b14 b15 b16) → W (n + 1) a1 a2 a3 a4 a5 a6 a7 a8 a9 a10 a11 a12 a13 a14 a15 a16) (a1 : A1) (a2 : A2) (a3 : A3) (a4 : A4) (a5 : A5) (a6 : A6) (a7 : A7) (a8 : A8) (a9 : A9) (a10 : A10) (a11 : A11) (a12 : A12) (a13 : A13) (a14 : A14) (a15 : A15) (a16 : A16) (h : I a1 a2 a3 a4 a5 a6 a7 a8 a9 a10 a11 a12 a13 a14 a15 a16) : ∃ n, W n a1 a2 a3 a4 a5 a6 a7 a8 a9 a10 a11 a12 a13 a14 a15 a16 :=
  loop_m (σ := A1 × A2 × A3 × A4 × A5 × A6 × A7 × A8 × A9 × A10 × A11 × A12 × A13 × A14 × A15 × A16) (fun n s => W n s.1 s.2.1 s.2.2.1 s.2.2.2.1 s.2.2.2.2.1 s.2.2.2.2.2.1 s.2.2.2.2.2.2.1 s.2.2.2.2.2.2.2.1 s.2.2.2.2.2.2.2.2.1 s.2.2.2.2.2.2.2.2.2.1 s.2.2.2.2.2.2.2.2.2.2.1 s.2.2.2.2.2.2.2.2.2.2.2.1 s.2.2.2.2.2.2.2.2.2.2.2.2.1 s.2.2.2.2.2.2.2.2.2.2.2.2.2.1 s.2.2.2.2.2.2.2.2.2.2.2.2.2.2.1 s.2.2.2.2.2.2.2.2.2.2.2.2.2.2.2) (fun s => I s.1 s.2.1 s.2.2.1 s.2.2.2.1 s.2.2.2.2.1 s.2.2.2.2.2.1 s.2.2.2.2.2.2.1 s.2.2.2.2.2.2.2.1 s.2.2.2.2.2.2.2.2.1 s.2.2.2.2.2.2.2.2.2.1 s.2.2.2.2.2.2.2.2.2.2.1 s.2.2.2.2.2.2.2.2.2.2.2.1 s.2.2.2.2.2.2.2.2.2.2.2.2.1 s.2.2.2.2.2.2.2.2.2.2.2.2.2.1 s.2.2.2.2.2.2.2.2.2.2.2.2.2.2.1 s.2.2.2.2.2.2.2.2.2.2.2.2.2.2.2) (fun s => μ s.1 s.2.1 s.2.2.1 s.2.2.2.1 s.2.2.2.2.1 s.2.2.2.2.2.1 s.2.2.2.2.2.2.1 s.2.2.2.2.2.2.2.1 s.2.2.2.2.2.2.2.2.1 s.2.2.2.2.2.2.2.2.2.1 s.2.2.2.2.2.2.2.2.2.2.1 s.2.2.2.2.2.2.2.2.2.2.2.1 s.2.2.2.2.2.2.2.2.2.2.2.2.1 s.2.2.2.2.2.2.2.2.2.2.2.2.2.1 s.2.2.2.2.2.2.2.2.2.2.2.2.2.2.1 s.2.2.2.2.2.2.2.2.2.2.2.2.2.2.2) (fun n s hI hk => hs n s.1 s.2.1 s.2.2.1 s.2.2.2.1 s.2.2.2.2.1 s.2.2.2.2.2.1 s.2.2.2.2.2.2.1 s.2.2.2.2.2.2.2.1 s.2.2.2.2.2.2.2.2.1 s.2.2.2.2.2.2.2.2.2.1 s.2.2.2.2.2.2.2.2.2.2.1 s.2.2.2.2.2.2.2.2.2.2.2.1 s.2.2.2.2.2.2.2.2.2.2.2.2.1 s.2.2.2.2.2.2.2.2.2.2.2.2.2.1 s.2.2.2.2.2.2.2.2.2.2.2.2.2.2.1 s.2.2.2.2.2.2.2.2.2.2.2.2.2.2.2 hI (fun b1 b2 b3 b4 b5 b6 b7 b8 b9 b10 b11 b12 b13 b14 b15 b16 h9 hm => hk (b1, b2, b3, b4, b5, b6, b7, b8, b9, b10, b11, b12, b13, b14, b15, b16) h9 hm)) (a1, a2, a3, a4, a5, a6, a7, a8, a9, a10, a11, a12, a13, a14, a15, a16) h
theorem pk_least (P : Nat → Prop) (h : ∃ k, P k) : ∃ k, P k ∧ ∀ j, j < k → ¬ P j := by
  obtain ⟨k, hk⟩ := h
  induction k using Nat.strongRecOn with
  | ind k ih =>
    by_cases e : ∃ j, j < k ∧ P j
    · obtain ⟨j, hj, pj⟩ := e
      exact ih j hj pj
    · exact ⟨k, hk, fun j hj pj => e ⟨j, hj, pj⟩⟩
theorem rp1 {ρ A1 : Type} (W : Nat → (ρ → Prop) → A1 → Prop) (ok : A1 → Prop) (μ : A1 → Nat) (val : A1 → ρ)
    (hs : ∀ (d : Nat) (post : ρ → Prop) (a1 : A1), ok a1 → post (val a1) → (∀ (post' : ρ → Prop) (b1 : A1), ok b1 → μ b1 < μ a1 → post' (val b1) → W d post' b1) → W (d + 1) post a1) :
    ∀ (d : Nat) (post : ρ → Prop) (a1 : A1), ok a1 → μ a1 < d → post (val a1) → W d post a1 := by
  intro d
  induction d with
  | zero => intro post a1 _ h; omega
  | succ d ih =>
    intro post a1 ho hm hp
    exact hs d post a1 ho hp (fun post' b1 ho' hm' hp' => ih post' b1 ho' (by omega) hp')
theorem rp2 {ρ A1 A2 : Type} (W : Nat → (ρ → Prop) → A1 → A2 → Prop) (ok : A1 → A2 → Prop) (μ : A1 → A2 → Nat) (val : A1 → A2 → ρ)
    (hs : ∀ (d : Nat) (post : ρ → Prop) (a1 : A1) (a2 : A2), ok a1 a2 → post (val a1 a2) → (∀ (post' : ρ → Prop) (b1 : A1) (b2 : A2), ok b1 b2 → μ b1 b2 < μ a1 a2 → post' (val b1 b2) → W d post' b1 b2) → W (d + 1) post a1 a2) :
    ∀ (d : Nat) (post : ρ → Prop) (a1 : A1) (a2 : A2), ok a1 a2 → μ a1 a2 < d → post (val a1 a2) → W d post a1 a2 := by
  intro d
  induction d with
  | zero => intro post a1 a2 _ h; omega
  | succ d ih =>
    intro post a1 a2 ho hm hp
    exact hs d post a1 a2 ho hp (fun post' b1 b2 ho' hm' hp' => ih post' b1 b2 ho' (by omega) hp')
theorem rp3 {ρ A1 A2 A3 : Type} (W : Nat → (ρ → Prop) → A1 → A2 → A3 → Prop) (ok : A1 → A2 → A3 → Prop) (μ : A1 → A2 → A3 → Nat) (val : A1 → A2 → A3 → ρ)
    (hs : ∀ (d : Nat) (post : ρ → Prop) (a1 : A1) (a2 : A2) (a3 : A3), ok a1 a2 a3 → post (val a1 a2 a3) → (∀ (post' : ρ → Prop) (b1 : A1) (b2 : A2) (b3 : A3), ok b1 b2 b3 → μ b1 b2 b3 < μ a1 a2 a3 → post' (val b1 b2 b3) → W d post' b1 b2 b3) → W (d + 1) post a1 a2 a3) :
    ∀ (d : Nat) (post : ρ → Prop) (a1 : A1) (a2 : A2) (a3 : A3), ok a1 a2 a3 → μ a1 a2 a3 < d → post (val a1 a2 a3) → W d post a1 a2 a3 := by
  intro d
  induction d with
  | zero => intro post a1 a2 a3 _ h; omega
  | succ d ih =>
    intro post a1 a2 a3 ho hm hp
    exact hs d post a1 a2 a3 ho hp (fun post' b1 b2 b3 ho' hm' hp' => ih post' b1 b2 b3 ho' (by omega) hp')
theorem rp4 {ρ A1 A2 A3 A4 : Type} (W : Nat → (ρ → Prop) → A1 → A2 → A3 → A4 → Prop) (ok : A1 → A2 → A3 → A4 → Prop) (μ : A1 → A2 → A3 → A4 → Nat) (val : A1 → A2 → A3 → A4 → ρ)
    (hs : ∀ (d : Nat) (post : ρ → Prop) (a1 : A1) (a2 : A2) (a3 : A3) (a4 : A4), ok a1 a2 a3 a4 → post (val a1 a2 a3 a4) → (∀ (post' : ρ → Prop) (b1 : A1) (b2 : A2) (b3 : A3) (b4 : A4), ok b1 b2 b3 b4 → μ b1 b2 b3 b4 < μ a1 a2 a3 a4 → post' (val b1 b2 b3 b4) → W d post' b1 b2 b3 b4) → W (d + 1) post a1 a2 a3 a4) :
    ∀ (d : Nat) (post : ρ → Prop) (a1 : A1) (a2 : A2) (a3 : A3) (a4 : A4), ok a1 a2 a3 a4 → μ a1 a2 a3 a4 < d → post (val a1 a2 a3 a4) → W d post a1 a2 a3 a4 := by
  intro d
  induction d with
  | zero => intro post a1 a2 a3 a4 _ h; omega
  | succ d ih =>
    intro post a1 a2 a3 a4 ho hm hp
    exact hs d post a1 a2 a3 a4 ho hp (fun post' b1 b2 b3 b4 ho' hm' hp' => ih post' b1 b2 b3 b4 ho' (by omega) hp')
theorem rp5 {ρ A1 A2 A3 A4 A5 : Type} (W : Nat → (ρ → Prop) → A1 → A2 → A3 → A4 → A5 → Prop) (ok : A1 → A2 → A3 → A4 → A5 → Prop) (μ : A1 → A2 → A3 → A4 → A5 → Nat) (val : A1 → A2 → A3 → A4 → A5 → ρ)
    (hs : ∀ (d : Nat) (post : ρ → Prop) (a1 : A1) (a2 : A2) (a3 : A3) (a4 : A4) (a5 : A5), ok a1 a2 a3 a4 a5 → post (val a1 a2 a3 a4 a5) → (∀ (post' : ρ → Prop) (b1 : A1) (b2 : A2) (b3 : A3) (b4 : A4) (b5 : A5), ok b1 b2 b3 b4 b5 → μ b1 b2 b3 b4 b5 < μ a1 a2 a3 a4 a5 → post' (val b1 b2 b3 b4 b5) → W d post' b1 b2 b3 b4 b5) → W (d + 1) post a1 a2 a3 a4 a5) :
    ∀ (d : Nat) (post : ρ → Prop) (a1 : A1) (a2 : A2) (a3 : A3) (a4 : A4) (a5 : A5), ok a1 a2 a3 a4 a5 → μ a1 a2 a3 a4 a5 < d → post (val a1 a2 a3 a4 a5) → W d post a1 a2 a3 a4 a5 := by
  intro d
  induction d with
  | zero => intro post a1 a2 a3 a4 a5 _ h; omega
  | succ d ih =>
    intro post a1 a2 a3 a4 a5 ho hm hp
    exact hs d post a1 a2 a3 a4 a5 ho hp (fun post' b1 b2 b3 b4 b5 ho' hm' hp' => ih post' b1 b2 b3 b4 b5 ho' (by omega) hp')
theorem rp6 {ρ A1 A2 A3 A4 A5 A6 : Type} (W : Nat → (ρ → Prop) → A1 → A2 → A3 → A4 → A5 → A6 → Prop) (ok : A1 → A2 → A3 → A4 → A5 → A6 → Prop) (μ : A1 → A2 → A3 → A4 → A5 → A6 → Nat) (val : A1 → A2 → A3 → A4 → A5 → A6 → ρ)
    (hs : ∀ (d : Nat) (post : ρ → Prop) (a1 : A1) (a2 : A2) (a3 : A3) (a4 : A4) (a5 : A5) (a6 : A6), ok a1 a2 a3 a4 a5 a6 → post (val a1 a2 a3 a4 a5 a6) → (∀ (post' : ρ → Prop) (b1 : A1) (b2 : A2) (b3 : A3) (b4 : A4) (b5 : A5) (b6 : A6), ok b1 b2 b3 b4 b5 b6 → μ b1 b2 b3 b4 b5 b6 < μ a1 a2 a3 a4 a5 a6 → post' (val b1 b2 b3 b4 b5 b6) → W d post' b1 b2 b3 b4 b5 b6) → W (d + 1) post a1 a2 a3 a4 a5 a6) :
    ∀ (d : Nat) (post : ρ → Prop) (a1 : A1) (a2 : A2) (a3 : A3) (a4 : A4) (a5 : A5) (a6 : A6), ok a1 a2 a3 a4 a5 a6 → μ a1 a2 a3 a4 a5 a6 < d → post (val a1 a2 a3 a4 a5 a6) → W d post a1 a2 a3 a4 a5 a6 := by
  intro d
  induction d with
  | zero => intro post a1 a2 a3 a4 a5 a6 _ h; omega
  | succ d ih =>
    intro post a1 a2 a3 a4 a5 a6 ho hm hp
    exact hs d post a1 a2 a3 a4 a5 a6 ho hp (fun post' b1 b2 b3 b4 b5 b6 ho' hm' hp' => ih post' b1 b2 b3 b4 b5 b6 ho' (by omega) hp')
theorem rec_p {σ ρ : Type} (W : Nat → (ρ → Prop) → σ → Prop) (ok : σ → Prop) (μ : σ → Nat) (val : σ → ρ)
    (hs : ∀ d s post, ok s → post (val s) → (∀ s' post', ok s' → μ s' < μ s → post' (val s') → W d post' s') → W (d + 1) post s) :
    ∀ d s post, ok s → μ s < d → post (val s) → W d post s := by
  intro d
  induction d with
  | zero => intro s post _ h; omega
  | succ d ih =>
    intro s post ho hm hp
    exact hs d s post ho hp (fun s' post' ho' hm' hp' => ih s' post' ho' (by omega) hp')
theorem rec_q {σ ρ : Type} (W : Nat → (ρ → Prop) → σ → Prop) (ok : σ → Prop) (μ : σ → Nat) (Q : σ → ρ → Prop)
    (hs : ∀ d s post, ok s → (∀ r, Q s r → post r) → (∀ s' post', ok s' → μ s' < μ s → (∀ r, Q s' r → post' r) → W d post' s') → W (d + 1) post s) :
    ∀ d s post, ok s → μ s < d → (∀ r, Q s r → post r) → W d post s := by
  intro d
  induction d with
  | zero => intro s post _ h; omega
  | succ d ih =>
    intro s post ho hm hp
    exact hs d s post ho hp (fun s' post' ho' hm' hp' => ih s' post' ho' (by omega) hp')
def bx_sum (f : Nat → Int32) : Nat → Int32
  | 0 => 0
  | n + 1 => bx_sum f n + f n
theorem ek_u {A : Prop} {B : Nat → Prop} {k N : Nat} (hk : k < N) (h : B k) : (some k = none → A) ∧ (∀ y : Nat, some k = some y → (y < N ∧ B y)) :=
  ⟨fun z => absurd z (Option.some_ne_none k), fun _ e => (by cases e; exact ⟨hk, h⟩)⟩
theorem ek_nu {A : Prop} {B : Nat → Prop} (h : A) : ((none : Option Nat) = none → A) ∧ (∀ y : Nat, (none : Option Nat) = some y → B y) :=
  ⟨fun _ => h, fun _ e => (by cases e)⟩
theorem ek_if {c d A B : Prop} (e : c ↔ d) (f : d → A) (g : ¬ d → B) : (c → A) ∧ (¬ c → B) :=
  ⟨fun z => f (e.mp z), fun z => g (fun y => z (e.mpr y))⟩
theorem ek_v {α : Sort _} {P : α → Prop} {a b : α} (e : a = b) (h : P b) : P a := e ▸ h
theorem co_some {x : Option Nat} {A : Prop} {B : Nat → Prop} (i : Nat) (h : B i) (hx : x = some i := by rfl) : (x = none → A) ∧ (∀ y : Nat, x = some y → B y) := by
  subst hx
  exact ⟨fun e => (nomatch e), fun y e => Option.some.inj e ▸ h⟩
theorem co_none {x : Option Nat} {A : Prop} {B : Nat → Prop} (h : A) (hx : x = none := by rfl) : (x = none → A) ∧ (∀ y : Nat, x = some y → B y) := by
  subst hx
  exact ⟨fun _ => h, fun y e => (nomatch e)⟩
theorem co_any {x : Option Nat} {A : Prop} {B : Nat → Prop} (hn : x = none → A) (hs : ∀ i : Nat, x = some i → B i) : (x = none → A) ∧ (∀ y : Nat, x = some y → B y) := ⟨hn, hs⟩
theorem co_2 {P : Nat → Prop} (h0 : P 0) (h1 : P 1) {i : Nat} (hi : i < 2) : P i :=
  match i, hi with
  | 0, _ => h0
  | 1, _ => h1
theorem co_3 {P : Nat → Prop} (h0 : P 0) (h1 : P 1) (h2 : P 2) {i : Nat} (hi : i < 3) : P i :=
  match i, hi with
  | 0, _ => h0
  | 1, _ => h1
  | 2, _ => h2
theorem co_4 {P : Nat → Prop} (h0 : P 0) (h1 : P 1) (h2 : P 2) (h3 : P 3) {i : Nat} (hi : i < 4) : P i :=
  match i, hi with
  | 0, _ => h0
  | 1, _ => h1
  | 2, _ => h2
  | 3, _ => h3
theorem co_dec {N : Nat} {P : Nat → Prop} [DecidablePred P] (h : (List.range N).all (fun i => decide (P i)) = true) {i : Nat} (hi : i < N) : P i := by
  have := List.all_eq_true.mp h i (List.mem_range.mpr hi)
  exact of_decide_eq_true this
theorem co_tab {α : Type} {l : List α} {d : α} {P : α → Prop} (h : ∀ a, a ∈ l → P a) {i : Nat} (hi : i < l.length) : P (l.getD i d) := by
  rw [List.getD_eq_getElem?_getD, List.getElem?_eq_getElem hi]
  exact h _ (List.getElem_mem hi)
theorem pk_mu {x : Int32} {L : Nat} (h0 : ¬ x < 0) (h : ¬ nI L ≤ x) (hL : L < 2 ^ 31) : ∃ j : Nat, j < L ∧ x = nI j ∧ x + 1 = nI (j + 1) ∧ x.toNatClampNeg = j ∧ L - (x + 1).toNatClampNeg < L - x.toNatClampNeg := by
  obtain ⟨j, hj, rfl⟩ := nI_of h0
  have hl : j < L := Nat.not_le.mp fun q => h (nI_le q hj)
  refine ⟨j, hl, rfl, nI_1 j, nI_clamp hj, ?_⟩
  rw [nI_1, nI_clamp (by omega), nI_clamp hj]
  omega
theorem op_s {α : Type} {r : Option α} {A : Prop} {B : α → Prop} {y : α} (h : r = some y) (b : B y) : (r = none → A) ∧ ∀ z, r = some z → B z :=
  ⟨fun e => (by rw [h] at e; cases e), fun z e => (by rw [h] at e; cases e; exact b)⟩
def l_holds {α : Type} (a : Nat → Option Nat) (LP : List Nat) (p : Nat → α) (c : Nat) (b : Nat → α) : Prop :=
  ∀ j, j < c → ∃ y, a j = some y ∧ y ∈ LP ∧ p y = b j
theorem l_holds_0 {α : Type} {a : Nat → Option Nat} {LP : List Nat} {p b : Nat → α} : l_holds a LP p 0 b := fun j h => absurd h (Nat.not_lt_zero j)
theorem l_in_new (LP : List Nat) (q : Nat) : q ∈ LP ++ [q] := List.mem_append.mpr (Or.inr (List.mem_singleton.mpr rfl))
def l_sum (b : Nat → Int32) : Nat → Int32
  | 0 => 0
  | k + 1 => l_sum b k + b k
theorem sb_shr0 (x : Int32) : x >>> ((0 : Int32) &&& 31) = x := by
  rw [show ((0 : Int32) &&& 31) = 0 by decide]
  simp
theorem sb_shl0 (x : Int32) : x <<< ((0 : Int32) &&& 31) = x := by
  rw [show ((0 : Int32) &&& 31) = 0 by decide]
  simp
theorem sb_cl0 : (0 : Int32).toNatClampNeg = 0 := by decide
theorem sb_m1 {p : Nat} (h : 0 < p) : nI p + (-1) = nI (p - 1) := by
  obtain ⟨q, rfl⟩ : ∃ q, p = q + 1 := ⟨p - 1, by omega⟩
  exact pk_m1 q
def sb_b (c : Nat) : Int32 := (nI c).toInt8.toInt32
theorem sb_byte : ∀ c, c < 256 → sb_b c &&& 255 = nI c ∧ ((nI c).toUInt32 % 65536).toInt32 = nI c ∧ nI c ≤ 255 := by decide +kernel
def sb_Fit (a : Nat → Int32) : Prop := ∀ j, fits .byte (.int (a j)) = true
def sb_Lat (t : Nat → Nat) (n : Nat) (a : Nat → Int32) : Prop := ∀ j, j < n → t j < 256 ∧ a j = sb_b (t j)
theorem sb_fitB (c : Nat) : fits .byte (.int (sb_b c)) = true := pk_fb _
theorem sb_fit0 : sb_Fit (fun _ => 0) := fun _ => by
  show fits .byte (.int 0) = true
  decide
theorem sb_fitU {a : Nat → Int32} {k : Nat} {x : Int32} (h : sb_Fit a) (hx : fits .byte (.int x) = true) : sb_Fit (upd a k x) := by
  intro j
  by_cases e : j = k
  · subst e
    rw [pk_us]
    exact hx
  · rw [pk_un e]
    exact h j
def sb_cat (t : Nat → Nat) (n : Nat) (s : Nat → Nat) : Nat → Nat := fun j => if j < n then t j else s (j - n)
theorem sb_cat_lo {t s : Nat → Nat} {n j : Nat} (h : j < n) : sb_cat t n s j = t j := if_pos h
theorem sb_cat_hi {t s : Nat → Nat} {n j : Nat} : sb_cat t n s (n + j) = s j := by
  show (if n + j < n then t (n + j) else s (n + j - n)) = s j
  rw [if_neg (by omega), Nat.add_sub_cancel_left]
theorem sb_latPut {t s : Nat → Nat} {n w : Nat} {a a' : Nat → Int32} (h : sb_Lat t n a) (hk : ∀ j, j < n → a' j = a j) (hs : ∀ i, i < w → s i < 256 ∧ a' (n + i) = sb_b (s i)) : sb_Lat (sb_cat t n s) (n + w) a' := by
  intro j hj
  by_cases e : j < n
  · rw [sb_cat_lo e, hk j e]
    exact h j e
  · obtain ⟨i, rfl⟩ : ∃ i, j = n + i := ⟨j - n, by omega⟩
    rw [sb_cat_hi]
    exact hs i (by omega)
theorem sb_latKeep {t : Nat → Nat} {n : Nat} {a a' : Nat → Int32} (h : sb_Lat t n a) (hk : ∀ j, j < n → a' j = a j) : sb_Lat t n a' := fun j hj => by
  rw [hk j hj]
  exact h j hj
def sb_cap (q m : Nat) : Nat := if q ≤ m then m else if 2 * m + 2 < q then q else 2 * m + 2
def sb_Room (q m mc ms : Nat) : Prop := q ≤ m ∨ (1 ≤ mc ∧ sb_cap q m ≤ ms ∧ sb_cap q m ≤ 65536)
theorem sb_cap_ge (q m : Nat) : q ≤ sb_cap q m := by
  unfold sb_cap
  split
  · omega
  · split <;> omega
theorem sb_cap_gem (q m : Nat) : m ≤ sb_cap q m := by
  unfold sb_cap
  split
  · omega
  · split <;> omega
theorem sb_cap_le {q m mc ms : Nat} (hm : m ≤ 65536) (hr : sb_Room q m mc ms) : sb_cap q m ≤ 65536 := by
  rcases hr with h | h
  · rw [sb_cap, if_pos h]
    exact hm
  · exact h.2.2
theorem sb_at {P : Int32 → Prop} {x y : Int32} (e : x = y) (h : P y) : P x := e ▸ h
def sb_dg (w : Nat) : Nat := if w < 10 then 1 else if w < 100 then 2 else if w < 1000 then 3 else if w < 10000 then 4 else if w < 100000 then 5 else if w < 1000000 then 6 else if w < 10000000 then 7 else if w < 100000000 then 8 else if w < 1000000000 then 9 else 10
def sb_dec (v : Nat) : Nat → Nat := fun i => 48 + v / 10 ^ (sb_dg v - 1 - i) % 10
theorem sb_dg_in (w : Nat) : 1 ≤ sb_dg w ∧ sb_dg w ≤ 10 := by
  unfold sb_dg
  constructor <;> (repeat' split) <;> omega
theorem sb_dg100 {w : Nat} (h : 100 ≤ w) (hw : w < 2 ^ 31) : sb_dg w = sb_dg (w / 100) + 2 := by
  rw [sb_dg, sb_dg, if_neg (show ¬ w < 10 by omega), if_neg (show ¬ w < 100 by omega)]
  by_cases h3 : w < 1000
  · rw [if_pos h3, if_pos (show w / 100 < 10 by omega)]
  rw [if_neg h3, if_neg (show ¬ w / 100 < 10 by omega)]
  by_cases h4 : w < 10000
  · rw [if_pos h4, if_pos (show w / 100 < 100 by omega)]
  rw [if_neg h4, if_neg (show ¬ w / 100 < 100 by omega)]
  by_cases h5 : w < 100000
  · rw [if_pos h5, if_pos (show w / 100 < 1000 by omega)]
  rw [if_neg h5, if_neg (show ¬ w / 100 < 1000 by omega)]
  by_cases h6 : w < 1000000
  · rw [if_pos h6, if_pos (show w / 100 < 10000 by omega)]
  rw [if_neg h6, if_neg (show ¬ w / 100 < 10000 by omega)]
  by_cases h7 : w < 10000000
  · rw [if_pos h7, if_pos (show w / 100 < 100000 by omega)]
  rw [if_neg h7, if_neg (show ¬ w / 100 < 100000 by omega)]
  by_cases h8 : w < 100000000
  · rw [if_pos h8, if_pos (show w / 100 < 1000000 by omega)]
  rw [if_neg h8, if_neg (show ¬ w / 100 < 1000000 by omega)]
  by_cases h9 : w < 1000000000
  · rw [if_pos h9, if_pos (show w / 100 < 10000000 by omega)]
  rw [if_neg h9, if_neg (show ¬ w / 100 < 10000000 by omega)]
  rw [if_pos (show w / 100 < 100000000 by omega)]
theorem sb_negT {w : Nat} (h : w < 2 ^ 31) : (-nI w).toInt = -(w : Int) := by
  rw [Int32.toInt_neg, nI_toInt h]
  exact Int.bmod_eq_of_le (by omega) (by omega)
theorem sb_nle {a b : Nat} (ha : a < 2 ^ 31) (hb : b < 2 ^ 31) : -nI a ≤ -nI b ↔ b ≤ a := by
  rw [Int32.le_iff_toInt_le, sb_negT ha, sb_negT hb]
  omega
theorem sb_nlt {a b : Nat} (ha : a < 2 ^ 31) (hb : b < 2 ^ 31) : -nI a < -nI b ↔ b < a := by
  rw [Int32.lt_iff_toInt_lt, sb_negT ha, sb_negT hb]
  omega
theorem sb_cmp {A B : Prop} {x : Int32} (v c : Nat) (f : c ≤ v → A) (g : v < c → B) (hv : v < 2 ^ 31) (hx : x = -nI c := by rfl) (hc : c < 2 ^ 31 := by omega) : (-nI v ≤ x → A) ∧ (¬ -nI v ≤ x → B) := by
  subst hx
  rw [sb_nle hv hc]
  exact ⟨f, fun z => g (by omega)⟩
theorem sb_ndiv {w : Nat} (hw : w < 2 ^ 31) : (-nI w) / 100 = -nI (w / 100) := by
  apply Int32.toInt_inj.mp
  have h100 : (100 : Int32).toInt = 100 := by decide
  rw [Int32.toInt_div, sb_negT hw, h100, sb_negT (by omega), Int.neg_tdiv, Int.tdiv_eq_ediv_of_nonneg (by omega), Int.bmod_eq_of_le (by omega) (by omega)]
  omega
theorem sb_nrem {w : Nat} (hw : w < 2 ^ 31) : (-nI (w / 100)) * 100 - (-nI w) = nI (w % 100) := by
  have h := pk_rem (a := w) (d := 100) hw (by decide) (by decide)
  rw [pk_div hw (by decide) (by decide)] at h
  rw [← h]
  show (-nI (w / 100)) * nI 100 - (-nI w) = nI w - nI (w / 100) * nI 100
  rw [Int32.neg_mul, Int32.sub_neg, Int32.add_comm, ← Int32.sub_eq_add_neg]
end
section
/-! rows on bits, shifts and unsigned numbers, to paste: each family out of a closed proof of our own, whole with what it rests on; each by itself clean at Lean in its own claim (generation 39, form 5). Take a family whole -/
/-! ===== Int32 by its bits: bt x i ===== -/
def bt (x : Int32) (i : Nat) : Bool := x.toBitVec.getLsbD i
theorem b_ext {x y : Int32} (h : ∀ i, i < 32 → bt x i = bt y i) : x = y := Int32.toBitVec_inj.mp (BitVec.eq_of_getLsbD_eq (fun i hi => h i hi))
theorem b_or (x y : Int32) (i : Nat) : bt (x ||| y) i = (bt x i || bt y i) := by unfold bt; rw [Int32.toBitVec_or, BitVec.getLsbD_or]
theorem b_and (x y : Int32) (i : Nat) : bt (x &&& y) i = (bt x i && bt y i) := by unfold bt; rw [Int32.toBitVec_and, BitVec.getLsbD_and]
theorem b_xor (x y : Int32) (i : Nat) : bt (x ^^^ y) i = (bt x i ^^ bt y i) := by unfold bt; rw [Int32.toBitVec_xor, BitVec.getLsbD_xor]
theorem b_big {x : Int32} {i : Nat} (h : 32 ≤ i) : bt x i = false := BitVec.getLsbD_of_ge _ _ h
theorem b_255 (i : Nat) : bt 255 i = decide (i < 8) := by
  rcases Nat.lt_or_ge i 32 with h | h
  · exact (by decide +kernel : ∀ i, i < 32 → bt 255 i = decide (i < 8)) i h
  · rw [b_big h, decide_eq_false (by omega)]
theorem b_65535 (i : Nat) : bt 65535 i = decide (i < 16) := by
  rcases Nat.lt_or_ge i 32 with h | h
  · exact (by decide +kernel : ∀ i, i < 32 → bt 65535 i = decide (i < 16)) i h
  · rw [b_big h, decide_eq_false (by omega)]
theorem b_m1 : ∀ i, i < 32 → bt (-1) i = true := by decide +kernel
theorem b_0 (i : Nat) : bt 0 i = false := BitVec.getLsbD_zero
theorem s_l : ∀ n, n < 32 → ((nI n &&& 31).toBitVec.smod 32).toNat = n := by decide +kernel
theorem s_u : ∀ n, n < 32 → (((nI n).toUInt32 &&& Int32.toUInt32 31).toBitVec % 32).toNat = n := by decide +kernel
theorem b_shl (n : Nat) (hn : n < 32) (x : Int32) {i : Nat} (hi : i < 32) : bt (x <<< (nI n &&& 31)) i = (decide (n ≤ i) && bt x (i - n)) := by
  unfold bt
  rw [Int32.toBitVec_shiftLeft]
  show (x.toBitVec <<< ((nI n &&& 31).toBitVec.smod 32).toNat).getLsbD i = _
  rw [s_l n hn, BitVec.getLsbD_shiftLeft]
  rcases Nat.lt_or_ge i n with h | h
  · simp [h, Nat.not_le.mpr h]
  · simp [hi, h, Nat.not_lt.mpr h]
theorem b_ushr (n : Nat) (hn : n < 32) (x : Int32) (i : Nat) : bt ((x.toUInt32 >>> ((nI n).toUInt32 &&& Int32.toUInt32 31)).toInt32) i = bt x (n + i) := by
  show (x.toUInt32 >>> ((nI n).toUInt32 &&& Int32.toUInt32 31)).toBitVec.getLsbD i = x.toUInt32.toBitVec.getLsbD (n + i)
  rw [UInt32.toBitVec_shiftRight]
  show (x.toUInt32.toBitVec >>> (((nI n).toUInt32 &&& Int32.toUInt32 31).toBitVec % 32).toNat).getLsbD i = _
  rw [s_u n hn, BitVec.getLsbD_ushiftRight]
theorem b_sshr (n : Nat) (hn : n < 32) (x : Int32) {i : Nat} (hi : i < 32) : bt (x >>> (nI n &&& 31)) i = if n + i < 32 then bt x (n + i) else bt x 31 := by
  unfold bt
  rw [Int32.toBitVec_shiftRight]
  show (x.toBitVec.sshiftRight ((nI n &&& 31).toBitVec.smod 32).toNat).getLsbD i = _
  rw [s_l n hn, BitVec.getLsbD_sshiftRight, BitVec.msb_eq_getLsbD_last]
  simp [hi]
theorem b_shl8 (x : Int32) {i : Nat} (hi : i < 32) : bt (x <<< ((8 : Int32) &&& 31)) i = (decide (8 ≤ i) && bt x (i - 8)) := b_shl 8 (by omega) x hi
theorem b_shl16 (x : Int32) {i : Nat} (hi : i < 32) : bt (x <<< ((16 : Int32) &&& 31)) i = (decide (16 ≤ i) && bt x (i - 16)) := b_shl 16 (by omega) x hi
theorem b_shl24 (x : Int32) {i : Nat} (hi : i < 32) : bt (x <<< ((24 : Int32) &&& 31)) i = (decide (24 ≤ i) && bt x (i - 24)) := b_shl 24 (by omega) x hi
theorem b_sshr8 (x : Int32) {i : Nat} (hi : i < 32) : bt (x >>> ((8 : Int32) &&& 31)) i = if 8 + i < 32 then bt x (8 + i) else bt x 31 := b_sshr 8 (by omega) x hi
/-! ===== nI under and, xor, >>>, one bit, 65535 ===== -/
theorem nx_and (a b : Nat) : nI a &&& nI b = nI (a &&& b) := by
  apply Int32.toBitVec_inj.1
  show BitVec.ofNat 32 a &&& BitVec.ofNat 32 b = BitVec.ofNat 32 (a &&& b)
  apply BitVec.eq_of_getLsbD_eq
  intro i hi
  simp [hi]
theorem nx_xor (a b : Nat) : nI a ^^^ nI b = nI (a ^^^ b) := by
  apply Int32.toBitVec_inj.1
  show BitVec.ofNat 32 a ^^^ BitVec.ofNat 32 b = BitVec.ofNat 32 (a ^^^ b)
  apply BitVec.eq_of_getLsbD_eq
  intro i hi
  simp [hi]
theorem nx_cnt : ∀ j : Fin 32, (UInt32.ofNat j.val &&& Int32.toUInt32 31).toNat % 32 = j.val := by decide +kernel
theorem nx_ush {k j : Nat} (hk : k < 65536) (hj : j < 32) : ((nI k).toUInt32 >>> ((nI j).toUInt32 &&& Int32.toUInt32 31)).toInt32 = nI (k >>> j) := by
  have hs : k >>> j ≤ k := by
    rw [Nat.shiftRight_eq_div_pow]
    exact Nat.div_le_self _ _
  have e2 : UInt32.ofNat k >>> (UInt32.ofNat j &&& Int32.toUInt32 31) = UInt32.ofNat (k >>> j) := by
    apply UInt32.toNat_inj.1
    have h1 : (UInt32.ofNat k).toNat = k := Nat.mod_eq_of_lt (by omega)
    have h2 : (UInt32.ofNat (k >>> j)).toNat = k >>> j := Nat.mod_eq_of_lt (by omega)
    rw [UInt32.toNat_shiftRight, nx_cnt ⟨j, hj⟩, h1, h2]
  show (UInt32.ofNat k >>> (UInt32.ofNat j &&& Int32.toUInt32 31)).toInt32 = _
  rw [e2]
  rfl
theorem nx_bit {k j : Nat} (hk : k < 65536) (hj : j < 16) : (((nI k).toUInt32 >>> ((nI j).toUInt32 &&& Int32.toUInt32 31)).toInt32 &&& 1) = 0 ↔ k.testBit j = false := by
  rw [nx_ush hk (by omega)]
  show nI (k >>> j) &&& nI 1 = 0 ↔ _
  rw [nx_and, Nat.and_one_is_mod, ← nI_0, nI_eq (by omega) (by omega), Nat.testBit_eq_decide_div_mod_eq, Nat.shiftRight_eq_div_pow, decide_eq_false_iff_not]
  generalize k / 2 ^ j = z
  omega
theorem nx_mod (k : Nat) : nI k &&& 65535 = nI (k % 65536) := by
  show nI k &&& nI 65535 = _
  rw [nx_and, show (65535 : Nat) = 2 ^ 16 - 1 from rfl, Nat.and_two_pow_sub_one_eq_mod]
theorem nx_m16 {k : Nat} (h : k < 65536) : nI k &&& 65535 = nI k := by rw [nx_mod, Nat.mod_eq_of_lt h]
theorem nx_mask (x : Int32) : ∃ k, k < 65536 ∧ x &&& 65535 = nI k := by
  have e : x = nI x.toBitVec.toNat := by
    apply Int32.toBitVec_inj.1
    show x.toBitVec = BitVec.ofNat 32 x.toBitVec.toNat
    simp
  refine ⟨x.toBitVec.toNat % 65536, Nat.mod_lt _ (by omega), ?_⟩
  rw [← nx_mod, ← e]
/-! ===== Int32 as a set of bits: test, set ===== -/
def nf_M (m : Int32) : Nat := 4294967296 - m.toBitVec.toNat
theorem nf_sh : ∀ l, l < 32 → ((1 : Int32) <<< (nI l &&& 31)).toBitVec = BitVec.twoPow 32 l := by decide +kernel
theorem nf_sl : ∀ l, l < 32 → (((nI l).toUInt32 &&& Int32.toUInt32 31).toBitVec % 32).toNat = l := by decide +kernel
theorem nf_tp : ∀ l, l < 32 → BitVec.twoPow 32 l ≠ 0#32 := by decide +kernel
theorem nf_bit (m : Int32) (l : Nat) (hl : l < 32) : ((m.toUInt32 >>> ((nI l).toUInt32 &&& Int32.toUInt32 31)).toInt32 &&& 1) = 0 ↔ (m &&& ((1 : Int32) <<< (nI l &&& 31))) = 0 := by
  have e : ((m.toUInt32 >>> ((nI l).toUInt32 &&& Int32.toUInt32 31)).toInt32).toBitVec = m.toBitVec >>> l := by
    show m.toBitVec >>> (((nI l).toUInt32 &&& Int32.toUInt32 31).toBitVec % 32) = m.toBitVec >>> l
    rw [BitVec.ushiftRight_eq', nf_sl l hl]
  rw [← Int32.toBitVec_inj, ← Int32.toBitVec_inj, Int32.toBitVec_and, Int32.toBitVec_and, nf_sh l hl, e, BitVec.and_twoPow]
  show (m.toBitVec >>> l &&& 1#32) = 0#32 ↔ _ = 0#32
  rw [BitVec.and_one_eq_setWidth_ofBool_getLsbD, BitVec.getLsbD_ushiftRight, Nat.add_zero]
  cases hb : m.toBitVec.getLsbD l
  · exact ⟨fun _ => by simp, fun _ => by decide⟩
  · exact ⟨fun z => absurd z (by decide), fun z => absurd ((if_pos rfl).symm.trans z) (nf_tp l hl)⟩
theorem nf_gr (m k : Int32) (h : m &&& k = 0) (hk : k ≠ 0) : nf_M (m ||| k) < nf_M m := by
  have hm := m.toBitVec.isLt
  have hm' := (m ||| k).toBitVec.isLt
  have h1 : m.toBitVec.toNat ≤ (m ||| k).toBitVec.toNat := by
    rw [Int32.toBitVec_or, BitVec.toNat_or]
    exact Nat.left_le_or
  have h2 : m.toBitVec.toNat ≠ (m ||| k).toBitVec.toNat := by
    intro e
    have e2 : m = m ||| k := Int32.toBitVec_inj.mp (BitVec.eq_of_toNat_eq e)
    apply hk
    apply Int32.toBitVec_inj.mp
    show k.toBitVec = 0#32
    apply BitVec.eq_of_getLsbD_eq
    intro i hi
    have a : m.toBitVec.getLsbD i = (m.toBitVec.getLsbD i || k.toBitVec.getLsbD i) := by rw [← BitVec.getLsbD_or, ← Int32.toBitVec_or, ← e2]
    have b : (m.toBitVec.getLsbD i && k.toBitVec.getLsbD i) = false := by
      rw [← BitVec.getLsbD_and, ← Int32.toBitVec_and, h]
      exact BitVec.getLsbD_zero
    rw [BitVec.getLsbD_zero]
    revert a b
    cases m.toBitVec.getLsbD i <;> cases k.toBitVec.getLsbD i <;> simp
  unfold nf_M
  omega
/-! ===== a byte read unsigned ===== -/
theorem bp_b (x : Int32) : x.toInt8.toInt32 &&& 255 = x &&& 255 := by
  apply Int32.toBitVec_inj.mp
  rw [Int32.toBitVec_and, Int32.toBitVec_and, Int8.toBitVec_toInt32, Int32.toBitVec_toInt8]
  apply BitVec.eq_of_getLsbD_eq
  intro i hi
  rw [BitVec.getLsbD_and, BitVec.getLsbD_and]
  have hm : ∀ i < 32, 8 ≤ i → (255 : Int32).toBitVec.getLsbD i = false := by decide
  rcases Nat.lt_or_ge i 8 with z | z
  · rw [BitVec.getLsbD_signExtend, BitVec.getLsbD_signExtend, if_pos z, if_pos hi]
    simp only [z, hi, decide_true, Bool.true_and]
  · rw [hm i hi z]; simp
/-! ===== the char cast and 65535 ===== -/
theorem em_w (v : Int32) : ∃ w : Nat, w < 65536 ∧ (v.toUInt32 % 65536).toInt32 = nI w ∧ v &&& 65535 = nI w := by
  have hr := lw_u16_r v
  have h0 : (0 : Int32).toInt = 0 := by decide
  obtain ⟨w, h1, h2⟩ := nI_of (x := lw_u16 v) (by rw [Int32.lt_iff_toInt_lt]; omega)
  have h3 : (v.toUInt32 % 65536).toInt32 = nI w := h2
  rw [h2, nI_toInt h1] at hr
  exact ⟨w, by omega, h3, by rw [← lg_i2c_mask, ← lg_i2c_nf, h3]⟩
/-! ===== Int64 as a set of bits: test, set, clear ===== -/
theorem ts_nf {x : Bool} (h : ¬ x = false) : x = true := by cases x <;> first | rfl | exact absurd rfl h
theorem ts_nt {x : Bool} (h : ¬ x = true) : x = false := by cases x <;> first | rfl | exact absurd rfl h
theorem ts_bit {w : Int64} {s : UInt64} {j : Nat} (hj : j < 64) (hs : s.toNat = j) : ((w.toUInt64 >>> s).toInt64 &&& 1) = 0 ↔ w.toBitVec.getLsbD j = false := by
  have e : (w.toUInt64 >>> s).toInt64.toBitVec = w.toBitVec >>> j := by
    apply BitVec.eq_of_toNat_eq
    show (w.toUInt64 >>> s).toNat = _
    rw [UInt64.toNat_shiftRight, hs, Nat.mod_eq_of_lt hj, BitVec.toNat_ushiftRight]
    rfl
  rw [← Int64.toBitVec_inj, Int64.toBitVec_and, e]
  show w.toBitVec >>> j &&& 1#64 = 0#64 ↔ _
  constructor
  · intro h
    have t := congrArg (fun x => x.getLsbD 0) h
    simpa using t
  · intro h
    apply BitVec.eq_of_getLsbD_eq
    intro i hi
    cases i with
    | zero => simp [h]
    | succ i => simp
theorem ts_or {w m : Int64} {j : Nat} (hj : j < 64) (hm : m.toBitVec = BitVec.twoPow 64 j) : (w ||| m) = w ↔ w.toBitVec.getLsbD j = true := by
  rw [← Int64.toBitVec_inj, Int64.toBitVec_or, hm]
  constructor
  · intro h
    have t := congrArg (fun x => x.getLsbD j) h
    simp only [BitVec.getLsbD_or, BitVec.getLsbD_twoPow] at t
    simpa [hj] using t.symm
  · intro h
    apply BitVec.eq_of_getLsbD_eq
    intro i hi
    rw [BitVec.getLsbD_or, BitVec.getLsbD_twoPow]
    by_cases e : j = i
    · subst e; rw [h, Bool.true_or]
    · simp [e]
theorem ts_and {w m : Int64} {j : Nat} (hj : j < 64) (hm : m.toBitVec = BitVec.twoPow 64 j) : (w &&& (m ^^^ (-1))) = w ↔ w.toBitVec.getLsbD j = false := by
  have ha : (-1 : Int64).toBitVec = BitVec.allOnes 64 := by decide
  rw [← Int64.toBitVec_inj, Int64.toBitVec_and, Int64.toBitVec_xor, hm, ha]
  constructor
  · intro h
    have t := congrArg (fun x => x.getLsbD j) h
    simp only [BitVec.getLsbD_and, BitVec.getLsbD_xor, BitVec.getLsbD_twoPow, BitVec.getLsbD_allOnes] at t
    simpa [hj] using t.symm
  · intro h
    apply BitVec.eq_of_getLsbD_eq
    intro i hi
    rw [BitVec.getLsbD_and, BitVec.getLsbD_xor, BitVec.getLsbD_twoPow, BitVec.getLsbD_allOnes]
    by_cases e : j = i
    · subst e; rw [h, Bool.false_and]
    · simp [e, hi]
/-! ===== lN n to 2^64: shifts, and, or, masks, one bit ===== -/
theorem wb_tb (n : Nat) : (lN n).toBitVec = BitVec.ofNat 64 n := rfl
theorem wb_inj {a b : Int64} (h : a.toBitVec = b.toBitVec) : a = b := Int64.toBitVec_inj.mp h
theorem wb_tn {n : Nat} (h : n < 2 ^ 64) : (lN n).toBitVec.toNat = n := by rw [wb_tb, BitVec.toNat_ofNat, Nat.mod_eq_of_lt h]
theorem wb_of (x : Int64) : ∃ n, n < 2 ^ 64 ∧ x = lN n := ⟨x.toBitVec.toNat, x.toBitVec.isLt, wb_inj (by rw [wb_tb]; simp)⟩
theorem wb_of32 (x : Int32) : ∃ n, n < 2 ^ 32 ∧ x = nI n := ⟨x.toBitVec.toNat, x.toBitVec.isLt, Int32.toBitVec_inj.mp (by show _ = BitVec.ofNat 32 _; simp)⟩
theorem wb_c : ∀ k, k < 64 → ((nI k).toInt64 &&& 63) = lN k := by decide +kernel
theorem wb_cu : ∀ k, k < 64 → ((nI k).toInt64.toUInt64 &&& Int64.toUInt64 63) = UInt64.ofNat k := by decide +kernel
theorem wb_sm : ∀ k, k < 64 → (BitVec.ofNat 64 k).smod 64 = BitVec.ofNat 64 k := by decide +kernel
theorem wb_pw {a b : Nat} (h : a ≤ b) : 2 ^ b = 2 ^ a * 2 ^ (b - a) := by rw [← Nat.pow_add]; congr 1; omega
theorem wb_lt2 {a b : Nat} (h : a < b) : 2 ^ a < 2 ^ b := Nat.pow_lt_pow_right (by decide) h
theorem wb_mod (n : Nat) : lN n = lN (n % 2 ^ 64) := wb_inj (by rw [wb_tb, wb_tb]; apply BitVec.eq_of_toNat_eq; rw [BitVec.toNat_ofNat, BitVec.toNat_ofNat, Nat.mod_mod])
theorem wb_shr {n k : Nat} (hn : n < 2 ^ 64) (hk : k < 64) : ((lN n).toUInt64 >>> ((nI k).toInt64.toUInt64 &&& Int64.toUInt64 63)).toInt64 = lN (n / 2 ^ k) := by
  rw [wb_cu k hk]
  apply wb_inj
  apply BitVec.eq_of_toNat_eq
  show ((lN n).toUInt64 >>> UInt64.ofNat k).toNat = (BitVec.ofNat 64 _).toNat
  have h1 : (UInt64.ofNat k).toNat = k := by
    show (BitVec.ofNat 64 k).toNat = k
    rw [BitVec.toNat_ofNat, Nat.mod_eq_of_lt (by omega)]
  have h2 : (lN n).toUInt64.toNat = n := wb_tn hn
  rw [UInt64.toNat_shiftRight, h1, h2, Nat.mod_eq_of_lt hk, Nat.shiftRight_eq_div_pow, BitVec.toNat_ofNat, Nat.mod_eq_of_lt (Nat.lt_of_le_of_lt (Nat.div_le_self _ _) hn)]
theorem wb_shl (n : Nat) {k : Nat} (hk : k < 64) : lN n <<< ((nI k).toInt64 &&& 63) = lN (n * 2 ^ k) := by
  rw [wb_c k hk]
  apply wb_inj
  rw [Int64.toBitVec_shiftLeft, wb_tb, wb_tb, wb_tb, wb_sm k hk]
  apply BitVec.eq_of_toNat_eq
  rw [BitVec.shiftLeft_eq', BitVec.toNat_shiftLeft, BitVec.toNat_ofNat, BitVec.toNat_ofNat, BitVec.toNat_ofNat, Nat.mod_eq_of_lt (show k < 2 ^ 64 by omega), Nat.shiftLeft_eq, Nat.mul_mod, Nat.mod_mod, ← Nat.mul_mod]
theorem wb_and {a b : Nat} (ha : a < 2 ^ 64) (hb : b < 2 ^ 64) : lN a &&& lN b = lN (a &&& b) := by
  apply wb_inj
  rw [Int64.toBitVec_and, wb_tb, wb_tb, wb_tb]
  apply BitVec.eq_of_toNat_eq
  rw [BitVec.toNat_and, BitVec.toNat_ofNat, BitVec.toNat_ofNat, BitVec.toNat_ofNat, Nat.mod_eq_of_lt ha, Nat.mod_eq_of_lt hb, Nat.mod_eq_of_lt (Nat.and_lt_two_pow _ hb)]
theorem wb_or {a b : Nat} (ha : a < 2 ^ 64) (hb : b < 2 ^ 64) : lN a ||| lN b = lN (a ||| b) := by
  apply wb_inj
  rw [Int64.toBitVec_or, wb_tb, wb_tb, wb_tb]
  apply BitVec.eq_of_toNat_eq
  rw [BitVec.toNat_or, BitVec.toNat_ofNat, BitVec.toNat_ofNat, BitVec.toNat_ofNat, Nat.mod_eq_of_lt ha, Nat.mod_eq_of_lt hb, Nat.mod_eq_of_lt (Nat.or_lt_two_pow ha hb)]
theorem wb_mask {n k : Nat} (hn : n < 2 ^ 64) (hk : k < 64) : lN n &&& lN (2 ^ k - 1) = lN (n % 2 ^ k) := by
  rw [wb_and hn (by have := wb_lt2 hk; omega), Nat.and_two_pow_sub_one_eq_mod]
theorem wb_a1 {n : Nat} (hn : n < 2 ^ 64) : lN n &&& 1 = lN (n % 2) := wb_mask (k := 1) hn (by decide)
theorem wb_bit {n k : Nat} (hn : n < 2 ^ 64) (hk : k < 64) : ((lN n).toUInt64 >>> ((nI k).toInt64.toUInt64 &&& Int64.toUInt64 63)).toInt64 &&& 1 = lN (n / 2 ^ k % 2) := by
  rw [wb_shr hn hk, wb_a1 (Nat.lt_of_le_of_lt (Nat.div_le_self _ _) hn)]
theorem wb_xor {q k : Nat} (hk : k < 63) (h : 2 ^ k ≤ q) (h2 : q < 2 ^ (k + 1)) : lN q ^^^ lN (2 ^ k) = lN (q - 2 ^ k) := by
  obtain ⟨r, rfl⟩ : ∃ r, q = 2 ^ k + r := ⟨q - 2 ^ k, by omega⟩
  have hr : r < 2 ^ k := by rw [Nat.pow_succ] at h2; omega
  have hx : (2 ^ k + r) ^^^ 2 ^ k = r := by
    apply Nat.eq_of_testBit_eq
    intro i
    rw [Nat.testBit_xor, Nat.testBit_two_pow]
    rcases Nat.lt_trichotomy i k with h | h | h
    · rw [Nat.testBit_two_pow_add_gt h]
      simp [show ¬ k = i by omega]
    · subst h
      rw [Nat.testBit_two_pow_add_eq]
      simp
    · have a1 : 2 ^ (k + 1) ≤ 2 ^ i := Nat.pow_le_pow_right (by decide) h
      rw [Nat.testBit_lt_two_pow (show 2 ^ k + r < 2 ^ i by omega), Nat.testBit_lt_two_pow (show r < 2 ^ i by omega)]
      simp [show ¬ k = i by omega]
  have b1 := wb_lt2 (show k + 1 < 64 by omega)
  have b2 := wb_lt2 (show k < 64 by omega)
  apply wb_inj
  rw [Int64.toBitVec_xor, wb_tb, wb_tb, wb_tb]
  apply BitVec.eq_of_toNat_eq
  rw [BitVec.toNat_xor, BitVec.toNat_ofNat, BitVec.toNat_ofNat, BitVec.toNat_ofNat, Nat.mod_eq_of_lt (by omega : 2 ^ k + r < 2 ^ 64), Nat.mod_eq_of_lt b2, hx, Nat.add_sub_cancel_left, Nat.mod_eq_of_lt (by omega)]
/-! ===== lN: masks, 'or' of parts that don't overlap is a sum ===== -/
theorem u_tn {n : Nat} (h : n < 2 ^ 64) : (UInt64.ofNat n).toNat = n := Nat.mod_eq_of_lt h
theorem g_and {a b c : Nat} (ha : a < 2 ^ 64) (hb : b < 2 ^ 64) (hc : a &&& b = c) : lN a &&& lN b = lN c := by
  subst hc
  have h : UInt64.ofNat a &&& UInt64.ofNat b = UInt64.ofNat (a &&& b) := UInt64.toNat_inj.mp (by rw [UInt64.toNat_and, u_tn ha, u_tn hb, u_tn (Nat.and_lt_two_pow a hb)])
  have h2 := congrArg UInt64.toInt64 h
  exact h2
theorem g_and1 {a : Nat} (ha : a < 2 ^ 64) : lN a &&& 1 = lN (a % 2) := g_and (b := 1) ha (by decide) (Nat.and_two_pow_sub_one_eq_mod a 1)
theorem g_mask {a s p : Nat} (hp : 2 ^ s = p) (hs : s < 64) (ha : a < 2 ^ 64) : lN a &&& lN (p - 1) = lN (a % p) := by
  subst hp
  have := Nat.pow_lt_pow_right (show 1 < 2 by decide) hs
  exact g_and ha (by omega) (Nat.and_two_pow_sub_one_eq_mod a s)
theorem g_or {k p a b : Nat} (hp : 2 ^ k = p) (ha : a < p) (h : b * p + a < 2 ^ 64) : lN (b * p) ||| lN a = lN (b * p + a) := by
  subst hp
  have h1 : b * 2 ^ k ||| a = b * 2 ^ k + a := by rw [← Nat.shiftLeft_eq, Nat.shiftLeft_add_eq_or_of_lt ha]
  have h3 : UInt64.ofNat (b * 2 ^ k) ||| UInt64.ofNat a = UInt64.ofNat (b * 2 ^ k + a) := UInt64.toNat_inj.mp (by rw [UInt64.toNat_or, u_tn (by omega), u_tn (by omega), u_tn h, h1])
  have h2 := congrArg UInt64.toInt64 h3
  exact h2
theorem g_or' {k p a b : Nat} (hp : 2 ^ k = p) (ha : a < p) (h : a + b * p < 2 ^ 64) : lN a ||| lN (b * p) = lN (a + b * p) := by
  rw [Int64.or_comm, g_or hp ha (by omega), Nat.add_comm]
theorem g_ushr {a k p : Nat} {y : UInt64} (hy : y = UInt64.ofNat k) (hk : k < 64) (hp : 2 ^ k = p) (ha : a < 2 ^ 64) : ((lN a).toUInt64 >>> y).toInt64 = lN (a / p) := by
  subst hy hp
  have h : UInt64.ofNat a >>> UInt64.ofNat k = UInt64.ofNat (a / 2 ^ k) := UInt64.toNat_inj.mp (by rw [UInt64.toNat_shiftRight, u_tn ha, u_tn (by omega), u_tn (Nat.lt_of_le_of_lt (Nat.div_le_self _ _) ha), Nat.mod_eq_of_lt hk, Nat.shiftRight_eq_div_pow])
  have h2 := congrArg UInt64.toInt64 h
  exact h2
theorem g_shl {a k p : Nat} {y : Int64} (hy : y.toBitVec.smod 64 = BitVec.ofNat 64 k) (hk : k < 64) (hp : 2 ^ k = p) (ha : a < 2 ^ 64) : lN a <<< y = lN (a * p) := by
  subst hp
  apply Int64.toBitVec_inj.mp
  rw [Int64.toBitVec_shiftLeft, hy]
  apply BitVec.eq_of_toNat_eq
  have hb : (lN a).toBitVec.toNat = a := Nat.mod_eq_of_lt ha
  have hk' : (BitVec.ofNat 64 k).toNat = k := Nat.mod_eq_of_lt (by omega)
  have h : ((lN a).toBitVec <<< BitVec.ofNat 64 k).toNat = (a * 2 ^ k) % 2 ^ 64 := by simp only [BitVec.shiftLeft_eq', BitVec.toNat_shiftLeft, hb, hk', Nat.shiftLeft_eq]
  exact h
/-! ===== lN to 2^62 under >> and >>> ===== -/
theorem pf_lI {a : Nat} (h : a < 2 ^ 63) : (lN a).toInt = (a : Int) := lg_ofNat_toInt h
theorem pf_shr {a d : Nat} {D : Int64} (hD : (D.toBitVec.smod 64).toNat = d) (h : a < 2 ^ 62) : lN a >>> D = lN (a / 2 ^ d) := by
  have hd : a / 2 ^ d ≤ a := Nat.div_le_self _ _
  apply Int64.toInt_inj.mp
  have e : (lN a >>> D).toInt = (lN a).toInt >>> d := by
    rw [← hD]
    exact BitVec.toInt_sshiftRight ..
  rw [e, Int.shiftRight_eq_div_pow, pf_lI (by omega), pf_lI (by omega)]
  rfl
theorem pf_ushr {a d : Nat} {D : UInt64} (hD : D.toNat % 64 = d) (h : a < 2 ^ 62) : ((lN a).toUInt64 >>> D).toInt64 = lN (a / 2 ^ d) := by
  have hd : a / 2 ^ d ≤ a := Nat.div_le_self _ _
  have e : (lN a).toUInt64 >>> D = UInt64.ofNat (a / 2 ^ d) := UInt64.toNat_inj.mp (by
    rw [UInt64.toNat_shiftRight, hD, Nat.shiftRight_eq_div_pow, UInt64.toNat_ofNat']
    show (UInt64.ofNat a).toNat / 2 ^ d = _
    rw [UInt64.toNat_ofNat', Nat.mod_eq_of_lt (by omega), Nat.mod_eq_of_lt (by omega)])
  rw [e]
  rfl
theorem pf_andw (x : Int64) : ∃ m, m < 2 ^ 32 ∧ x &&& 4294967295 = lN m := ⟨x.toBitVec.toNat % 2 ^ 32, Nat.mod_lt _ (by decide), Int64.toBitVec_inj.mp (BitVec.eq_of_toNat_eq (by
  show (x.toBitVec &&& 4294967295#64).toNat = (BitVec.ofNat 64 (x.toBitVec.toNat % 2 ^ 32)).toNat
  rw [BitVec.toNat_and, show (4294967295#64).toNat = 2 ^ 32 - 1 from by decide, Nat.and_two_pow_sub_one_eq_mod, BitVec.toNat_ofNat]
  omega))⟩
/-! ===== Int64 as an unsigned number: uN x ===== -/
def uN (x : Int64) : Nat := x.toUInt64.toNat
theorem uN_lt (x : Int64) : uN x < 18446744073709551616 := x.toUInt64.toNat_lt
theorem uN_inj {x y : Int64} (h : uN x = uN y) : x = y := congrArg UInt64.toInt64 (UInt64.toNat_inj.mp h)
theorem uN_add (x y : Int64) : uN (x + y) = (uN x + uN y) % 18446744073709551616 := by
  show (x.toUInt64 + y.toUInt64).toNat = _
  exact UInt64.toNat_add _ _
theorem uN_mul (x y : Int64) : uN (x * y) = (uN x * uN y) % 18446744073709551616 := by
  show (x.toUInt64 * y.toUInt64).toNat = _
  exact UInt64.toNat_mul _ _
theorem uN_shl (x : Int64) : uN (x <<< ((1 : Int32).toInt64 &&& 63)) = (2 * uN x) % 18446744073709551616 := by
  have h : (((1 : Int32).toInt64 &&& 63).toBitVec.smod 64).toNat = 1 := by decide
  show (x.toBitVec <<< (((1 : Int32).toInt64 &&& 63).toBitVec.smod 64).toNat).toNat = _
  rw [h, BitVec.toNat_shiftLeft, Nat.shiftLeft_eq, Nat.mul_comm]
  rfl
theorem uN_shr (x : Int64) (s : UInt64) : uN (x.toUInt64 >>> s).toInt64 = uN x / 2 ^ (s.toNat % 64) := by
  show (x.toUInt64 >>> s).toNat = _
  rw [UInt64.toNat_shiftRight, Nat.shiftRight_eq_div_pow]
  rfl
theorem uN_s32 (x : Int64) : uN (x.toUInt64 >>> ((32 : Int32).toInt64.toUInt64 &&& Int64.toUInt64 63)).toInt64 = uN x / 4294967296 := by
  have h : ((32 : Int32).toInt64.toUInt64 &&& Int64.toUInt64 63).toNat % 64 = 32 := by decide
  rw [uN_shr, h]
theorem uN_s63 (x : Int64) : uN (x.toUInt64 >>> ((63 : Int32).toInt64.toUInt64 &&& Int64.toUInt64 63)).toInt64 = uN x / 9223372036854775808 := by
  have h : ((63 : Int32).toInt64.toUInt64 &&& Int64.toUInt64 63).toNat % 64 = 63 := by decide
  rw [uN_shr, h]
theorem uN_lo (x : Int64) : uN (x &&& 4294967295) = uN x % 4294967296 := by
  show (x.toUInt64 &&& Int64.toUInt64 4294967295).toNat = _
  rw [UInt64.toNat_and]
  exact Nat.and_two_pow_sub_one_eq_mod _ 32
theorem uN_bit (x : Int64) : (x &&& 1) = 0 ↔ uN x % 2 = 0 := by
  have h : uN (x &&& 1) = uN x % 2 := by
    show (x.toUInt64 &&& Int64.toUInt64 1).toNat = _
    rw [UInt64.toNat_and]
    exact Nat.and_two_pow_sub_one_eq_mod _ 1
  rw [← h]
  exact ⟨fun z => by rw [z]; rfl, fun z => uN_inj (z.trans rfl)⟩
theorem uN_or {x y : Int64} (hy : uN y < 2) : uN ((x <<< ((1 : Int32).toInt64 &&& 63)) ||| y) = (2 * uN x) % 18446744073709551616 + uN y := by
  have h1 : uN ((x <<< ((1 : Int32).toInt64 &&& 63)) ||| y) = uN (x <<< ((1 : Int32).toInt64 &&& 63)) ||| uN y := UInt64.toNat_or _ _
  have h2 : (2 * uN x) % 18446744073709551616 = 2 ^ 1 * (uN x % 9223372036854775808) := by omega
  rw [h1, uN_shl, h2]
  exact (Nat.two_pow_add_eq_or_of_lt (i := 1) hy _).symm
theorem nat_xor {a : Nat} (h : a < 18446744073709551616) : a ^^^ 2 ^ 63 = (a + 9223372036854775808) % 18446744073709551616 := by
  have h1 : (a ^^^ 2 ^ 63) % 2 ^ 63 = a % 2 ^ 63 := by rw [Nat.xor_mod_two_pow, Nat.mod_self, Nat.xor_zero]
  have h2 : (a ^^^ 2 ^ 63) / 2 ^ 63 = (a / 2 ^ 63) ^^^ 1 := by rw [Nat.xor_div_two_pow, Nat.div_self (Nat.two_pow_pos 63)]
  have h3 : a / 2 ^ 63 = 0 ∨ a / 2 ^ 63 = 1 := by omega
  generalize a ^^^ 2 ^ 63 = t at h1 h2
  rcases h3 with h3 | h3
  · rw [h3] at h2
    have h2 : t / 2 ^ 63 = 1 := h2
    omega
  · rw [h3] at h2
    have h2 : t / 2 ^ 63 = 0 := h2
    omega
theorem uN_xor (x : Int64) : uN (x ^^^ (-9223372036854775808)) = (uN x + 9223372036854775808) % 18446744073709551616 := by
  rw [← nat_xor (uN_lt x)]
  exact UInt64.toNat_xor _ _
theorem uN_int (x : Int64) : x.toInt = if 2 * uN x < 18446744073709551616 then (uN x : Int) else (uN x : Int) - 18446744073709551616 := BitVec.toInt_eq_toNat_cond _
theorem uN_le (x y : Int64) : (x ^^^ (-9223372036854775808)) ≤ (y ^^^ (-9223372036854775808)) ↔ uN x ≤ uN y := by
  have hx := uN_lt x
  have hy := uN_lt y
  rw [Int64.le_iff_toInt_le, uN_int, uN_int, uN_xor, uN_xor]
  omega
theorem uN_sk (x : Int64) {k : Nat} (hk : k < 64) : uN (x.toUInt64 >>> ((nI k).toInt64.toUInt64 &&& Int64.toUInt64 63)).toInt64 = uN x / 2 ^ k := by
  have h : ((nI k).toInt64.toUInt64 &&& Int64.toUInt64 63).toNat % 64 = k := by
    rw [nI_l (by omega), UInt64.toNat_and]
    have e : (lN k).toUInt64.toNat = k % 2 ^ 64 := rfl
    have e2 : (Int64.toUInt64 63).toNat = 2 ^ 6 - 1 := by decide
    rw [e, e2, Nat.and_two_pow_sub_one_eq_mod]
    omega
  rw [uN_shr, h]
/-! ===== unsigned comparison by xor with the least ===== -/
theorem lN_bv (n : Nat) : (lN n).toBitVec = BitVec.ofNat 64 n := rfl
theorem lN_nat {n : Nat} (h : n < 2 ^ 64) : (lN n).toBitVec.toNat = n := by rw [lN_bv, BitVec.toNat_ofNat]; exact Nat.mod_eq_of_lt h
theorem lN_xor (a b : Nat) : lN a ^^^ lN b = lN (a ^^^ b) := by
  apply Int64.toBitVec_inj.mp; rw [Int64.toBitVec_xor, lN_bv, lN_bv, lN_bv]; apply BitVec.eq_of_getLsbD_eq; intro i hi; simp [BitVec.getLsbD_ofNat, Nat.testBit_xor, hi]
theorem lN_ti {m : Nat} (h : m < 2 ^ 64) : (lN m).toInt = if m < 2 ^ 63 then (m : Int) else (m : Int) - 2 ^ 64 := by
  have c := BitVec.toInt_eq_toNat_cond (lN m).toBitVec
  rw [lN_nat h] at c
  show (lN m).toBitVec.toInt = _
  rw [c]
  split <;> split <;> omega
theorem xor63 {x : Nat} (h : x < 2 ^ 63) : x ^^^ 2 ^ 63 = 2 ^ 63 + x := by
  apply Nat.eq_of_testBit_eq
  intro i
  rw [Nat.testBit_xor, Nat.testBit_two_pow]
  rcases Nat.lt_trichotomy i 63 with z | z | z
  · rw [Nat.testBit_two_pow_add_gt z, decide_eq_false (by omega)]; simp
  · subst z; rw [Nat.testBit_two_pow_add_eq]; simp
  · have hp : 2 ^ 64 ≤ 2 ^ i := Nat.pow_le_pow_right (by decide) z
    rw [Nat.testBit_lt_two_pow (show x < 2 ^ i by omega), Nat.testBit_lt_two_pow (show 2 ^ 63 + x < 2 ^ i by omega), decide_eq_false (by omega)]; rfl
theorem xorS {a : Nat} (h : a < 2 ^ 64) : (lN a ^^^ (-9223372036854775808)).toInt = (a : Int) - 2 ^ 63 := by
  rw [show (-9223372036854775808 : Int64) = lN (2 ^ 63) from by decide +kernel, lN_xor]
  rcases Nat.lt_or_ge a (2 ^ 63) with z | z
  · rw [xor63 z, lN_ti (by omega), if_neg (by omega)]; omega
  · obtain ⟨x, rfl⟩ : ∃ x, a = 2 ^ 63 + x := ⟨a - 2 ^ 63, by omega⟩
    rw [← xor63 (by omega), Nat.xor_assoc, Nat.xor_self, Nat.xor_zero, lN_ti (by omega), if_pos (by omega), xor63 (by omega)]; omega
theorem ultL {a b : Nat} (ha : a < 2 ^ 64) (hb : b < 2 ^ 64) : ((lN b ^^^ (-9223372036854775808)) ≤ (lN a ^^^ (-9223372036854775808))) ↔ b ≤ a := by
  rw [Int64.le_iff_toInt_le, xorS ha, xorS hb]; omega
/-! ===== Int64 masks of n low bits ===== -/
theorem cr_bits (W U M : BitVec 64) : ((W &&& U) &&& (U &&& (M ^^^ BitVec.allOnes 64))) = 0#64 ↔ (W &&& U) &&& M = W &&& U := by
  constructor
  · intro h
    apply BitVec.eq_of_getLsbD_eq
    intro i hi
    have e := congrArg (fun x => BitVec.getLsbD x i) h
    simp only [BitVec.getLsbD_and, BitVec.getLsbD_xor, BitVec.getLsbD_allOnes, BitVec.getLsbD_zero, hi, decide_true] at e ⊢
    revert e
    cases W.getLsbD i <;> cases U.getLsbD i <;> cases M.getLsbD i <;> decide
  · intro h
    apply BitVec.eq_of_getLsbD_eq
    intro i hi
    have e := congrArg (fun x => BitVec.getLsbD x i) h
    simp only [BitVec.getLsbD_and, BitVec.getLsbD_xor, BitVec.getLsbD_allOnes, BitVec.getLsbD_zero, hi, decide_true] at e ⊢
    revert e
    cases W.getLsbD i <;> cases U.getLsbD i <;> cases M.getLsbD i <;> decide
theorem cr_mask (w U m : Int64) (n : Nat) (hm : m.toBitVec.toNat = 2 ^ n - 1) : ((w &&& U) &&& (U &&& (m ^^^ (-1)))) = 0 ↔ (w &&& U).toBitVec.toNat < 2 ^ n := by
  have e0 : (-1 : Int64).toBitVec = BitVec.allOnes 64 := by decide
  have z0 : (0 : Int64).toBitVec = 0#64 := by decide
  rw [← Int64.toBitVec_inj, z0, Int64.toBitVec_and, Int64.toBitVec_and, Int64.toBitVec_and, Int64.toBitVec_xor, e0, cr_bits]
  generalize w.toBitVec &&& U.toBitVec = T
  rw [← BitVec.toNat_inj, BitVec.toNat_and, hm, Nat.and_two_pow_sub_one_eq_mod]
  constructor
  · intro h
    have t := Nat.mod_lt T.toNat (Nat.two_pow_pos n)
    rw [h] at t
    exact t
  · exact Nat.mod_eq_of_lt
theorem cr_shr (t : Int64) (x : UInt64) (n : Nat) (hx : x.toNat % 64 = n) : (t.toUInt64 >>> x).toInt64 = 0 ↔ t.toBitVec.toNat < 2 ^ n := by
  rw [← Int64.toBitVec_inj, ← BitVec.toNat_inj]
  show (t.toUInt64 >>> x).toNat = 0 ↔ t.toUInt64.toNat < 2 ^ n
  rw [UInt64.toNat_shiftRight, hx, Nat.shiftRight_eq_div_pow]
  constructor
  · intro h
    have d : t.toUInt64.toNat / 2 ^ n < 1 := by
      rw [h]
      decide
    have e := (Nat.div_lt_iff_lt_mul (Nat.two_pow_pos n)).mp d
    rw [Nat.one_mul] at e
    exact e
  · exact Nat.div_eq_of_lt
theorem cr_amt (s : Int64) : ∃ n, n < 64 ∧ s &&& 63 = lN n ∧ (s.toUInt64 &&& Int64.toUInt64 63).toNat % 64 = n := by
  have e : (s.toUInt64 &&& Int64.toUInt64 63).toNat = s.toUInt64.toNat % 2 ^ 6 := by
    rw [UInt64.toNat_and, show (Int64.toUInt64 63).toNat = 2 ^ 6 - 1 from by decide, Nat.and_two_pow_sub_one_eq_mod]
  refine ⟨s.toUInt64.toNat % 2 ^ 6, by omega, ?_, by omega⟩
  rw [← Int64.toBitVec_inj, ← BitVec.toNat_inj]
  show (s.toUInt64 &&& Int64.toUInt64 63).toNat = (BitVec.ofNat 64 (s.toUInt64.toNat % 2 ^ 6)).toNat
  rw [e, BitVec.toNat_ofNat]
  omega
end
section
/-! base rows: numbers, booleans, characters -/
theorem ea_us {f : Nat → Int32} {k : Nat} {x : Int32} : upd f k x k = x := if_pos rfl
theorem ea_un {f : Nat → Int32} {k j : Nat} {x : Int32} (h : j ≠ k) : upd f k x j = f j := if_neg h
theorem ea_2 (a : Nat) : nI a + 2 = nI (a + 2) := nI_add a 2
theorem ea_3 (a : Nat) : nI a + 3 = nI (a + 3) := nI_add a 3
theorem ea_4 (a : Nat) : nI a + 4 = nI (a + 4) := nI_add a 4
theorem ea_s {n : Nat} (h : 0 < n) : nI n - 1 = nI (n - 1) := by
  obtain ⟨m, rfl⟩ : ∃ m, n = m + 1 := ⟨n - 1, by omega⟩
  exact nI_pred m
theorem ea_m {n : Nat} (h : 0 < n) : nI n + (-1) = nI (n - 1) := sb_m1 h
theorem ea_le0 {a : Nat} (h : a < 2 ^ 31) : nI a ≤ 0 ↔ a = 0 := by
  rw [← nI_0, nI_leI h (by decide)]; omega
theorem ea_lt0 {a : Nat} (h : a < 2 ^ 31) : ¬ nI a < 0 := nI_pos h
theorem ea_eq0 {a : Nat} (h : a < 2 ^ 31) : nI a = 0 ↔ a = 0 := by
  rw [← nI_0, nI_eq h (by decide)]
theorem ea_0le {a : Nat} (h : a < 2 ^ 31) : 0 ≤ nI a := nI_pos' h
theorem ea_n1lt : (-1 : Int32) < 0 := by decide
theorem ea_n1le : ¬ (0 : Int32) ≤ -1 := by decide
theorem ea_ne1 {a : Nat} (h : a < 2 ^ 31) : ¬ nI a = -1 := by
  intro e
  have := nI_toInt h
  rw [e] at this
  have z : (-1 : Int32).toInt = -1 := by decide
  omega
theorem ea_im {a b : Nat} (h : nI a = nI b) (ha : a < 2 ^ 31) (hb : b < 2 ^ 31) : a = b := (nI_eq ha hb).mp h
theorem ea_vb0 : vp_nar .boolean 0 = 0 := by decide
theorem ea_vb1 : vp_nar .boolean 1 = 1 := by decide
theorem ea_sub0 {a b : Nat} (ha : a < 2 ^ 30) (hb : b < 2 ^ 30) : nI a - nI b = 0 ↔ a = b := by
  constructor
  · intro h
    have := pk_sub_toInt ha hb
    rw [h] at this
    have z : (0 : Int32).toInt = 0 := by decide
    omega
  · intro h
    subst h
    exact Int32.sub_self _
/-- a truth value as an int -/
def ea_b (b : Bool) : Int32 := if b = true then 1 else 0
theorem ea_bt : ea_b true = 1 := rfl
theorem ea_bf : ea_b false = 0 := rfl
theorem ea_b0 {b : Bool} : ea_b b = 0 ↔ b = false := by cases b <;> decide
theorem ea_nb (b : Bool) : narrow .boolean (.int (ea_b b)) = .int (ea_b b) := by cases b <;> rfl
theorem ea_vb (b : Bool) : vp_nar .boolean (ea_b b) = ea_b b := by cases b <;> decide
theorem ea_pt {post : Int32 → Prop} {b : Bool} (hb : b = true) (h : post (ea_b b)) : post 1 := by subst hb; exact h
theorem ea_pf {post : Int32 → Prop} {b : Bool} (hb : b = false) (h : post (ea_b b)) : post 0 := by subst hb; exact h
/-- a branch on a truth value -/
theorem ea_br {b : Bool} {A B : Prop} (f : b = false → A) (g : b = true → B) : (ea_b b = 0 → A) ∧ (¬ ea_b b = 0 → B) := by
  cases b
  · exact ⟨fun _ => f rfl, fun h => absurd rfl h⟩
  · exact ⟨fun h => absurd h (by decide), fun _ => g rfl⟩
theorem ea_tn8 : (8 : Int32).toInt = 8 := by decide
theorem ea_tn32 : (32 : Int32).toInt = 32 := by decide
theorem ea_tn33 : (33 : Int32).toInt = 33 := by decide
theorem ea_tn48 : (48 : Int32).toInt = 48 := by decide
theorem ea_tn57 : (57 : Int32).toInt = 57 := by decide
theorem ea_tn65 : (65 : Int32).toInt = 65 := by decide
theorem ea_tn90 : (90 : Int32).toInt = 90 := by decide
theorem ea_tn97 : (97 : Int32).toInt = 97 := by decide
theorem ea_tn122 : (122 : Int32).toInt = 122 := by decide
theorem ea_tn126 : (126 : Int32).toInt = 126 := by decide
theorem ea_tn64 : (64 : Int32).toInt = 64 := by decide
/-- letters and digits -/
def ea_al (c : Int32) : Bool := decide ((48 ≤ c.toInt ∧ c.toInt ≤ 57) ∨ (65 ≤ c.toInt ∧ c.toInt ≤ 90) ∨ (97 ≤ c.toInt ∧ c.toInt ≤ 122))
/-- punctuation -/
def ea_pu (c : Int32) : Bool := decide (33 ≤ c.toInt ∧ c.toInt ≤ 126) && !ea_al c
/-- a character of a source -/
def ea_ok (c : Int32) : Prop := 32 ≤ c.toInt ∧ c.toInt ≤ 126
def ea_sp (c : Int32) : Bool := decide (c = 42 ∨ c = 95 ∨ c = 92 ∨ c = 96 ∨ c = 91 ∨ c = 93)
/-- leans (outer, inner) -/
def ea_ln (o i : Int32) : Bool := !decide (i = 32) && (!ea_pu i || !ea_al o)
/-- serves (marker, outer, inner) -/
def ea_sv (m o i : Int32) : Bool := ea_ln o i && (!decide (m = 95) || !ea_ln i o || ea_pu o)
/-- Y's flags -/
def ea_fl (o c : Bool) : Int32 := ea_b o + (if c = true then 2 else 0)
theorem ea_i32 (c : Int32) : c = 32 ↔ c.toInt = 32 := by
  rw [← Int32.toInt_inj, ea_tn32]
theorem ea_nal {c : Int32} (h : ea_ok c) : (c = 32 ∨ ea_pu c = true) ↔ ea_al c = false := by
  unfold ea_ok at h
  rw [ea_i32]
  unfold ea_pu ea_al
  by_cases h1 : (48 ≤ c.toInt ∧ c.toInt ≤ 57) ∨ (65 ≤ c.toInt ∧ c.toInt ≤ 90) ∨ (97 ≤ c.toInt ∧ c.toInt ≤ 122)
  · rw [decide_eq_true h1]
    simp
    omega
  · rw [decide_eq_false h1]
    simp
    omega
theorem ea_al_ok {c : Int32} (h : ea_al c = true) : ea_ok c := by
  unfold ea_al at h
  have := of_decide_eq_true h
  unfold ea_ok
  omega
theorem ea_okl (c : Int32) : ea_ok c ↔ ¬ c < 32 ∧ c ≤ 126 := by
  unfold ea_ok
  rw [Int32.lt_iff_toInt_lt, Int32.le_iff_toInt_le, ea_tn32, ea_tn126]
  omega
section EA
variable {f_cap f_length f_count f_depth f_linkCount f_runCount f_openerCount f_nodes f_domain : Int32} {a_source a_kinds a_chars a_mate a_openStack a_cellKind a_group a_live a_runLo a_runHi a_runChar a_runSize a_runGroup a_runOpens a_runCloses a_openers a_floors a_start a_width a_out a_nodeOf a_clash : Nat → Int32} {g_limit g_srcLen g_count g_wLen : Int32} {b_src b_kinds b_chars b_w b_pos b_till b_mark b_out b_group b_flag b_len b_lo b_hi b_live b_dropped : Nat → Int32}
theorem ea_xal {post : Int32 → Prop} {c : Int32} (h : post (ea_b (ea_al c))) : wpX_isAlnum post (f_cap, f_length, f_count, f_depth, f_linkCount, f_runCount, f_openerCount, f_nodes, f_domain, a_source, a_kinds, a_chars, a_mate, a_openStack, a_cellKind, a_group, a_live, a_runLo, a_runHi, a_runChar, a_runSize, a_runGroup, a_runOpens, a_runCloses, a_openers, a_floors, a_start, a_width, a_out, a_nodeOf, a_clash) c := by
  unfold wpX_isAlnum wX_isAlnum_12 wX_isAlnum_24
  dsimp only
  repeat' (refine br_c (fun _ => ?_) (fun _ => ?_))
  all_goals
    simp only [Int32.lt_iff_toInt_lt, Int32.le_iff_toInt_le, ea_tn48, ea_tn57, ea_tn65, ea_tn90, ea_tn97, ea_tn122] at *
    first
      | exact ea_pt (by unfold ea_al; exact decide_eq_true (by omega)) h
      | exact ea_pf (by unfold ea_al; exact decide_eq_false (by omega)) h
theorem ea_yal {post : Int32 → Prop} {c : Int32} (h : post (ea_b (ea_al c))) : wpY_alnum post (g_limit, g_srcLen, g_count, g_wLen, b_src, b_kinds, b_chars, b_w, b_pos, b_till, b_mark, b_out, b_group, b_flag, b_len, b_lo, b_hi, b_live, b_dropped) c := by
  unfold wpY_alnum wY_alnum_12 wY_alnum_24
  dsimp only
  repeat' (refine br_c (fun _ => ?_) (fun _ => ?_))
  all_goals
    simp only [Int32.lt_iff_toInt_lt, Int32.le_iff_toInt_le, ea_tn48, ea_tn57, ea_tn65, ea_tn90, ea_tn97, ea_tn122] at *
    first
      | exact ea_pt (by unfold ea_al; exact decide_eq_true (by omega)) h
      | exact ea_pf (by unfold ea_al; exact decide_eq_false (by omega)) h
theorem ea_pu_f1 {c : Int32} (h : c ≤ 32) : ea_pu c = false := by
  rw [Int32.le_iff_toInt_le, ea_tn32] at h
  unfold ea_pu
  rw [decide_eq_false (by omega)]; rfl
theorem ea_pu_f2 {c : Int32} (h : 126 < c) : ea_pu c = false := by
  rw [Int32.lt_iff_toInt_lt, ea_tn126] at h
  unfold ea_pu
  rw [decide_eq_false (by omega)]; rfl
theorem ea_pu_f3 {c : Int32} (h : c < 33) : ea_pu c = false := by
  rw [Int32.lt_iff_toInt_lt, ea_tn33] at h
  unfold ea_pu
  rw [decide_eq_false (by omega)]; rfl
theorem ea_pu_t {c : Int32} (h1 : ¬ c ≤ 32) (h2 : ¬ 126 < c) : ea_pu c = !ea_al c := by
  rw [Int32.le_iff_toInt_le, ea_tn32] at h1
  rw [Int32.lt_iff_toInt_lt, ea_tn126] at h2
  unfold ea_pu
  rw [decide_eq_true (by omega)]; rfl
theorem ea_pu_t' {c : Int32} (h1 : ¬ c < 33) (h2 : ¬ 126 < c) : ea_pu c = !ea_al c := by
  rw [Int32.lt_iff_toInt_lt, ea_tn33] at h1
  rw [Int32.lt_iff_toInt_lt, ea_tn126] at h2
  unfold ea_pu
  rw [decide_eq_true (by omega)]; rfl
theorem ea_xpu {post : Int32 → Prop} {c : Int32} (h : post (ea_b (ea_pu c))) : wpX_isPunct post (f_cap, f_length, f_count, f_depth, f_linkCount, f_runCount, f_openerCount, f_nodes, f_domain, a_source, a_kinds, a_chars, a_mate, a_openStack, a_cellKind, a_group, a_live, a_runLo, a_runHi, a_runChar, a_runSize, a_runGroup, a_runOpens, a_runCloses, a_openers, a_floors, a_start, a_width, a_out, a_nodeOf, a_clash) c := by
  refine br_c (fun a => ea_pf (ea_pu_f1 a) h) (fun a => br_c (fun b => ea_pf (ea_pu_f2 b) h) (fun b => ?_))
  rw [ea_pu_t a b] at h
  refine ea_xal (ea_br (fun z => ?_) (fun z => ?_))
  · rw [z] at h; exact h
  · rw [z] at h; exact h
theorem ea_ypu {post : Int32 → Prop} {c : Int32} (h : post (ea_b (ea_pu c))) : wpY_punct post (g_limit, g_srcLen, g_count, g_wLen, b_src, b_kinds, b_chars, b_w, b_pos, b_till, b_mark, b_out, b_group, b_flag, b_len, b_lo, b_hi, b_live, b_dropped) c := by
  refine br_c (fun a => ea_pf (ea_pu_f3 a) h) (fun a => br_c (fun b => ea_pf (ea_pu_f2 b) h) (fun b => ?_))
  rw [ea_pu_t' a b] at h
  refine ea_yal (ea_br (fun z => ?_) (fun z => ?_))
  · rw [z] at h; exact h
  · rw [z] at h; exact h
theorem ea_xsp {post : Int32 → Prop} {c : Int32} (h : post (ea_b (ea_sp c))) : wpX_isSpecial post (f_cap, f_length, f_count, f_depth, f_linkCount, f_runCount, f_openerCount, f_nodes, f_domain, a_source, a_kinds, a_chars, a_mate, a_openStack, a_cellKind, a_group, a_live, a_runLo, a_runHi, a_runChar, a_runSize, a_runGroup, a_runOpens, a_runCloses, a_openers, a_floors, a_start, a_width, a_out, a_nodeOf, a_clash) c := by
  unfold wpX_isSpecial
  dsimp only
  repeat' (refine br_c (fun _ => ?_) (fun _ => ?_))
  all_goals
    first
      | exact ea_pt (by unfold ea_sp; exact decide_eq_true (by simp [*])) h
      | exact ea_pf (by unfold ea_sp; exact decide_eq_false (by simp [*])) h
theorem ea_ysp {post : Int32 → Prop} {c : Int32} (h : post (ea_b (ea_sp c))) : wpY_special post (g_limit, g_srcLen, g_count, g_wLen, b_src, b_kinds, b_chars, b_w, b_pos, b_till, b_mark, b_out, b_group, b_flag, b_len, b_lo, b_hi, b_live, b_dropped) c := by
  unfold wpY_special
  dsimp only
  repeat' (refine br_c (fun _ => ?_) (fun _ => ?_))
  all_goals
    first
      | exact ea_pt (by unfold ea_sp; exact decide_eq_true (by simp [*])) h
      | exact ea_pf (by unfold ea_sp; exact decide_eq_false (by simp [*])) h
theorem ea_xln {post : Int32 → Prop} {o i : Int32} (h : post (ea_b (ea_ln o i))) : wpX_leans post (f_cap, f_length, f_count, f_depth, f_linkCount, f_runCount, f_openerCount, f_nodes, f_domain, a_source, a_kinds, a_chars, a_mate, a_openStack, a_cellKind, a_group, a_live, a_runLo, a_runHi, a_runChar, a_runSize, a_runGroup, a_runOpens, a_runCloses, a_openers, a_floors, a_start, a_width, a_out, a_nodeOf, a_clash) o i := by
  unfold ea_ln at h
  refine br_c (fun a => ?_) (fun a => ?_)
  · rw [decide_eq_true a] at h; exact h
  · rw [decide_eq_false a] at h
    refine ea_xpu (ea_br (fun z => ?_) (fun z => ea_xal (ea_br (fun y => ?_) (fun y => ?_))))
    · rw [z] at h; exact h
    · rw [z, y] at h; exact h
    · rw [z, y] at h; exact h
theorem ea_xsv {post : Int32 → Prop} {m o i : Int32} (h : post (ea_b (ea_sv m o i))) : wpX_serves post (f_cap, f_length, f_count, f_depth, f_linkCount, f_runCount, f_openerCount, f_nodes, f_domain, a_source, a_kinds, a_chars, a_mate, a_openStack, a_cellKind, a_group, a_live, a_runLo, a_runHi, a_runChar, a_runSize, a_runGroup, a_runOpens, a_runCloses, a_openers, a_floors, a_start, a_width, a_out, a_nodeOf, a_clash) m o i := by
  unfold ea_sv at h
  unfold wpX_serves
  dsimp only
  refine ea_xln (br_c (fun a => ?_) (fun a => ?_))
  · rw [decide_eq_true a] at h
    refine ea_br (fun z => ?_) (fun z => ea_xln (ea_br (fun y => ?_) (fun y => ea_xpu (ea_br (fun w => ?_) (fun w => ?_)))))
    · rw [z] at h ⊢; exact ⟨ea_nb false, h⟩
    · rw [z, y] at h; exact h
    · rw [z, y, w] at h; exact h
    · rw [z, y, w] at h; exact h
  · rw [decide_eq_false a] at h
    refine ⟨ea_nb _, ?_⟩
    cases z : ea_ln o i
    · rw [z] at h; exact h
    · rw [z] at h; exact h
/-- Y's left and right flanking are X's leans -/
theorem ea_lnY {b a : Int32} (hb : ea_ok b) : ea_ln b a = (!decide (a = 32) && (!ea_pu a || decide (b = 32) || ea_pu b)) := by
  have := ea_nal hb
  unfold ea_ln
  cases h1 : ea_al b
  · have k := this.mpr h1
    have : (decide (b = 32) || ea_pu b) = true := by
      rcases k with k | k
      · rw [decide_eq_true k]; rfl
      · rw [k]; cases decide (b = 32) <;> rfl
    rw [Bool.or_assoc, this]; rfl
  · have k : ¬ (b = 32 ∨ ea_pu b = true) := fun z => by rw [this.mp z] at h1; exact absurd h1 (by decide)
    have k1 : decide (b = 32) = false := decide_eq_false (fun z => k (Or.inl z))
    have k2 : ea_pu b = false := by
      cases z : ea_pu b
      · rfl
      · exact absurd (Or.inr z) k
    rw [Bool.or_assoc, k1, k2]; rfl
theorem ea_yfl {post : Int32 → Prop} {b a m p0 p1 : Int32} (hb : ea_ok b) (ha : ea_ok a)
    (t1 : ∀ q : Int32 → Prop, q b → wpY_at q (g_limit, g_srcLen, g_count, g_wLen, b_src, b_kinds, b_chars, b_w, b_pos, b_till, b_mark, b_out, b_group, b_flag, b_len, b_lo, b_hi, b_live, b_dropped) (p0 - 1)) (t2 : ∀ q : Int32 → Prop, q a → wpY_at q (g_limit, g_srcLen, g_count, g_wLen, b_src, b_kinds, b_chars, b_w, b_pos, b_till, b_mark, b_out, b_group, b_flag, b_len, b_lo, b_hi, b_live, b_dropped) p1) (t3 : ∀ q : Int32 → Prop, q m → wpY_at q (g_limit, g_srcLen, g_count, g_wLen, b_src, b_kinds, b_chars, b_w, b_pos, b_till, b_mark, b_out, b_group, b_flag, b_len, b_lo, b_hi, b_live, b_dropped) p0)
    (h : post (ea_fl (ea_sv m b a) (ea_sv m a b))) : wpY_flags post (g_limit, g_srcLen, g_count, g_wLen, b_src, b_kinds, b_chars, b_w, b_pos, b_till, b_mark, b_out, b_group, b_flag, b_len, b_lo, b_hi, b_live, b_dropped) p0 p1 := by
  have e1 := ea_lnY (a := a) hb
  have e2 := ea_lnY (a := b) ha
  unfold wpY_flags
  dsimp only
  refine t1 _ (t2 _ (t3 _ (ea_ypu (ea_ypu ?_))))
  unfold ea_sv at h
  rw [e1, e2] at h
  clear e1 e2 t1 t2 t3
  generalize ea_pu b = pb at *
  generalize ea_pu a = pa at *
  by_cases h1 : a = 32 <;> by_cases h2 : b = 32 <;> by_cases h3 : m = 95 <;> cases pb <;> cases pa <;>
    simp only [h1, h2, h3, decide_true, decide_false, ea_bt, ea_bf, wY_flags_64, wY_flags_60, wY_flags_65, wY_flags_94, wY_flags_90, wY_flags_95, wY_flags_123, wY_flags_119, wY_flags_124, wY_flags_152, wY_flags_148, wY_flags_153, wY_flags_165] at h ⊢ <;>
    simp at h ⊢ <;> exact h
theorem ea_yat {post : Int32 → Prop} {n k : Nat} (hn : n ≤ 1024) (hk : k < n) (h : post (b_w k)) : wpY_at post (g_limit, g_srcLen, g_count, (nI n), b_src, b_kinds, b_chars, b_w, b_pos, b_till, b_mark, b_out, b_group, b_flag, b_len, b_lo, b_hi, b_live, b_dropped) (nI k) := by
  have e : (nI k).toNatClampNeg = k := nI_clamp (by omega)
  refine br_f (nI_pos (by omega)) (br_t (nI_lt hk (by omega)) ⟨vp_in_nI (by omega) (by omega), ?_⟩)
  rw [e]; exact h
theorem ea_yat2 {post : Int32 → Prop} {n k : Nat} (hn : n ≤ 1024) (hk : n ≤ k) (hk2 : k < 2 ^ 31) (h : post 32) : wpY_at post (g_limit, g_srcLen, g_count, (nI n), b_src, b_kinds, b_chars, b_w, b_pos, b_till, b_mark, b_out, b_group, b_flag, b_len, b_lo, b_hi, b_live, b_dropped) (nI k) :=
  br_f (nI_pos hk2) (br_f (nI_nlt hk hk2) h)
theorem ea_yat3 {post : Int32 → Prop} (h : post 32) : wpY_at post (g_limit, g_srcLen, g_count, g_wLen, b_src, b_kinds, b_chars, b_w, b_pos, b_till, b_mark, b_out, b_group, b_flag, b_len, b_lo, b_hi, b_live, b_dropped) (0 - 1) :=
  br_t (by decide) h
end EA
end
section
/-! items: depth, pairs, the stack of openings -/
def eb_op (x : Int32) : Bool := decide (1 ≤ x.toInt ∧ x.toInt ≤ 4)
def eb_cl (x : Int32) : Bool := decide (5 ≤ x.toInt)
theorem eb_t0 : (0 : Int32).toInt = 0 := by decide
theorem eb_t1 : (1 : Int32).toInt = 1 := by decide
theorem eb_t2 : (2 : Int32).toInt = 2 := by decide
theorem eb_t3 : (3 : Int32).toInt = 3 := by decide
theorem eb_t4 : (4 : Int32).toInt = 4 := by decide
theorem eb_t5 : (5 : Int32).toInt = 5 := by decide
theorem eb_op_iff {x : Int32} : eb_op x = true ↔ ¬ x < 1 ∧ ¬ 4 < x := by
  unfold eb_op
  rw [decide_eq_true_iff, Int32.lt_iff_toInt_lt, Int32.lt_iff_toInt_lt, eb_t1, eb_t4]
  omega
theorem eb_cl_iff {x : Int32} : eb_cl x = true ↔ ¬ x < 5 := by
  unfold eb_cl
  rw [decide_eq_true_iff, Int32.lt_iff_toInt_lt, eb_t5]
  omega
theorem eb_op_4 {x : Int32} (h : eb_op x = true) : x = 1 ∨ x = 2 ∨ x = 3 ∨ x = 4 := by
  unfold eb_op at h
  have := of_decide_eq_true h
  rw [← Int32.toInt_inj, ← Int32.toInt_inj, ← Int32.toInt_inj, ← Int32.toInt_inj, eb_t1, eb_t2, eb_t3, eb_t4]
  omega
theorem eb_cl_op {x : Int32} (h : eb_op x = true) : eb_cl (x + 4) = true := by
  rcases eb_op_4 h with h | h | h | h <;> subst h <;> decide
theorem eb_op_cl {x : Int32} (h : eb_cl x = true) : eb_op x = false := by
  unfold eb_cl at h
  have := of_decide_eq_true h
  unfold eb_op
  exact decide_eq_false (by omega)
theorem eb_cl_of_op {x : Int32} (h : eb_op x = true) : eb_cl x = false := by
  unfold eb_op at h
  have := of_decide_eq_true h
  unfold eb_cl
  exact decide_eq_false (by omega)
/-- depth ahead of item i -/
def eb_dp (K : Nat → Int32) : Nat → Nat
  | 0 => 0
  | i + 1 => if eb_op (K i) = true then eb_dp K i + 1 else if eb_cl (K i) = true then eb_dp K i - 1 else eb_dp K i
theorem eb_dp_o {K : Nat → Int32} {i : Nat} (h : eb_op (K i) = true) : eb_dp K (i + 1) = eb_dp K i + 1 := by
  show (if eb_op (K i) = true then _ else _) = _
  rw [if_pos h]
theorem eb_dp_c {K : Nat → Int32} {i : Nat} (h : eb_cl (K i) = true) : eb_dp K (i + 1) = eb_dp K i - 1 := by
  show (if eb_op (K i) = true then _ else _) = _
  rw [if_neg (by rw [eb_op_cl h]; decide), if_pos h]
theorem eb_dp_n {K : Nat → Int32} {i : Nat} (h1 : eb_op (K i) = false) (h2 : eb_cl (K i) = false) : eb_dp K (i + 1) = eb_dp K i := by
  show (if eb_op (K i) = true then _ else _) = _
  rw [if_neg (by rw [h1]; decide), if_neg (by rw [h2]; decide)]
theorem eb_dp_congr {K K' : Nat → Int32} : ∀ {i : Nat}, (∀ t, t < i → K t = K' t) → eb_dp K i = eb_dp K' i := by
  intro i
  induction i with
  | zero => intro _; rfl
  | succ i ih =>
    intro h
    show (if eb_op (K i) = true then eb_dp K i + 1 else _) = (if eb_op (K' i) = true then eb_dp K' i + 1 else _)
    rw [ih (fun t ht => h t (by omega)), h i (by omega)]
theorem eb_dp_le (K : Nat → Int32) : ∀ i, eb_dp K i ≤ i := by
  intro i
  induction i with
  | zero => exact Nat.le_refl 0
  | succ i ih =>
    cases h : eb_op (K i)
    · cases h' : eb_cl (K i)
      · rw [eb_dp_n h h']; omega
      · rw [eb_dp_c h']; omega
    · rw [eb_dp_o h]; omega
theorem eb_dp_u {K : Nat → Int32} {C i : Nat} {k : Int32} (h : i ≤ C) : eb_dp (upd K C k) i = eb_dp K i :=
  eb_dp_congr (fun t ht => ea_un (by omega))
/-- Y's step -/
def eb_sg (x : Int32) : Int32 := if 0 < x then (if 4 < x then -1 else 1) else 0
theorem eb_sg_o {x : Int32} (h : eb_op x = true) : eb_sg x = 1 := by
  rcases eb_op_4 h with h | h | h | h <;> subst h <;> decide
theorem eb_0lt {x : Int32} : 0 < x ↔ 0 < x.toInt := by rw [Int32.lt_iff_toInt_lt, eb_t0]
theorem eb_4lt {x : Int32} : 4 < x ↔ 4 < x.toInt := by rw [Int32.lt_iff_toInt_lt, eb_t4]
theorem eb_sg_c {x : Int32} (h : eb_cl x = true) : eb_sg x = -1 := by
  unfold eb_cl at h
  have := of_decide_eq_true h
  unfold eb_sg
  rw [if_pos (eb_0lt.mpr (by omega)), if_pos (eb_4lt.mpr (by omega))]
theorem eb_sg_n {x : Int32} (h1 : eb_op x = false) (h2 : eb_cl x = false) : eb_sg x = 0 := by
  unfold eb_op at h1
  unfold eb_cl at h2
  have h1 := of_decide_eq_false h1
  have h2 := of_decide_eq_false h2
  unfold eb_sg
  rw [if_neg (fun z => by have := eb_0lt.mp z; omega)]
theorem eb_sg_dp {K : Nat → Int32} {i : Nat} (h : eb_cl (K i) = true → 1 ≤ eb_dp K i) : nI (eb_dp K i) + eb_sg (K i) = nI (eb_dp K (i + 1)) := by
  cases h1 : eb_op (K i)
  · cases h2 : eb_cl (K i)
    · rw [eb_dp_n h1 h2, eb_sg_n h1 h2]; exact Int32.add_zero _
    · rw [eb_dp_c h2, eb_sg_c h2]; exact ea_m (h h2)
  · rw [eb_dp_o h1, eb_sg_o h1]; exact nI_1 _
def eb_Pr (K : Nat → Int32) (C i j : Nat) : Prop :=
  i < j ∧ j < C ∧ eb_op (K i) = true ∧ K j = K i + 4 ∧ eb_dp K j = eb_dp K i + 1 ∧ ∀ t, i < t → t ≤ j → eb_dp K i < eb_dp K t
theorem eb_Pr_j {K : Nat → Int32} {C i j j' : Nat} (h : eb_Pr K C i j) (h' : eb_Pr K C i j') : j = j' := by
  obtain ⟨a1, a2, a3, a4, a5, a6⟩ := h
  obtain ⟨b1, b2, b3, b4, b5, b6⟩ := h'
  have c1 : eb_cl (K j) = true := by rw [a4]; exact eb_cl_op a3
  have c2 : eb_cl (K j') = true := by rw [b4]; exact eb_cl_op b3
  have d1 := eb_dp_c c1
  have d2 := eb_dp_c c2
  rcases Nat.lt_trichotomy j j' with h | h | h
  · have := b6 (j + 1) (by omega) (by omega); omega
  · exact h
  · have := a6 (j' + 1) (by omega) (by omega); omega
theorem eb_Pr_i {K : Nat → Int32} {C i i' j : Nat} (h : eb_Pr K C i j) (h' : eb_Pr K C i' j) : i = i' := by
  obtain ⟨a1, a2, a3, a4, a5, a6⟩ := h
  obtain ⟨b1, b2, b3, b4, b5, b6⟩ := h'
  rcases Nat.lt_trichotomy i i' with h | h | h
  · have := a6 i' (by omega) (by omega); omega
  · exact h
  · have := b6 i (by omega) (by omega); omega
theorem eb_Pr_u {K : Nat → Int32} {C i j : Nat} {k : Int32} (h : eb_Pr K C i j) : eb_Pr (upd K C k) (C + 1) i j := by
  obtain ⟨a1, a2, a3, a4, a5, a6⟩ := h
  refine ⟨a1, by omega, ?_, ?_, ?_, ?_⟩
  · rw [ea_un (by omega)]; exact a3
  · rw [ea_un (by omega), ea_un (by omega)]; exact a4
  · rw [eb_dp_u (by omega), eb_dp_u (by omega)]; exact a5
  · intro t h1 h2
    rw [eb_dp_u (by omega), eb_dp_u (by omega)]; exact a6 t h1 h2
/-- item o is not closed, at depth d -/
def eb_Op (K : Nat → Int32) (C d o : Nat) : Prop := o < C ∧ eb_op (K o) = true ∧ eb_dp K o = d ∧ ∀ t, o < t → t ≤ C → d < eb_dp K t
theorem eb_Op_1 {K : Nat → Int32} {C d o o' : Nat} (h : eb_Op K C d o) (h' : eb_Op K C d o') : o = o' := by
  obtain ⟨a1, a2, a3, a4⟩ := h
  obtain ⟨b1, b2, b3, b4⟩ := h'
  rcases Nat.lt_trichotomy o o' with h | h | h
  · have := a4 o' (by omega) (by omega); omega
  · exact h
  · have := b4 o (by omega) (by omega); omega
theorem eb_Op_u {K : Nat → Int32} {C d o : Nat} {k : Int32} (h : eb_Op K C d o) (hd : d < eb_dp (upd K C k) (C + 1)) : eb_Op (upd K C k) (C + 1) d o := by
  obtain ⟨a1, a2, a3, a4⟩ := h
  refine ⟨by omega, ?_, ?_, ?_⟩
  · rw [ea_un (by omega)]; exact a2
  · rw [eb_dp_u (by omega)]; exact a3
  · intro t h1 h2
    by_cases e : t = C + 1
    · subst e; exact hd
    · rw [eb_dp_u (by omega)]; exact a4 t h1 (by omega)
/-- kind and character of an item -/
def eb_Kc (k h : Int32) : Prop := (k = 0 ∧ ea_ok h) ∨ ((k = 1 ∨ k = 2 ∨ k = 3 ∨ k = 4 ∨ k = 5 ∨ k = 6 ∨ k = 7) ∧ h = 0) ∨ (k = 8 ∧ ea_al h = true)
def eb_Itm (C D : Nat) (K H M O : Nat → Int32) : Prop :=
  D = eb_dp K C ∧
  (∀ i, i < C → eb_Kc (K i) (H i)) ∧
  (∀ i, i < C → eb_op (K i) = true → (M i = -1 ∧ eb_Op K C (eb_dp K i) i) ∨ (∃ j, M i = nI j ∧ eb_Pr K C i j)) ∧
  (∀ j, j < C → eb_cl (K j) = true → ∃ i, M j = nI i ∧ eb_Pr K C i j) ∧
  (∀ i, i < C → K i = 0 → M i = -1) ∧
  (∀ d, d < D → ∃ o, O d = nI o ∧ eb_Op K C d o) ∧
  (∀ i, i < C → K i = 3 → M i = -1 → eb_dp K i + 1 = D)
theorem eb_Itm_0 {K H M O : Nat → Int32} : eb_Itm 0 0 K H M O :=
  ⟨rfl, fun i h => by omega, fun i h => by omega, fun i h => by omega, fun i h => by omega, fun i h => by omega, fun i h => by omega⟩
theorem eb_Itm_t {C D : Nat} {K H M O : Nat → Int32} {c : Int32} (h : eb_Itm C D K H M O) (hc : ea_ok c) : eb_Itm (C + 1) D (upd K C 0) (upd H C c) (upd M C (-1)) O := by
  obtain ⟨a1, a2, a3, a4, a5, a6, a7⟩ := h
  have e0 : (upd K C 0) C = 0 := ea_us
  have eD : eb_dp (upd K C 0) (C + 1) = D := by
    rw [eb_dp_n (by rw [e0]; decide) (by rw [e0]; decide), eb_dp_u (Nat.le_refl _)]; exact a1.symm
  refine ⟨eD.symm, ?_, ?_, ?_, ?_, ?_, ?_⟩
  · intro i hi
    by_cases e : i = C
    · subst e; rw [ea_us, ea_us]; exact Or.inl ⟨rfl, hc⟩
    · rw [ea_un e, ea_un e]; exact a2 i (by omega)
  · intro i hi ho
    by_cases e : i = C
    · subst e; rw [e0] at ho; exact absurd ho (by decide)
    · rw [ea_un e] at ho
      rw [ea_un e, eb_dp_u (by omega)]
      rcases a3 i (by omega) ho with ⟨b1, b2⟩ | ⟨j, b1, b2⟩
      · exact Or.inl ⟨b1, eb_Op_u b2 (by rw [eD, a1]; exact b2.2.2.2 C (by omega) (Nat.le_refl _))⟩
      · exact Or.inr ⟨j, b1, eb_Pr_u b2⟩
  · intro i hi ho
    by_cases e : i = C
    · subst e; rw [e0] at ho; exact absurd ho (by decide)
    · rw [ea_un e] at ho
      rw [ea_un e]
      obtain ⟨j, b1, b2⟩ := a4 i (by omega) ho
      exact ⟨j, b1, eb_Pr_u b2⟩
  · intro i hi ho
    by_cases e : i = C
    · subst e; exact ea_us
    · rw [ea_un e] at ho ⊢; exact a5 i (by omega) ho
  · intro d hd
    obtain ⟨o, b1, b2⟩ := a6 d hd
    exact ⟨o, b1, eb_Op_u b2 (by rw [eD]; exact hd)⟩
  · intro i hi ho hm
    by_cases e : i = C
    · subst e; rw [e0] at ho; exact absurd ho (by decide)
    · rw [ea_un e] at ho hm
      rw [eb_dp_u (by omega)]; exact a7 i (by omega) ho hm
theorem eb_Itm_o {C D : Nat} {K H M O : Nat → Int32} {k : Int32} (h : eb_Itm C D K H M O) (hk : eb_op k = true) (hn : ∀ i, i < C → K i = 3 → M i = -1 → False) : eb_Itm (C + 1) (D + 1) (upd K C k) (upd H C 0) (upd M C (-1)) (upd O D (nI C)) := by
  obtain ⟨a1, a2, a3, a4, a5, a6, a7⟩ := h
  have e0 : (upd K C k) C = k := ea_us
  have eD : eb_dp (upd K C k) (C + 1) = D + 1 := by
    rw [eb_dp_o (by rw [e0]; exact hk), eb_dp_u (Nat.le_refl _), a1]
  have oC : eb_Op (upd K C k) (C + 1) D C := by
    refine ⟨by omega, by rw [e0]; exact hk, by rw [eb_dp_u (Nat.le_refl _)]; exact a1.symm, fun t h1 h2 => ?_⟩
    have : t = C + 1 := by omega
    subst this
    omega
  refine ⟨eD.symm, ?_, ?_, ?_, ?_, ?_, ?_⟩
  · intro i hi
    by_cases e : i = C
    · subst e; rw [ea_us, ea_us]
      rcases eb_op_4 hk with z | z | z | z <;> subst z <;> exact Or.inr (Or.inl ⟨by decide, rfl⟩)
    · rw [ea_un e, ea_un e]; exact a2 i (by omega)
  · intro i hi ho
    by_cases e : i = C
    · subst e
      rw [eb_dp_u (Nat.le_refl _), ← a1]
      exact Or.inl ⟨ea_us, oC⟩
    · rw [ea_un e] at ho
      rw [ea_un e, eb_dp_u (by omega)]
      rcases a3 i (by omega) ho with ⟨b1, b2⟩ | ⟨j, b1, b2⟩
      · refine Or.inl ⟨b1, eb_Op_u b2 ?_⟩
        have := b2.2.2.2 C (by omega) (Nat.le_refl _)
        omega
      · exact Or.inr ⟨j, b1, eb_Pr_u b2⟩
  · intro i hi ho
    by_cases e : i = C
    · subst e; rw [e0, eb_cl_of_op hk] at ho; exact absurd ho (by decide)
    · rw [ea_un e] at ho
      rw [ea_un e]
      obtain ⟨j, b1, b2⟩ := a4 i (by omega) ho
      exact ⟨j, b1, eb_Pr_u b2⟩
  · intro i hi ho
    by_cases e : i = C
    · subst e; exact ea_us
    · rw [ea_un e] at ho ⊢; exact a5 i (by omega) ho
  · intro d hd
    by_cases e : d = D
    · subst e
      exact ⟨C, ea_us, oC⟩
    · obtain ⟨o, b1, b2⟩ := a6 d (by omega)
      exact ⟨o, by rw [ea_un e]; exact b1, eb_Op_u b2 (by omega)⟩
  · intro i hi ho hm
    by_cases e : i = C
    · subst e
      rw [eb_dp_u (Nat.le_refl _), ← a1]
    · rw [ea_un e] at ho hm
      exact absurd (hn i (by omega) ho hm) id
theorem eb_Itm_c {C D o : Nat} {K H M O : Nat → Int32} {ch : Int32} (h : eb_Itm C (D + 1) K H M O) (hC : C < 64) (ho : eb_Op K C D o) (hk : eb_Kc (K o + 4) ch) : eb_Itm (C + 1) D (upd K C (K o + 4)) (upd H C ch) (upd (upd (upd M C (-1)) o (nI C)) C (nI o)) O := by
  obtain ⟨a1, a2, a3, a4, a5, a6, a7⟩ := h
  obtain ⟨o1, o2, o3, o4⟩ := ho
  have e0 : (upd K C (K o + 4)) C = K o + 4 := ea_us
  have ec : eb_cl (K o + 4) = true := eb_cl_op o2
  have eD : eb_dp (upd K C (K o + 4)) (C + 1) = D := by
    rw [eb_dp_c (by rw [e0]; exact ec), eb_dp_u (Nat.le_refl _), ← a1]; rfl
  have pC : eb_Pr (upd K C (K o + 4)) (C + 1) o C := by
    refine ⟨o1, by omega, by rw [ea_un (by omega)]; exact o2, by rw [e0, ea_un (by omega)], by rw [eb_dp_u (Nat.le_refl _), eb_dp_u (by omega), ← a1, o3], fun t h1 h2 => ?_⟩
    rw [eb_dp_u (by omega), eb_dp_u (by omega), o3]; exact o4 t h1 h2
  have mC : (upd (upd (upd M C (-1)) o (nI C)) C (nI o)) C = nI o := ea_us
  have mo : (upd (upd (upd M C (-1)) o (nI C)) C (nI o)) o = nI C := by rw [ea_un (by omega)]; exact ea_us
  have mi : ∀ i, i ≠ C → i ≠ o → (upd (upd (upd M C (-1)) o (nI C)) C (nI o)) i = M i := fun i h1 h2 => by
    rw [ea_un h1, ea_un h2, ea_un h1]
  have un : ∀ i, eb_Op K C (eb_dp K i) i → i ≠ o → eb_dp K i < D := by
    intro i hi hne
    have h1 := hi.2.2.2 C hi.1 (Nat.le_refl _)
    rw [← a1] at h1
    by_cases e : eb_dp K i = D
    · rw [e] at hi
      exact absurd (eb_Op_1 hi ⟨o1, o2, o3, o4⟩) hne
    · omega
  refine ⟨eD.symm, ?_, ?_, ?_, ?_, ?_, ?_⟩
  · intro i hi
    by_cases e : i = C
    · subst e; rw [ea_us, ea_us]; exact hk
    · rw [ea_un e, ea_un e]; exact a2 i (by omega)
  · intro i hi hop
    by_cases e : i = C
    · subst e; rw [e0, eb_op_cl ec] at hop; exact absurd hop (by decide)
    · rw [ea_un e] at hop
      by_cases eo : i = o
      · subst eo
        exact Or.inr ⟨C, mo, pC⟩
      · rw [mi i e eo, eb_dp_u (by omega)]
        rcases a3 i (by omega) hop with ⟨b1, b2⟩ | ⟨j, b1, b2⟩
        · exact Or.inl ⟨b1, eb_Op_u b2 (by rw [eD]; exact un i b2 eo)⟩
        · exact Or.inr ⟨j, b1, eb_Pr_u b2⟩
  · intro i hi hcl
    by_cases e : i = C
    · subst e
      exact ⟨o, mC, pC⟩
    · rw [ea_un e] at hcl
      have eo : i ≠ o := fun z => by
        subst z; rw [eb_cl_of_op o2] at hcl; exact absurd hcl (by decide)
      rw [mi i e eo]
      obtain ⟨j, b1, b2⟩ := a4 i (by omega) hcl
      exact ⟨j, b1, eb_Pr_u b2⟩
  · intro i hi h0
    by_cases e : i = C
    · subst e
      rw [e0] at h0
      rw [h0] at ec
      exact absurd ec (by decide)
    · rw [ea_un e] at h0
      have eo : i ≠ o := fun z => by
        subst z; rw [h0] at o2; exact absurd o2 (by decide)
      rw [mi i e eo]
      exact a5 i (by omega) h0
  · intro d hd
    obtain ⟨q, b1, b2⟩ := a6 d (by omega)
    exact ⟨q, b1, eb_Op_u b2 (by omega)⟩
  · intro i hi h3 hm
    by_cases e : i = C
    · subst e
      rw [mC] at hm
      exact absurd hm (ea_ne1 (by omega))
    · rw [ea_un e] at h3
      by_cases eo : i = o
      · subst eo
        rw [mo] at hm
        exact absurd hm (ea_ne1 (by omega))
      · rw [mi i e eo] at hm
        have := a7 i (by omega) h3 hm
        rcases a3 i (by omega) (by rw [h3]; decide) with ⟨b1, b2⟩ | ⟨j, b1, b2⟩
        · have := un i b2 eo; omega
        · rw [b1] at hm
          have := b2.2.1
          exact absurd hm (ea_ne1 (by omega))
section EB
variable {f_cap f_length f_count f_depth f_linkCount f_runCount f_openerCount f_nodes f_domain : Int32} {a_source a_kinds a_chars a_mate a_openStack a_cellKind a_group a_live a_runLo a_runHi a_runChar a_runSize a_runGroup a_runOpens a_runCloses a_openers a_floors a_start a_width a_out a_nodeOf a_clash : Nat → Int32}
theorem eb_xapT {post : SX → Prop} {C : Nat} {c : Int32} (hC : C < 64) (h : post (f_cap, f_length, (nI (C + 1)), f_depth, f_linkCount, f_runCount, f_openerCount, f_nodes, f_domain, a_source, (upd a_kinds C 0), (upd a_chars C c), (upd a_mate C (-1)), a_openStack, a_cellKind, a_group, a_live, a_runLo, a_runHi, a_runChar, a_runSize, a_runGroup, a_runOpens, a_runCloses, a_openers, a_floors, a_start, a_width, a_out, a_nodeOf, a_clash)) : wpX_append post (f_cap, f_length, (nI C), f_depth, f_linkCount, f_runCount, f_openerCount, f_nodes, f_domain, a_source, a_kinds, a_chars, a_mate, a_openStack, a_cellKind, a_group, a_live, a_runLo, a_runHi, a_runChar, a_runSize, a_runGroup, a_runOpens, a_runCloses, a_openers, a_floors, a_start, a_width, a_out, a_nodeOf, a_clash) 0 c := by
  have e : (nI C).toNatClampNeg = C := nI_clamp (by omega)
  have w : vp_in (nI C) 64 := vp_in_nI hC (by omega)
  exact ⟨w, nm_r (e' := upd a_kinds C 0) (by rw [e]) ⟨w, nm_r (e' := upd a_chars C c) (by rw [e]) ⟨w, nm_r (e' := upd a_mate C (-1)) (by rw [e]) (br_t (by decide) (br_t (by decide) (nm_r (nI_1 C) h)))⟩⟩⟩
theorem eb_xapO {post : SX → Prop} {C D : Nat} {k c : Int32} (hC : C < 64) (hD : D < 64) (hk : eb_op k = true) (h : post (f_cap, f_length, (nI (C + 1)), (nI (D + 1)), f_linkCount, f_runCount, f_openerCount, f_nodes, f_domain, a_source, (upd a_kinds C k), (upd a_chars C c), (upd a_mate C (-1)), (upd a_openStack D (nI C)), a_cellKind, a_group, a_live, a_runLo, a_runHi, a_runChar, a_runSize, a_runGroup, a_runOpens, a_runCloses, a_openers, a_floors, a_start, a_width, a_out, a_nodeOf, a_clash)) : wpX_append post (f_cap, f_length, (nI C), (nI D), f_linkCount, f_runCount, f_openerCount, f_nodes, f_domain, a_source, a_kinds, a_chars, a_mate, a_openStack, a_cellKind, a_group, a_live, a_runLo, a_runHi, a_runChar, a_runSize, a_runGroup, a_runOpens, a_runCloses, a_openers, a_floors, a_start, a_width, a_out, a_nodeOf, a_clash) k c := by
  have e : (nI C).toNatClampNeg = C := nI_clamp (by omega)
  have w : vp_in (nI C) 64 := vp_in_nI hC (by omega)
  have e2 : (nI D).toNatClampNeg = D := nI_clamp (by omega)
  have w2 : vp_in (nI D) 64 := vp_in_nI hD (by omega)
  have hk := eb_op_iff.mp hk
  exact ⟨w, nm_r (e' := upd a_kinds C k) (by rw [e]) ⟨w, nm_r (e' := upd a_chars C c) (by rw [e]) ⟨w, nm_r (e' := upd a_mate C (-1)) (by rw [e]) (br_f hk.1 (br_f hk.2 ⟨w2, nm_r (e' := upd a_openStack D (nI C)) (by rw [e2]) (nm_r (nI_1 D) (nm_r (nI_1 C) h))⟩))⟩⟩⟩
theorem eb_xapC {post : SX → Prop} {C D o : Nat} {k c : Int32} (hC : C < 64) (hD : D < 64) (ho : o < 64) (eo : a_openStack D = nI o) (hk : eb_cl k = true) (h : post (f_cap, f_length, (nI (C + 1)), (nI D), f_linkCount, f_runCount, f_openerCount, f_nodes, f_domain, a_source, (upd a_kinds C k), (upd a_chars C c), (upd (upd (upd a_mate C (-1)) o (nI C)) C (nI o)), a_openStack, a_cellKind, a_group, a_live, a_runLo, a_runHi, a_runChar, a_runSize, a_runGroup, a_runOpens, a_runCloses, a_openers, a_floors, a_start, a_width, a_out, a_nodeOf, a_clash)) : wpX_append post (f_cap, f_length, (nI C), (nI (D + 1)), f_linkCount, f_runCount, f_openerCount, f_nodes, f_domain, a_source, a_kinds, a_chars, a_mate, a_openStack, a_cellKind, a_group, a_live, a_runLo, a_runHi, a_runChar, a_runSize, a_runGroup, a_runOpens, a_runCloses, a_openers, a_floors, a_start, a_width, a_out, a_nodeOf, a_clash) k c := by
  have e : (nI C).toNatClampNeg = C := nI_clamp (by omega)
  have w : vp_in (nI C) 64 := vp_in_nI hC (by omega)
  have e2 : (nI D).toNatClampNeg = D := nI_clamp (by omega)
  have w2 : vp_in (nI D) 64 := vp_in_nI hD (by omega)
  have e3 : (nI o).toNatClampNeg = o := nI_clamp (by omega)
  have w3 : vp_in (nI o) 64 := vp_in_nI ho (by omega)
  have hk5 := eb_cl_iff.mp hk
  have k1 : ¬ k < 1 := fun z => by
    rw [Int32.lt_iff_toInt_lt] at z hk5
    rw [eb_t1] at z; rw [eb_t5] at hk5; omega
  have k4 : 4 < k := by
    rw [Int32.lt_iff_toInt_lt] at hk5 ⊢
    rw [eb_t5] at hk5; rw [eb_t4]; omega
  have kd : ¬ nI (D + 1) ≤ 0 := nI_nle (by omega) (by omega)
  refine ⟨w, nm_r (e' := upd a_kinds C k) (by rw [e]) ⟨w, nm_r (e' := upd a_chars C c) (by rw [e]) ⟨w, nm_r (e' := upd a_mate C (-1)) (by rw [e]) (br_f k1 (br_t k4 (br_f hk5 (br_f kd (nm_r (nI_pred D) ⟨w2, nm_r (e' := nI o) (by rw [e2]; exact eo) ⟨w3, nm_r (e' := upd (upd a_mate C (-1)) o (nI C)) (by rw [e3]) ⟨w, nm_r (e' := upd (upd (upd a_mate C (-1)) o (nI C)) C (nI o)) (by rw [e]) (nm_r (nI_1 C) h)⟩⟩⟩))))) ⟩⟩⟩
end EB
end
section
/-! Y's step, partner, innermost; the relation -/
theorem ec_dp1 {K : Nat → Int32} (k : Nat) : eb_dp K k ≤ eb_dp K (k + 1) + 1 := by
  cases h1 : eb_op (K k)
  · cases h2 : eb_cl (K k)
    · rw [eb_dp_n h1 h2]; omega
    · rw [eb_dp_c h2]; omega
  · rw [eb_dp_o h1]; omega
theorem ec_r1 (a b s : Int32) : a - b + s = a + s - b := by grind
theorem ec_r2 (a b s : Int32) : a - (b + s) + s = a - b := by grind
theorem ec_cl1 {C D : Nat} {K H M O : Nat → Int32} (I : eb_Itm C D K H M O) {k : Nat} (hk : k < C) (h : eb_cl (K k) = true) : 1 ≤ eb_dp K k := by
  obtain ⟨i, _, p⟩ := I.2.2.2.1 k hk h
  have := p.2.2.2.2.1
  omega
theorem ec_nn {x : Int32} (h1 : eb_op x = false) (h2 : eb_cl x = false) (hk : ∃ h, eb_Kc x h) : x = 0 := by
  obtain ⟨h, hk⟩ := hk
  rcases hk with hk | ⟨hk, _⟩ | hk
  · exact hk.1
  · rcases hk with z | z | z | z | z | z | z <;> subst z <;> first | exact absurd h1 (by decide) | exact absurd h2 (by decide)
  · rw [hk.1] at h2; exact absurd h2 (by decide)
section EC
variable {f_linkCount f_runCount f_openerCount f_nodes f_domain : Int32} {a_source a_kinds a_chars a_mate a_openStack a_cellKind a_group a_live a_runLo a_runHi a_runChar a_runSize a_runGroup a_runOpens a_runCloses a_openers a_floors a_start a_width a_out a_nodeOf a_clash : Nat → Int32} {g_wLen : Int32} {b_src b_w b_pos b_till b_mark b_out b_group b_flag b_len b_lo b_hi b_live b_dropped : Nat → Int32}
variable {c L C D : Nat} {lim sl : Int32} {K H M O : Nat → Int32}
theorem ec_ystep {post : Int32 → Prop} {i : Nat} (hC : C ≤ 64) (hi : i < C) (h : post (eb_sg (K i))) : wpY_step post (lim, sl, (nI C), g_wLen, b_src, K, H, b_w, b_pos, b_till, b_mark, b_out, b_group, b_flag, b_len, b_lo, b_hi, b_live, b_dropped) (nI i) := by
  have e : (nI i).toNatClampNeg = i := nI_clamp (by omega)
  unfold wpY_step
  dsimp only
  refine br_f (nI_pos (by omega)) (br_t (nI_lt hi (by omega)) ⟨vp_in_nI (by omega) (by omega), ?_⟩)
  rw [e]
  unfold eb_sg at h
  refine br_c (fun a => ?_) (fun a => ?_)
  · rw [if_pos a] at h
    refine br_c (fun b => ?_) (fun b => ?_)
    · rw [if_pos b] at h; exact h
    · rw [if_neg b] at h; exact h
  · rw [if_neg a] at h; exact h
theorem ec_ypf {post : Int32 → Prop} {i : Nat} (I : eb_Itm C D K H M O) (hC : C ≤ 64) (hi : i < C) (ho : eb_op (K i) = true) (h : post (M i)) :
    ∀ d k n, k + d = C → i ≤ k → d < n → (∀ t, i < t → t ≤ k → eb_dp K i < eb_dp K t) →
      wY_partner_11 post (nI i) 1 lim sl (nI C) g_wLen b_src K H b_w b_pos b_till b_mark b_out b_group b_flag b_len b_lo b_hi b_live b_dropped n (nI (eb_dp K k) - nI (eb_dp K i)) (nI k) := by
  have dl := fun q => eb_dp_le K q
  have cs := I.2.2.1 i hi ho
  have nj : ∀ j, eb_Pr K C i j → eb_dp K (j + 1) = eb_dp K i := by
    intro j p
    have : eb_cl (K j) = true := by rw [p.2.2.2.1]; exact eb_cl_op p.2.2.1
    have a := eb_dp_c this
    have b := p.2.2.2.2.1
    omega
  intro d
  induction d with
  | zero =>
    intro k n hk hik hn hf
    obtain ⟨n, rfl⟩ : ∃ m, n = m + 1 := ⟨n - 1, by omega⟩
    refine br_f (by decide) (br_t (nI_le (by omega) (by omega)) ⟨1, br_t (by decide) ?_⟩)
    rcases cs with ⟨b1, _⟩ | ⟨j, b1, b2⟩
    · rw [b1] at h; exact h
    · have h1 := hf (j + 1) (by have := b2.1; omega) (by have := b2.2.1; omega)
      have := nj j b2
      omega
  | succ d ih =>
    intro k n hk hik hn hf
    obtain ⟨n, rfl⟩ : ∃ m, n = m + 1 := ⟨n - 1, by omega⟩
    have d1 := dl k
    have d2 := dl (k + 1)
    have d3 := dl i
    refine br_f (by decide) (br_f (nI_ge (by omega) (by omega)) (ec_ystep hC (by omega) ?_))
    refine nm_r (e' := nI (eb_dp K (k + 1)) - nI (eb_dp K i)) ?_ ?_
    · rw [ec_r1, eb_sg_dp (fun z => ec_cl1 I (by omega) z)]
    · refine br_c (fun z => ?_) (fun z => nm_r (nI_1 k) ?_)
      · rw [ea_sub0 (by omega) (by omega)] at z
        rcases cs with ⟨b1, b2⟩ | ⟨j, b1, b2⟩
        · have := b2.2.2.2 (k + 1) (by omega) (by omega); omega
        · have hj := nj j b2
          have : j = k := by
            rcases Nat.lt_trichotomy j k with w | w | w
            · have := hf (j + 1) (by have := b2.1; omega) (by omega); omega
            · exact w
            · have := b2.2.2.2.2.2 (k + 1) (by omega) (by omega); omega
          subst this
          rw [b1] at h; exact h
      · rw [ea_sub0 (by omega) (by omega)] at z
        refine ih (k + 1) n (by omega) (by omega) (by omega) (fun t h1 h2 => ?_)
        by_cases e : t = k + 1
        · subst e
          by_cases e2 : i = k
          · subst e2; rw [eb_dp_o ho]; omega
          · have := hf k (by omega) (Nat.le_refl _)
            have := ec_dp1 (K := K) k
            omega
        · exact hf t h1 (by omega)
theorem ec_ypb {post : Int32 → Prop} {i j : Nat} (I : eb_Itm C D K H M O) (hC : C ≤ 64) (p : eb_Pr K C i j) (h : post (nI i)) :
    ∀ d k n, i + d = k → k ≤ j → d < n →
      wY_partner_49 post (-1) lim sl (nI C) g_wLen b_src K H b_w b_pos b_till b_mark b_out b_group b_flag b_len b_lo b_hi b_live b_dropped n (nI (eb_dp K (j + 1)) - nI (eb_dp K (k + 1))) (nI k) := by
  have dl := fun q => eb_dp_le K q
  have pj := p.2.1
  have hcl : eb_cl (K j) = true := by rw [p.2.2.2.1]; exact eb_cl_op p.2.2.1
  have a := eb_dp_c hcl
  have b := p.2.2.2.2.1
  intro d
  induction d with
  | zero =>
    intro k n hk hkj hn
    obtain ⟨n, rfl⟩ : ∃ m, n = m + 1 := ⟨n - 1, by omega⟩
    have d1 := dl k
    have d2 := dl (j + 1)
    refine br_f (by decide) (br_f (nI_pos (by omega)) (ec_ystep hC (by omega) ?_))
    refine nm_r (e' := nI (eb_dp K (j + 1)) - nI (eb_dp K k)) ?_ ?_
    · rw [← eb_sg_dp (i := k) (fun z => ec_cl1 I (by omega) z), ec_r2]
    · have e : k = i := by omega
      subst e
      exact br_t ((ea_sub0 (by omega) (by omega)).mpr (by omega)) h
  | succ d ih =>
    intro k n hk hkj hn
    obtain ⟨n, rfl⟩ : ∃ m, n = m + 1 := ⟨n - 1, by omega⟩
    have d1 := dl k
    have d2 := dl (j + 1)
    refine br_f (by decide) (br_f (nI_pos (by omega)) (ec_ystep hC (by omega) ?_))
    refine nm_r (e' := nI (eb_dp K (j + 1)) - nI (eb_dp K k)) ?_ ?_
    · rw [← eb_sg_dp (i := k) (fun z => ec_cl1 I (by omega) z), ec_r2]
    · have := p.2.2.2.2.2 k (by omega) hkj
      refine br_f (fun z => ?_) (nm_r (ea_m (by omega)) ?_)
      · rw [ea_sub0 (by omega) (by omega)] at z; omega
      · have q := ih (k - 1) n (by omega) (by omega) (by omega)
        rw [Nat.sub_add_cancel (by omega)] at q
        exact q
/-- Y's partner is X's mate -/
theorem ec_ypa {post : Int32 → Prop} {i : Nat} (I : eb_Itm C D K H M O) (hC : C ≤ 64) (hi : i < C) (h : post (M i)) : wpY_partner post (lim, sl, (nI C), g_wLen, b_src, K, H, b_w, b_pos, b_till, b_mark, b_out, b_group, b_flag, b_len, b_lo, b_hi, b_live, b_dropped) (nI i) := by
  unfold wpY_partner
  dsimp only
  refine ec_ystep hC hi ?_
  cases h1 : eb_op (K i)
  · cases h2 : eb_cl (K i)
    · rw [eb_sg_n h1 h2]
      have := I.2.2.2.2.1 i hi (ec_nn h1 h2 ⟨_, I.2.1 i hi⟩)
      rw [this] at h
      exact ⟨1, br_t (by decide) ⟨1, br_t (by decide) h⟩⟩
    · rw [eb_sg_c h2]
      obtain ⟨j, b1, b2⟩ := I.2.2.2.1 i hi h2
      rw [b1] at h
      have q := ec_ypb (lim := lim) (sl := sl) (g_wLen := g_wLen) (b_src := b_src) (b_w := b_w) (b_pos := b_pos) (b_till := b_till) (b_mark := b_mark) (b_out := b_out) (b_group := b_group) (b_flag := b_flag) (b_len := b_len) (b_lo := b_lo) (b_hi := b_hi) (b_live := b_live) (b_dropped := b_dropped) I hC b2 h (i - j) i (i - j + 1) (by have := b2.1; omega) (Nat.le_refl _) (by omega)
      rw [Int32.sub_self] at q
      exact ⟨1, br_t (by decide) ⟨_, q⟩⟩
  · rw [eb_sg_o h1]
    have q := ec_ypf (lim := lim) (sl := sl) (g_wLen := g_wLen) (b_src := b_src) (b_w := b_w) (b_pos := b_pos) (b_till := b_till) (b_mark := b_mark) (b_out := b_out) (b_group := b_group) (b_flag := b_flag) (b_len := b_len) (b_lo := b_lo) (b_hi := b_hi) (b_live := b_live) (b_dropped := b_dropped) I hC hi h1 h (C - i) i (C - i + 1) (by omega) (Nat.le_refl _) (by omega) (fun t h1 h2 => by omega)
    rw [Int32.sub_self] at q
    exact ⟨_, q⟩
theorem ec_ypo {post : Int32 → Prop} {x : Int32} (hx : x < 0 ∨ ¬ x < nI C) (h : post (-1)) : wpY_partner post (lim, sl, (nI C), g_wLen, b_src, K, H, b_w, b_pos, b_till, b_mark, b_out, b_group, b_flag, b_len, b_lo, b_hi, b_live, b_dropped) x := by
  unfold wpY_partner wpY_step
  dsimp only
  have q : wY_partner_11 post x 0 lim sl (nI C) g_wLen b_src K H b_w b_pos b_till b_mark b_out b_group b_flag b_len b_lo b_hi b_live b_dropped 1 0 x := br_t (by decide) ⟨1, br_t (by decide) h⟩
  by_cases z : x < 0
  · exact br_t z (br_f (by decide) ⟨1, q⟩)
  · rcases hx with w | w
    · exact absurd w z
    · exact br_f z (br_f w (br_f (by decide) ⟨1, q⟩))
def ec_un (K M : Nat → Int32) (t : Nat) : Prop := eb_op (K t) = true ∧ M t = -1
theorem ec_un_Op (I : eb_Itm C D K H M O) (hC : C ≤ 64) {t : Nat} (ht : t < C) (u : ec_un K M t) : eb_Op K C (eb_dp K t) t := by
  rcases I.2.2.1 t ht u.1 with ⟨_, b⟩ | ⟨j, b1, b2⟩
  · exact b
  · have := u.2
    rw [b1] at this
    have := b2.2.1
    exact absurd ‹nI j = -1› (ea_ne1 (by omega))
theorem ec_Op_un (I : eb_Itm C D K H M O) {d o : Nat} (u : eb_Op K C d o) : ec_un K M o := by
  refine ⟨u.2.1, ?_⟩
  rcases I.2.2.1 o u.1 u.2.1 with ⟨b, _⟩ | ⟨j, b1, b2⟩
  · exact b
  · exfalso
    have h1 : eb_cl (K j) = true := by rw [b2.2.2.2.1]; exact eb_cl_op b2.2.2.1
    have h2 := eb_dp_c h1
    have h3 := b2.2.2.2.2.1
    have h4 := b2.1
    have h5 := b2.2.1
    have h6 := u.2.2.2 (j + 1) (by omega) (by omega)
    have h7 := u.2.2.1
    omega
theorem ec_un_D (I : eb_Itm C D K H M O) (hC : C ≤ 64) {t : Nat} (ht : t < C) (u : ec_un K M t) : eb_dp K t < D := by
  have a := ec_un_Op I hC ht u
  have := a.2.2.2 C ht (Nat.le_refl _)
  rw [I.1]; exact this
/-- the innermost unclosed item is the top of the stack -/
theorem ec_top (I : eb_Itm C (D + 1) K H M O) (hC : C ≤ 64) {o t : Nat} (ho : eb_Op K C D o) (h1 : o < t) (h2 : t < C) : ¬ ec_un K M t := by
  intro u
  have a := ho.2.2.2 t h1 (by omega)
  have b := ec_un_D I hC h2 u
  omega
theorem ec_yin {post : Int32 → Prop} (I : eb_Itm C D K H M O) (hC : C ≤ 64) (h0 : (∀ t, t < C → ¬ ec_un K M t) → post (-1)) (h1 : ∀ o, o < C → ec_un K M o → (∀ t, o < t → t < C → ¬ ec_un K M t) → post (nI o)) : wpY_innermost post (lim, sl, (nI C), g_wLen, b_src, K, H, b_w, b_pos, b_till, b_mark, b_out, b_group, b_flag, b_len, b_lo, b_hi, b_live, b_dropped) := by
  have key : ∀ k n, k < n → k ≤ C → (∀ t, k ≤ t → t < C → ¬ ec_un K M t) → wY_innermost_7 post lim sl (nI C) g_wLen b_src K H b_w b_pos b_till b_mark b_out b_group b_flag b_len b_lo b_hi b_live b_dropped n (nI k - 1) := by
    intro k
    induction k with
    | zero =>
      intro n hn hk hf
      obtain ⟨n, rfl⟩ : ∃ m, n = m + 1 := ⟨n - 1, by omega⟩
      exact br_t (by decide) (h0 (fun t ht => hf t (by omega) ht))
    | succ k ih =>
      intro n hn hk hf
      obtain ⟨n, rfl⟩ : ∃ m, n = m + 1 := ⟨n - 1, by omega⟩
      rw [nI_pred k]
      have nx : (nI k + (-1)) = nI k - 1 := by grind
      refine br_f (nI_pos (by omega)) (ec_ystep hC (by omega) ?_)
      have nop : ¬ ec_un K M k → wY_innermost_7 post lim sl (nI C) g_wLen b_src K H b_w b_pos b_till b_mark b_out b_group b_flag b_len b_lo b_hi b_live b_dropped n (nI k - 1) := by
        intro u
        refine ih n (by omega) (by omega) (fun t a b => ?_)
        by_cases e : t = k
        · subst e; exact u
        · exact hf t (by omega) b
      cases z : eb_op (K k)
      · have : eb_sg (K k) ≤ 0 := by
          cases y : eb_cl (K k)
          · rw [eb_sg_n z y]; decide
          · rw [eb_sg_c y]; decide
        exact br_t this (nm_r nx (nop (fun u => by rw [u.1] at z; exact absurd z (by decide))))
      · rw [eb_sg_o z]
        refine br_f (by decide) (ec_ypa I hC (by omega) (br_c (fun y => ?_) (fun y => nm_r nx (nop (fun u => y u.2)))))
        exact h1 k (by omega) ⟨z, y⟩ (fun t a b => hf t (by omega) b)
  exact nm_e ⟨_, key C (C + 1) (by omega) (Nat.le_refl _) (fun t a b => by omega)⟩
theorem ec_yod {post : Int32 → Prop} (I : eb_Itm C D K H M O) (hC : C ≤ 64) (h : post (nI D)) : wpY_openDepth post (lim, sl, (nI C), g_wLen, b_src, K, H, b_w, b_pos, b_till, b_mark, b_out, b_group, b_flag, b_len, b_lo, b_hi, b_live, b_dropped) := by
  have key : ∀ d k n, k + d = C → d < n → wY_openDepth_4 post lim sl (nI C) g_wLen b_src K H b_w b_pos b_till b_mark b_out b_group b_flag b_len b_lo b_hi b_live b_dropped n (nI (eb_dp K k)) (nI k) := by
    intro d
    induction d with
    | zero =>
      intro k n hk hn
      obtain ⟨n, rfl⟩ : ∃ m, n = m + 1 := ⟨n - 1, by omega⟩
      have e : k = C := by omega
      subst e
      rw [I.1] at h
      exact br_t (nI_le (Nat.le_refl _) (by omega)) h
    | succ d ih =>
      intro k n hk hn
      obtain ⟨n, rfl⟩ : ∃ m, n = m + 1 := ⟨n - 1, by omega⟩
      exact br_f (nI_ge (by omega) (by omega)) (ec_ystep hC (by omega) (nm_r (eb_sg_dp (fun z => ec_cl1 I (by omega) z)) (nm_r (nI_1 k) (ih (k + 1) n (by omega) (by omega)))))
  exact ⟨_, key C 0 (C + 1) (by omega) (by omega)⟩
end EC
/-- both states, as far as they matter -/
def ec_Ok (c L C D : Nat) (S K H M O : Nat → Int32) : Prop := 8 ≤ c ∧ c ≤ 64 ∧ L ≤ c ∧ C ≤ c ∧ (∀ j, j < L → ea_ok (S j)) ∧ eb_Itm C D K H M O
def ec_St (f_cap f_length f_count f_depth : Int32) (a_source a_kinds a_chars a_mate a_openStack a_cellKind a_live : Nat → Int32) (g_limit g_srcLen g_count : Int32) (b_src b_kinds b_chars b_out b_live : Nat → Int32) : Prop :=
  ∃ c L C D : Nat, f_cap = nI c ∧ f_length = nI L ∧ f_count = nI C ∧ f_depth = nI D ∧ g_limit = nI c ∧ g_srcLen = nI L ∧ g_count = nI C ∧ b_src = a_source ∧ b_kinds = a_kinds ∧ b_chars = a_chars ∧ b_out = a_cellKind ∧ b_live = a_live ∧ ec_Ok c L C D a_source a_kinds a_chars a_mate a_openStack
/-- the relation at the head of a turn -/
def i_Rel (_ : Nat) (u : SX) (v : SY) : Prop := match u, v with
  | (f_cap, f_length, f_count, f_depth, f_linkCount, f_runCount, f_openerCount, f_nodes, f_domain, a_source, a_kinds, a_chars, a_mate, a_openStack, a_cellKind, a_group, a_live, a_runLo, a_runHi, a_runChar, a_runSize, a_runGroup, a_runOpens, a_runCloses, a_openers, a_floors, a_start, a_width, a_out, a_nodeOf, a_clash), (g_limit, g_srcLen, g_count, g_wLen, b_src, b_kinds, b_chars, b_w, b_pos, b_till, b_mark, b_out, b_group, b_flag, b_len, b_lo, b_hi, b_live, b_dropped) => ec_St f_cap f_length f_count f_depth a_source a_kinds a_chars a_mate a_openStack a_cellKind a_live g_limit g_srcLen g_count b_src b_kinds b_chars b_out b_live
theorem i_up {k : Nat} {u : SX} {v : SY} (h : i_Rel k u v) : i_Rel (k + 2) u v := h
theorem ec_in {k c L C D : Nat} {f_linkCount f_runCount f_openerCount f_nodes f_domain : Int32} {a_source a_kinds a_chars a_mate a_openStack a_cellKind a_group a_live a_runLo a_runHi a_runChar a_runSize a_runGroup a_runOpens a_runCloses a_openers a_floors a_start a_width a_out a_nodeOf a_clash : Nat → Int32} {g_wLen : Int32} {b_w b_pos b_till b_mark b_group b_flag b_len b_lo b_hi b_dropped : Nat → Int32} (h : ec_Ok c L C D a_source a_kinds a_chars a_mate a_openStack) : i_Rel k ((nI c), (nI L), (nI C), (nI D), f_linkCount, f_runCount, f_openerCount, f_nodes, f_domain, a_source, a_kinds, a_chars, a_mate, a_openStack, a_cellKind, a_group, a_live, a_runLo, a_runHi, a_runChar, a_runSize, a_runGroup, a_runOpens, a_runCloses, a_openers, a_floors, a_start, a_width, a_out, a_nodeOf, a_clash) ((nI c), (nI L), (nI C), g_wLen, a_source, a_kinds, a_chars, b_w, b_pos, b_till, b_mark, a_cellKind, b_group, b_flag, b_len, b_lo, b_hi, a_live, b_dropped) :=
  ⟨c, L, C, D, rfl, rfl, rfl, rfl, rfl, rfl, rfl, rfl, rfl, rfl, rfl, rfl, h⟩
theorem ec_el {k : Nat} {u : SX} {v : SY} {P : SX → SY → Prop} (I : i_Rel k u v) (h : ∀ {c L C D : Nat} {f_linkCount f_runCount f_openerCount f_nodes f_domain : Int32} {a_source a_kinds a_chars a_mate a_openStack a_cellKind a_group a_live a_runLo a_runHi a_runChar a_runSize a_runGroup a_runOpens a_runCloses a_openers a_floors a_start a_width a_out a_nodeOf a_clash : Nat → Int32} {g_wLen : Int32} {b_w b_pos b_till b_mark b_group b_flag b_len b_lo b_hi b_dropped : Nat → Int32}, ec_Ok c L C D a_source a_kinds a_chars a_mate a_openStack → P ((nI c), (nI L), (nI C), (nI D), f_linkCount, f_runCount, f_openerCount, f_nodes, f_domain, a_source, a_kinds, a_chars, a_mate, a_openStack, a_cellKind, a_group, a_live, a_runLo, a_runHi, a_runChar, a_runSize, a_runGroup, a_runOpens, a_runCloses, a_openers, a_floors, a_start, a_width, a_out, a_nodeOf, a_clash) ((nI c), (nI L), (nI C), g_wLen, a_source, a_kinds, a_chars, b_w, b_pos, b_till, b_mark, a_cellKind, b_group, b_flag, b_len, b_lo, b_hi, a_live, b_dropped)) : P u v := by
  match u, v, I with
  | (f_cap, f_length, f_count, f_depth, f_linkCount, f_runCount, f_openerCount, f_nodes, f_domain, a_source, a_kinds, a_chars, a_mate, a_openStack, a_cellKind, a_group, a_live, a_runLo, a_runHi, a_runChar, a_runSize, a_runGroup, a_runOpens, a_runCloses, a_openers, a_floors, a_start, a_width, a_out, a_nodeOf, a_clash), (g_limit, g_srcLen, g_count, g_wLen, b_src, b_kinds, b_chars, b_w, b_pos, b_till, b_mark, b_out, b_group, b_flag, b_len, b_lo, b_hi, b_live, b_dropped), I =>
    obtain ⟨c, L, C, D, e1, e2, e3, e4, e5, e6, e7, e8, e9, e10, e11, e12, ok⟩ := I
    subst e1 e2 e3 e4 e5 e6 e7 e8 e9 e10 e11 e12
    exact h ok
end
section
/-! the constructors and the small methods -/
theorem ed_ok0 {c : Nat} (h1 : 8 ≤ c) (h2 : c ≤ 64) {S K H M O : Nat → Int32} : ec_Ok c 0 0 0 S K H M O :=
  ⟨h1, h2, by omega, by omega, fun j h => by omega, eb_Itm_0⟩
theorem i_vc0 (k0 : Int32) : wpX_init (fun u => wpY_init (fun v => i_Rel 1 u v) k0) k0 := by
  have fin : ∀ (x : Int32) (n : Nat), x = nI n → 8 ≤ n → n ≤ 64 →
      i_Rel 1 (x, 0, 0, 0, 0, 0, 0, 0, 0, fun _ => 0, fun _ => 0, fun _ => 0, fun _ => 0, fun _ => 0, fun _ => 0, fun _ => 0, fun _ => 0, fun _ => 0, fun _ => 0, fun _ => 0, fun _ => 0, fun _ => 0, fun _ => 0, fun _ => 0, fun _ => 0, fun _ => 0, fun _ => 0, fun _ => 0, fun _ => 0, fun _ => 0, fun _ => 0) (x, 0, 0, 0, fun _ => 0, fun _ => 0, fun _ => 0, fun _ => 0, fun _ => 0, fun _ => 0, fun _ => 0, fun _ => 0, fun _ => 0, fun _ => 0, fun _ => 0, fun _ => 0, fun _ => 0, fun _ => 0, fun _ => 0) := by
    intro x n e h1 h2
    exact ⟨n, 0, 0, 0, e, rfl, rfl, rfl, e, rfl, rfl, rfl, rfl, rfl, rfl, rfl, ed_ok0 h1 h2⟩
  refine br_c (fun a => br_c (fun b => ?_) (fun b => ?_)) (fun a => br_t (by decide) ?_)
  · refine br_t a (br_t b ?_)
    rw [Int32.le_iff_toInt_le] at a b
    rw [ea_tn8] at a
    rw [ea_tn64] at b
    obtain ⟨j, hj, rfl⟩ := nI_of (x := k0) (fun z => by rw [Int32.lt_iff_toInt_lt, eb_t0] at z; omega)
    rw [nI_toInt hj] at a b
    exact fin _ j rfl (by omega) (by omega)
  · exact br_t a (br_f b (fin 64 64 rfl (by omega) (by omega)))
  · exact br_f a (fin 8 8 rfl (by omega) (by omega))
section ED
variable {f_linkCount f_runCount f_openerCount f_nodes f_domain : Int32} {a_source a_kinds a_chars a_mate a_openStack a_cellKind a_group a_live a_runLo a_runHi a_runChar a_runSize a_runGroup a_runOpens a_runCloses a_openers a_floors a_start a_width a_out a_nodeOf a_clash : Nat → Int32} {g_wLen : Int32} {b_w b_pos b_till b_mark b_group b_flag b_len b_lo b_hi b_dropped : Nat → Int32}
variable {k c L C D : Nat}
theorem ed_type (v1 : Int32) (ok : ec_Ok c L C D a_source a_kinds a_chars a_mate a_openStack) : wpX_type (fun r u' => wpY_type (fun r' v' => r' = r ∧ i_Rel (k + 2) u' v') ((nI c), (nI L), (nI C), g_wLen, a_source, a_kinds, a_chars, b_w, b_pos, b_till, b_mark, a_cellKind, b_group, b_flag, b_len, b_lo, b_hi, a_live, b_dropped) v1) ((nI c), (nI L), (nI C), (nI D), f_linkCount, f_runCount, f_openerCount, f_nodes, f_domain, a_source, a_kinds, a_chars, a_mate, a_openStack, a_cellKind, a_group, a_live, a_runLo, a_runHi, a_runChar, a_runSize, a_runGroup, a_runOpens, a_runCloses, a_openers, a_floors, a_start, a_width, a_out, a_nodeOf, a_clash) v1 := by
  have ok2 := ok
  obtain ⟨o1, o2, o3, o4, o5, o6⟩ := ok2
  refine br_c (fun a => br_t a (br_t a ⟨rfl, ec_in ok⟩)) (fun a => br_c (fun b => ?_) (fun b => ?_))
  · have b' : ¬ 126 < v1 := Int32.not_lt.mpr b
    refine pk_lt L c (fun h => ?_) (fun h => ?_)
    · have e : (nI L).toNatClampNeg = L := nI_clamp (by omega)
      have w : vp_in (nI L) 64 := vp_in_nI (by omega) (by omega)
      refine ⟨w, nm_r (e' := upd a_source L v1) (by rw [e]) (nm_r (nI_1 L) ?_)⟩
      refine br_f a (br_f b' (br_t (nI_lt h (by omega)) (nm_r (nI_1 L) ⟨w, nm_r (e' := upd a_source L v1) (by rw [e]) ⟨rfl, ?_⟩⟩)))
      refine ec_in ⟨o1, o2, by omega, o4, fun j hj => ?_, o6⟩
      by_cases e : j = L
      · subst e; rw [ea_us]; exact (ea_okl v1).mpr ⟨a, b⟩
      · rw [ea_un e]; exact o5 j (by omega)
    · exact br_f a (br_f b' (br_f (nI_nlt h (by omega)) (br_f a (br_t b ⟨rfl, ec_in ok⟩))))
  · have b' : 126 < v1 := Int32.not_le.mp b
    exact br_f a (br_t b' (br_f a (br_f b ⟨rfl, ec_in ok⟩)))
theorem ed_clearSource (ok : ec_Ok c L C D a_source a_kinds a_chars a_mate a_openStack) : wpX_clearSource (fun u' => wpY_clearSource (fun v' => i_Rel (k + 2) u' v') ((nI c), (nI L), (nI C), g_wLen, a_source, a_kinds, a_chars, b_w, b_pos, b_till, b_mark, a_cellKind, b_group, b_flag, b_len, b_lo, b_hi, a_live, b_dropped)) ((nI c), (nI L), (nI C), (nI D), f_linkCount, f_runCount, f_openerCount, f_nodes, f_domain, a_source, a_kinds, a_chars, a_mate, a_openStack, a_cellKind, a_group, a_live, a_runLo, a_runHi, a_runChar, a_runSize, a_runGroup, a_runOpens, a_runCloses, a_openers, a_floors, a_start, a_width, a_out, a_nodeOf, a_clash) := by
  obtain ⟨o1, o2, o3, o4, o5, o6⟩ := ok
  show i_Rel (k + 2) ((nI c), (nI 0), (nI C), (nI D), f_linkCount, f_runCount, f_openerCount, f_nodes, f_domain, a_source, a_kinds, a_chars, a_mate, a_openStack, a_cellKind, a_group, a_live, a_runLo, a_runHi, a_runChar, a_runSize, a_runGroup, a_runOpens, a_runCloses, a_openers, a_floors, a_start, a_width, a_out, a_nodeOf, a_clash) ((nI c), (nI 0), (nI C), g_wLen, a_source, a_kinds, a_chars, b_w, b_pos, b_till, b_mark, a_cellKind, b_group, b_flag, b_len, b_lo, b_hi, a_live, b_dropped)
  exact ec_in (L := 0) ⟨o1, o2, by omega, o4, fun j hj => by omega, o6⟩
theorem ed_sourceAt (v1 : Int32) (ok : ec_Ok c L C D a_source a_kinds a_chars a_mate a_openStack) : wpX_sourceAt (fun r => wpY_sourceAt (fun r' => r' = r ∧ i_Rel (k + 2) ((nI c), (nI L), (nI C), (nI D), f_linkCount, f_runCount, f_openerCount, f_nodes, f_domain, a_source, a_kinds, a_chars, a_mate, a_openStack, a_cellKind, a_group, a_live, a_runLo, a_runHi, a_runChar, a_runSize, a_runGroup, a_runOpens, a_runCloses, a_openers, a_floors, a_start, a_width, a_out, a_nodeOf, a_clash) ((nI c), (nI L), (nI C), g_wLen, a_source, a_kinds, a_chars, b_w, b_pos, b_till, b_mark, a_cellKind, b_group, b_flag, b_len, b_lo, b_hi, a_live, b_dropped)) ((nI c), (nI L), (nI C), g_wLen, a_source, a_kinds, a_chars, b_w, b_pos, b_till, b_mark, a_cellKind, b_group, b_flag, b_len, b_lo, b_hi, a_live, b_dropped) v1) ((nI c), (nI L), (nI C), (nI D), f_linkCount, f_runCount, f_openerCount, f_nodes, f_domain, a_source, a_kinds, a_chars, a_mate, a_openStack, a_cellKind, a_group, a_live, a_runLo, a_runHi, a_runChar, a_runSize, a_runGroup, a_runOpens, a_runCloses, a_openers, a_floors, a_start, a_width, a_out, a_nodeOf, a_clash) v1 := by
  have ok2 := ok
  obtain ⟨o1, o2, o3, o4, o5, o6⟩ := ok2
  refine br_c (fun a => br_t a ⟨rfl, ec_in ok⟩) (fun a => br_c (fun b => ?_) (fun b => br_f a (br_f b ⟨rfl, ec_in ok⟩)))
  obtain ⟨j, hj, rfl⟩ := nI_of a
  have b2 := (nI_ltI hj (by omega)).mp b
  have w : vp_in (nI j) 64 := vp_in_nI (by omega) (by omega)
  exact ⟨w, br_f a (br_t b ⟨w, rfl, ec_in ok⟩)⟩
theorem ed_itemKind (v1 : Int32) (ok : ec_Ok c L C D a_source a_kinds a_chars a_mate a_openStack) : wpX_itemKind (fun r => wpY_itemKind (fun r' => r' = r ∧ i_Rel (k + 2) ((nI c), (nI L), (nI C), (nI D), f_linkCount, f_runCount, f_openerCount, f_nodes, f_domain, a_source, a_kinds, a_chars, a_mate, a_openStack, a_cellKind, a_group, a_live, a_runLo, a_runHi, a_runChar, a_runSize, a_runGroup, a_runOpens, a_runCloses, a_openers, a_floors, a_start, a_width, a_out, a_nodeOf, a_clash) ((nI c), (nI L), (nI C), g_wLen, a_source, a_kinds, a_chars, b_w, b_pos, b_till, b_mark, a_cellKind, b_group, b_flag, b_len, b_lo, b_hi, a_live, b_dropped)) ((nI c), (nI L), (nI C), g_wLen, a_source, a_kinds, a_chars, b_w, b_pos, b_till, b_mark, a_cellKind, b_group, b_flag, b_len, b_lo, b_hi, a_live, b_dropped) v1) ((nI c), (nI L), (nI C), (nI D), f_linkCount, f_runCount, f_openerCount, f_nodes, f_domain, a_source, a_kinds, a_chars, a_mate, a_openStack, a_cellKind, a_group, a_live, a_runLo, a_runHi, a_runChar, a_runSize, a_runGroup, a_runOpens, a_runCloses, a_openers, a_floors, a_start, a_width, a_out, a_nodeOf, a_clash) v1 := by
  have ok2 := ok
  obtain ⟨o1, o2, o3, o4, o5, o6⟩ := ok2
  refine br_c (fun a => br_t a ⟨rfl, ec_in ok⟩) (fun a => br_c (fun b => ?_) (fun b => br_f a (br_f b ⟨rfl, ec_in ok⟩)))
  obtain ⟨j, hj, rfl⟩ := nI_of a
  have b2 := (nI_ltI hj (by omega)).mp b
  have w : vp_in (nI j) 64 := vp_in_nI (by omega) (by omega)
  exact ⟨w, br_f a (br_t b ⟨w, rfl, ec_in ok⟩)⟩
theorem ed_itemChar (v1 : Int32) (ok : ec_Ok c L C D a_source a_kinds a_chars a_mate a_openStack) : wpX_itemChar (fun r => wpY_itemChar (fun r' => r' = r ∧ i_Rel (k + 2) ((nI c), (nI L), (nI C), (nI D), f_linkCount, f_runCount, f_openerCount, f_nodes, f_domain, a_source, a_kinds, a_chars, a_mate, a_openStack, a_cellKind, a_group, a_live, a_runLo, a_runHi, a_runChar, a_runSize, a_runGroup, a_runOpens, a_runCloses, a_openers, a_floors, a_start, a_width, a_out, a_nodeOf, a_clash) ((nI c), (nI L), (nI C), g_wLen, a_source, a_kinds, a_chars, b_w, b_pos, b_till, b_mark, a_cellKind, b_group, b_flag, b_len, b_lo, b_hi, a_live, b_dropped)) ((nI c), (nI L), (nI C), g_wLen, a_source, a_kinds, a_chars, b_w, b_pos, b_till, b_mark, a_cellKind, b_group, b_flag, b_len, b_lo, b_hi, a_live, b_dropped) v1) ((nI c), (nI L), (nI C), (nI D), f_linkCount, f_runCount, f_openerCount, f_nodes, f_domain, a_source, a_kinds, a_chars, a_mate, a_openStack, a_cellKind, a_group, a_live, a_runLo, a_runHi, a_runChar, a_runSize, a_runGroup, a_runOpens, a_runCloses, a_openers, a_floors, a_start, a_width, a_out, a_nodeOf, a_clash) v1 := by
  have ok2 := ok
  obtain ⟨o1, o2, o3, o4, o5, o6⟩ := ok2
  refine br_c (fun a => br_t a ⟨rfl, ec_in ok⟩) (fun a => br_c (fun b => ?_) (fun b => br_f a (br_f b ⟨rfl, ec_in ok⟩)))
  obtain ⟨j, hj, rfl⟩ := nI_of a
  have b2 := (nI_ltI hj (by omega)).mp b
  have w : vp_in (nI j) 64 := vp_in_nI (by omega) (by omega)
  exact ⟨w, br_f a (br_t b ⟨w, rfl, ec_in ok⟩)⟩
theorem ed_partner (v1 : Int32) (ok : ec_Ok c L C D a_source a_kinds a_chars a_mate a_openStack) : wpX_partner (fun r => wpY_partner (fun r' => r' = r ∧ i_Rel (k + 2) ((nI c), (nI L), (nI C), (nI D), f_linkCount, f_runCount, f_openerCount, f_nodes, f_domain, a_source, a_kinds, a_chars, a_mate, a_openStack, a_cellKind, a_group, a_live, a_runLo, a_runHi, a_runChar, a_runSize, a_runGroup, a_runOpens, a_runCloses, a_openers, a_floors, a_start, a_width, a_out, a_nodeOf, a_clash) ((nI c), (nI L), (nI C), g_wLen, a_source, a_kinds, a_chars, b_w, b_pos, b_till, b_mark, a_cellKind, b_group, b_flag, b_len, b_lo, b_hi, a_live, b_dropped)) ((nI c), (nI L), (nI C), g_wLen, a_source, a_kinds, a_chars, b_w, b_pos, b_till, b_mark, a_cellKind, b_group, b_flag, b_len, b_lo, b_hi, a_live, b_dropped) v1) ((nI c), (nI L), (nI C), (nI D), f_linkCount, f_runCount, f_openerCount, f_nodes, f_domain, a_source, a_kinds, a_chars, a_mate, a_openStack, a_cellKind, a_group, a_live, a_runLo, a_runHi, a_runChar, a_runSize, a_runGroup, a_runOpens, a_runCloses, a_openers, a_floors, a_start, a_width, a_out, a_nodeOf, a_clash) v1 := by
  have ok2 := ok
  obtain ⟨o1, o2, o3, o4, o5, o6⟩ := ok2
  refine br_c (fun a => ec_ypo (Or.inl a) ⟨rfl, ec_in ok⟩) (fun a => br_c (fun b => ?_) (fun b => ec_ypo (Or.inr b) ⟨rfl, ec_in ok⟩))
  obtain ⟨j, hj, rfl⟩ := nI_of a
  have b2 := (nI_ltI hj (by omega)).mp b
  have w : vp_in (nI j) 64 := vp_in_nI (by omega) (by omega)
  refine ⟨w, ?_⟩
  rw [nI_clamp hj]
  exact ec_ypa o6 (by omega) b2 ⟨rfl, ec_in ok⟩
theorem ed_openDepth (ok : ec_Ok c L C D a_source a_kinds a_chars a_mate a_openStack) : wpX_openDepth (fun r => wpY_openDepth (fun r' => r' = r ∧ i_Rel (k + 2) ((nI c), (nI L), (nI C), (nI D), f_linkCount, f_runCount, f_openerCount, f_nodes, f_domain, a_source, a_kinds, a_chars, a_mate, a_openStack, a_cellKind, a_group, a_live, a_runLo, a_runHi, a_runChar, a_runSize, a_runGroup, a_runOpens, a_runCloses, a_openers, a_floors, a_start, a_width, a_out, a_nodeOf, a_clash) ((nI c), (nI L), (nI C), g_wLen, a_source, a_kinds, a_chars, b_w, b_pos, b_till, b_mark, a_cellKind, b_group, b_flag, b_len, b_lo, b_hi, a_live, b_dropped)) ((nI c), (nI L), (nI C), g_wLen, a_source, a_kinds, a_chars, b_w, b_pos, b_till, b_mark, a_cellKind, b_group, b_flag, b_len, b_lo, b_hi, a_live, b_dropped)) ((nI c), (nI L), (nI C), (nI D), f_linkCount, f_runCount, f_openerCount, f_nodes, f_domain, a_source, a_kinds, a_chars, a_mate, a_openStack, a_cellKind, a_group, a_live, a_runLo, a_runHi, a_runChar, a_runSize, a_runGroup, a_runOpens, a_runCloses, a_openers, a_floors, a_start, a_width, a_out, a_nodeOf, a_clash) := by
  have ok2 := ok
  obtain ⟨o1, o2, o3, o4, o5, o6⟩ := ok2
  exact ec_yod o6 (by omega) ⟨rfl, ec_in ok⟩
theorem ed_clearItems (ok : ec_Ok c L C D a_source a_kinds a_chars a_mate a_openStack) : wpX_clearItems (fun u' => wpY_clearItems (fun v' => i_Rel (k + 2) u' v') ((nI c), (nI L), (nI C), g_wLen, a_source, a_kinds, a_chars, b_w, b_pos, b_till, b_mark, a_cellKind, b_group, b_flag, b_len, b_lo, b_hi, a_live, b_dropped)) ((nI c), (nI L), (nI C), (nI D), f_linkCount, f_runCount, f_openerCount, f_nodes, f_domain, a_source, a_kinds, a_chars, a_mate, a_openStack, a_cellKind, a_group, a_live, a_runLo, a_runHi, a_runChar, a_runSize, a_runGroup, a_runOpens, a_runCloses, a_openers, a_floors, a_start, a_width, a_out, a_nodeOf, a_clash) := by
  obtain ⟨o1, o2, o3, o4, o5, o6⟩ := ok
  show i_Rel (k + 2) ((nI c), (nI L), (nI 0), (nI 0), f_linkCount, f_runCount, f_openerCount, f_nodes, f_domain, a_source, a_kinds, a_chars, a_mate, a_openStack, a_cellKind, a_group, a_live, a_runLo, a_runHi, a_runChar, a_runSize, a_runGroup, a_runOpens, a_runCloses, a_openers, a_floors, a_start, a_width, a_out, a_nodeOf, a_clash) ((nI c), (nI L), (nI 0), g_wLen, a_source, a_kinds, a_chars, b_w, b_pos, b_till, b_mark, a_cellKind, b_group, b_flag, b_len, b_lo, b_hi, a_live, b_dropped)
  exact ec_in (C := 0) (D := 0) ⟨o1, o2, o3, by omega, o5, eb_Itm_0⟩
/-- Y's append -/
theorem ed_yap {post : Int32 → SY → Prop} {kd ch : Int32} (hc : c ≤ 64) (hC : C < c) (h : post (nI (C + 1)) ((nI c), (nI L), (nI (C + 1)), g_wLen, a_source, (upd a_kinds C kd), (upd a_chars C ch), b_w, b_pos, b_till, b_mark, a_cellKind, b_group, b_flag, b_len, b_lo, b_hi, a_live, b_dropped)) : wpY_append post ((nI c), (nI L), (nI C), g_wLen, a_source, a_kinds, a_chars, b_w, b_pos, b_till, b_mark, a_cellKind, b_group, b_flag, b_len, b_lo, b_hi, a_live, b_dropped) kd ch := by
  have e : (nI C).toNatClampNeg = C := nI_clamp (by omega)
  have w : vp_in (nI C) 64 := vp_in_nI (by omega) (by omega)
  exact br_t (nI_lt hC (by omega)) ⟨w, nm_r (e' := upd a_kinds C kd) (by rw [e]) (nm_r (nI_1 C) ⟨w, nm_r (e' := upd a_chars C ch) (by rw [e]) h⟩)⟩
theorem ed_yap2 {post : Int32 → SY → Prop} {kd ch : Int32} (hC : c ≤ C) (h2 : C ≤ 64) (h : post (-2) ((nI c), (nI L), (nI C), g_wLen, a_source, a_kinds, a_chars, b_w, b_pos, b_till, b_mark, a_cellKind, b_group, b_flag, b_len, b_lo, b_hi, a_live, b_dropped)) : wpY_append post ((nI c), (nI L), (nI C), g_wLen, a_source, a_kinds, a_chars, b_w, b_pos, b_till, b_mark, a_cellKind, b_group, b_flag, b_len, b_lo, b_hi, a_live, b_dropped) kd ch :=
  br_f (nI_nlt hC (by omega)) h
theorem ed_text (v1 : Int32) (ok : ec_Ok c L C D a_source a_kinds a_chars a_mate a_openStack) : wpX_text (fun r u' => wpY_text (fun r' v' => r' = r ∧ i_Rel (k + 2) u' v') ((nI c), (nI L), (nI C), g_wLen, a_source, a_kinds, a_chars, b_w, b_pos, b_till, b_mark, a_cellKind, b_group, b_flag, b_len, b_lo, b_hi, a_live, b_dropped) v1) ((nI c), (nI L), (nI C), (nI D), f_linkCount, f_runCount, f_openerCount, f_nodes, f_domain, a_source, a_kinds, a_chars, a_mate, a_openStack, a_cellKind, a_group, a_live, a_runLo, a_runHi, a_runChar, a_runSize, a_runGroup, a_runOpens, a_runCloses, a_openers, a_floors, a_start, a_width, a_out, a_nodeOf, a_clash) v1 := by
  have ok2 := ok
  obtain ⟨o1, o2, o3, o4, o5, o6⟩ := ok2
  refine br_c (fun a => br_t a ⟨rfl, ec_in ok⟩) (fun a => br_c (fun b => ?_) (fun b => br_f a (br_f b ⟨rfl, ec_in ok⟩)))
  refine pk_lt C c (fun h => ?_) (fun h => ?_)
  · refine eb_xapT (by omega) ?_
    refine br_f a (br_t b (ed_yap o2 h ⟨rfl, ?_⟩))
    exact ec_in ⟨o1, o2, o3, by omega, o5, eb_Itm_t o6 ((ea_okl v1).mpr ⟨a, b⟩)⟩
  · exact br_f a (br_t b (ed_yap2 h (by omega) ⟨rfl, ec_in ok⟩))
/-- an unclosed item that bars opening kind kd -/
def ed_bad (C : Nat) (K M : Nat → Int32) (kd : Int32) : Prop := ∃ i, i < C ∧ (K i = 3 ∨ (kd = 4 ∧ K i = 4)) ∧ M i = -1
theorem ed_yop {post : Int32 → SY → Prop} {kd : Int32} (I : eb_Itm C D a_kinds a_chars a_mate a_openStack) (hC : C ≤ 64) (hb : ed_bad C a_kinds a_mate kd → post (-3) ((nI c), (nI L), (nI C), g_wLen, a_source, a_kinds, a_chars, b_w, b_pos, b_till, b_mark, a_cellKind, b_group, b_flag, b_len, b_lo, b_hi, a_live, b_dropped))
    (hn : ¬ ed_bad C a_kinds a_mate kd → wpY_append post ((nI c), (nI L), (nI C), g_wLen, a_source, a_kinds, a_chars, b_w, b_pos, b_till, b_mark, a_cellKind, b_group, b_flag, b_len, b_lo, b_hi, a_live, b_dropped) kd 0) :
    ∀ d i n, i + d = C → d < n → (∀ t, t < i → ¬ ((a_kinds t = 3 ∨ (kd = 4 ∧ a_kinds t = 4)) ∧ a_mate t = -1)) → wY_open_14 post kd (nI c) (nI L) (nI C) g_wLen a_source a_kinds a_chars b_w b_pos b_till b_mark a_cellKind b_group b_flag b_len b_lo b_hi a_live b_dropped n (nI i) := by
  intro d
  induction d with
  | zero =>
    intro i n hi hn' hf
    obtain ⟨n, rfl⟩ : ∃ m, n = m + 1 := ⟨n - 1, by omega⟩
    exact br_t (nI_le (by omega) (by omega)) (hn (fun ⟨t, t1, t2⟩ => hf t (by omega) t2))
  | succ d ih =>
    intro i n hi hn' hf
    obtain ⟨n, rfl⟩ : ∃ m, n = m + 1 := ⟨n - 1, by omega⟩
    have e : (nI i).toNatClampNeg = i := nI_clamp (by omega)
    have w : vp_in (nI i) 64 := vp_in_nI (by omega) (by omega)
    have nx : ¬ ((a_kinds i = 3 ∨ (kd = 4 ∧ a_kinds i = 4)) ∧ a_mate i = -1) → wY_open_14 post kd (nI c) (nI L) (nI C) g_wLen a_source a_kinds a_chars b_w b_pos b_till b_mark a_cellKind b_group b_flag b_len b_lo b_hi a_live b_dropped n (nI (i + 1)) := fun z =>
      ih (i + 1) n (by omega) (by omega) (fun t ht => by
        by_cases e : t = i
        · subst e; exact z
        · exact hf t (by omega))
    have pa : (a_kinds i = 3 ∨ (kd = 4 ∧ a_kinds i = 4)) → wY_open_47 post (wY_open_14 post kd (nI c) (nI L) (nI C) g_wLen a_source a_kinds a_chars b_w b_pos b_till b_mark a_cellKind b_group b_flag b_len b_lo b_hi a_live b_dropped n) kd (nI i) (nI c) (nI L) (nI C) g_wLen a_source a_kinds a_chars b_w b_pos b_till b_mark a_cellKind b_group b_flag b_len b_lo b_hi a_live b_dropped := by
      intro z
      refine ec_ypa I hC (by omega) (br_c (fun y => hb ⟨i, by omega, z, y⟩) (fun y => nm_r (nI_1 i) (nx (fun x => y x.2))))
    refine br_f (nI_ge (by omega) (by omega)) ⟨w, ?_⟩
    rw [e]
    refine br_c (fun z => pa (Or.inl z)) (fun z => br_c (fun y => ⟨w, ?_⟩) (fun y => nm_r (nI_1 i) (nx (fun x => ?_))))
    · exact br_c (fun x => pa (Or.inr ⟨y, x⟩)) (fun x => nm_r (nI_1 i) (nx (fun q => by
        rcases q.1 with q | q
        · exact z q
        · exact x q.2)))
    · rcases x.1 with q | q
      · exact z q
      · exact y q.1
theorem ed_xil {post : Int32 → Prop} (I : eb_Itm C D a_kinds a_chars a_mate a_openStack) (hC : C ≤ 64) (h1 : (∃ i, i < C ∧ a_kinds i = 4 ∧ a_mate i = -1) → post 1) (h0 : (¬ ∃ i, i < C ∧ a_kinds i = 4 ∧ a_mate i = -1) → post 0) : wpX_insideLink post ((nI c), (nI L), (nI C), (nI D), f_linkCount, f_runCount, f_openerCount, f_nodes, f_domain, a_source, a_kinds, a_chars, a_mate, a_openStack, a_cellKind, a_group, a_live, a_runLo, a_runHi, a_runChar, a_runSize, a_runGroup, a_runOpens, a_runCloses, a_openers, a_floors, a_start, a_width, a_out, a_nodeOf, a_clash) := by
  have hD : D ≤ C := by rw [I.1]; exact eb_dp_le _ _
  have key : ∀ d i n, i + d = D → d < n → (∀ t o, t < i → a_openStack t = nI o → eb_Op a_kinds C t o → ¬ a_kinds o = 4) → wX_insideLink_2 post (nI c) (nI L) (nI C) (nI D) f_linkCount f_runCount f_openerCount f_nodes f_domain a_source a_kinds a_chars a_mate a_openStack a_cellKind a_group a_live a_runLo a_runHi a_runChar a_runSize a_runGroup a_runOpens a_runCloses a_openers a_floors a_start a_width a_out a_nodeOf a_clash n (nI i) := by
    intro d
    induction d with
    | zero =>
      intro i n hi hn hf
      obtain ⟨n, rfl⟩ : ∃ m, n = m + 1 := ⟨n - 1, by omega⟩
      refine br_t (nI_le (by omega) (by omega)) (h0 (fun ⟨q, q1, q2, q3⟩ => ?_))
      have u : ec_un a_kinds a_mate q := ⟨by rw [q2]; decide, q3⟩
      have a := ec_un_Op I hC q1 u
      have b := ec_un_D I hC q1 u
      obtain ⟨o, e1, e2⟩ := I.2.2.2.2.2.1 _ b
      have := eb_Op_1 a e2
      subst this
      exact hf _ _ (by omega) e1 e2 q2
    | succ d ih =>
      intro i n hi hn hf
      obtain ⟨n, rfl⟩ : ∃ m, n = m + 1 := ⟨n - 1, by omega⟩
      obtain ⟨o, e1, e2⟩ := I.2.2.2.2.2.1 i (by omega)
      have e : (nI i).toNatClampNeg = i := nI_clamp (by omega)
      have w : vp_in (nI i) 64 := vp_in_nI (by omega) (by omega)
      have ol := e2.1
      refine br_f (nI_ge (by omega) (by omega)) ⟨w, ?_⟩
      rw [e, e1, nI_clamp (by omega : o < 2 ^ 31)]
      refine ⟨vp_in_nI (by omega) (by omega), br_c (fun z => h1 ⟨o, ol, z, (ec_Op_un I e2).2⟩) (fun z => nm_r (nI_1 i) (ih (i + 1) n (by omega) (by omega) (fun t q ht h1 h2 => ?_)))⟩
      by_cases et : t = i
      · subst et
        have := eb_Op_1 e2 h2
        subst this
        exact z
      · exact hf t q (by omega) h1 h2
  exact ⟨_, key D 0 (D + 1) (by omega) (by omega) (fun t o ht => by omega)⟩
theorem ed_xop {post : Int32 → SX → Prop} {kd : Int32} (I : eb_Itm C D a_kinds a_chars a_mate a_openStack) (hC : C ≤ 64) (h1 : ¬ kd < 1) (h4 : kd ≤ 4) (hb : ed_bad C a_kinds a_mate kd → post (-3) ((nI c), (nI L), (nI C), (nI D), f_linkCount, f_runCount, f_openerCount, f_nodes, f_domain, a_source, a_kinds, a_chars, a_mate, a_openStack, a_cellKind, a_group, a_live, a_runLo, a_runHi, a_runChar, a_runSize, a_runGroup, a_runOpens, a_runCloses, a_openers, a_floors, a_start, a_width, a_out, a_nodeOf, a_clash))
    (hn : ¬ ed_bad C a_kinds a_mate kd → wX_open_57 post kd (nI c) (nI L) (nI C) (nI D) f_linkCount f_runCount f_openerCount f_nodes f_domain a_source a_kinds a_chars a_mate a_openStack a_cellKind a_group a_live a_runLo a_runHi a_runChar a_runSize a_runGroup a_runOpens a_runCloses a_openers a_floors a_start a_width a_out a_nodeOf a_clash) : wpX_open post ((nI c), (nI L), (nI C), (nI D), f_linkCount, f_runCount, f_openerCount, f_nodes, f_domain, a_source, a_kinds, a_chars, a_mate, a_openStack, a_cellKind, a_group, a_live, a_runLo, a_runHi, a_runChar, a_runSize, a_runGroup, a_runOpens, a_runCloses, a_openers, a_floors, a_start, a_width, a_out, a_nodeOf, a_clash) kd := by
  have hD : D ≤ C := by rw [I.1]; exact eb_dp_le _ _
  have o42 : (¬ ∃ i, i < C ∧ a_kinds i = 3 ∧ a_mate i = -1) → wX_open_42 post kd (nI c) (nI L) (nI C) (nI D) f_linkCount f_runCount f_openerCount f_nodes f_domain a_source a_kinds a_chars a_mate a_openStack a_cellKind a_group a_live a_runLo a_runHi a_runChar a_runSize a_runGroup a_runOpens a_runCloses a_openers a_floors a_start a_width a_out a_nodeOf a_clash := by
    intro nc
    refine br_c (fun z => ?_) (fun z => hn (fun ⟨i, i1, i2, i3⟩ => ?_))
    · refine ed_xil I hC (fun ⟨i, i1, i2, i3⟩ => br_f (by decide) (hb ⟨i, i1, Or.inr ⟨z, i2⟩, i3⟩)) (fun y => br_t rfl (hn (fun ⟨i, i1, i2, i3⟩ => ?_)))
      rcases i2 with q | q
      · exact nc ⟨i, i1, q, i3⟩
      · exact y ⟨i, i1, q.2, i3⟩
    · rcases i2 with q | q
      · exact nc ⟨i, i1, q, i3⟩
      · exact z q.1
  refine br_f h1 (br_t h4 ?_)
  cases D with
  | zero =>
    refine br_t (by decide) (o42 (fun ⟨i, i1, i2, i3⟩ => ?_))
    have := ec_un_D I hC i1 ⟨by rw [i2]; decide, i3⟩
    omega
  | succ D =>
    obtain ⟨o, e1, e2⟩ := I.2.2.2.2.2.1 D (by omega)
    have ol := e2.1
    refine br_f (nI_nle (by omega) (by omega)) ?_
    rw [nI_pred D, nI_clamp (by omega : D < 2 ^ 31), e1, nI_clamp (by omega : o < 2 ^ 31)]
    refine ⟨vp_in_nI (by omega) (by omega), vp_in_nI (by omega) (by omega), br_c (fun z => hb ⟨o, ol, Or.inl z, (ec_Op_un I e2).2⟩) (fun z => o42 (fun ⟨i, i1, i2, i3⟩ => ?_))⟩
    have u : ec_un a_kinds a_mate i := ⟨by rw [i2]; decide, i3⟩
    have a := ec_un_Op I hC i1 u
    have b := I.2.2.2.2.2.2 i i1 i2 i3
    have : eb_dp a_kinds i = D := by omega
    rw [this] at a
    have := eb_Op_1 a e2
    subst this
    exact z i2
theorem ed_open (v1 : Int32) (ok : ec_Ok c L C D a_source a_kinds a_chars a_mate a_openStack) : wpX_open (fun r u' => wpY_open (fun r' v' => r' = r ∧ i_Rel (k + 2) u' v') ((nI c), (nI L), (nI C), g_wLen, a_source, a_kinds, a_chars, b_w, b_pos, b_till, b_mark, a_cellKind, b_group, b_flag, b_len, b_lo, b_hi, a_live, b_dropped) v1) ((nI c), (nI L), (nI C), (nI D), f_linkCount, f_runCount, f_openerCount, f_nodes, f_domain, a_source, a_kinds, a_chars, a_mate, a_openStack, a_cellKind, a_group, a_live, a_runLo, a_runHi, a_runChar, a_runSize, a_runGroup, a_runOpens, a_runCloses, a_openers, a_floors, a_start, a_width, a_out, a_nodeOf, a_clash) v1 := by
  have ok2 := ok
  obtain ⟨o1, o2, o3, o4, o5, o6⟩ := ok2
  have hD : D ≤ C := by rw [o6.1]; exact eb_dp_le _ _
  by_cases a : v1 < 1
  · exact br_t a (br_t a ⟨rfl, ec_in ok⟩)
  · by_cases b : v1 ≤ 4
    · have hop : eb_op v1 = true := eb_op_iff.mpr ⟨a, Int32.not_lt.mpr b⟩
      refine ed_xop o6 (by omega) a b (fun hb => ?_) (fun hn => ?_)
      · exact br_f a (br_t b ⟨_, ed_yop o6 (by omega) (fun _ => ⟨rfl, ec_in ok⟩) (fun z => absurd hb z) C 0 (C + 1) (by omega) (by omega) (fun t ht => by omega)⟩)
      · refine pk_lt C c (fun h => ?_) (fun h => ?_)
        · refine eb_xapO (by omega) (by omega) hop ?_
          refine br_f a (br_t b ⟨_, ed_yop o6 (by omega) (fun hb => absurd hb hn) (fun _ => ed_yap o2 h ⟨rfl, ?_⟩) C 0 (C + 1) (by omega) (by omega) (fun t ht => by omega)⟩)
          exact ec_in ⟨o1, o2, o3, by omega, o5, eb_Itm_o o6 hop (fun i i1 i2 i3 => hn ⟨i, i1, Or.inl i2, i3⟩)⟩
        · exact br_f a (br_t b ⟨_, ed_yop o6 (by omega) (fun hb => absurd hb hn) (fun _ => ed_yap2 h (by omega) ⟨rfl, ec_in ok⟩) C 0 (C + 1) (by omega) (by omega) (fun t ht => by omega)⟩)
    · exact br_f a (br_f b (br_f a (br_f b ⟨rfl, ec_in ok⟩)))
/-- the close of Y, from the innermost unclosed item on -/
theorem ed_ycl {post : Int32 → SY → Prop} {v1 : Int32} {o : Nat} (hC : C ≤ 64) (ho : o < C) (h0 : o + 1 = C → post (-3) ((nI c), (nI L), (nI C), g_wLen, a_source, a_kinds, a_chars, b_w, b_pos, b_till, b_mark, a_cellKind, b_group, b_flag, b_len, b_lo, b_hi, a_live, b_dropped))
    (h1 : o + 1 ≠ C → a_kinds o = 4 → ea_al v1 = false → post (-1) ((nI c), (nI L), (nI C), g_wLen, a_source, a_kinds, a_chars, b_w, b_pos, b_till, b_mark, a_cellKind, b_group, b_flag, b_len, b_lo, b_hi, a_live, b_dropped))
    (h2 : o + 1 ≠ C → (a_kinds o = 4 → ea_al v1 = true) → wpY_append post ((nI c), (nI L), (nI C), g_wLen, a_source, a_kinds, a_chars, b_w, b_pos, b_till, b_mark, a_cellKind, b_group, b_flag, b_len, b_lo, b_hi, a_live, b_dropped) (a_kinds o + 4) (if a_kinds o = 4 then v1 else 0))
    (hin : ∀ q : Int32 → Prop, q (nI o) → wpY_innermost q ((nI c), (nI L), (nI C), g_wLen, a_source, a_kinds, a_chars, b_w, b_pos, b_till, b_mark, a_cellKind, b_group, b_flag, b_len, b_lo, b_hi, a_live, b_dropped)) : wpY_close post ((nI c), (nI L), (nI C), g_wLen, a_source, a_kinds, a_chars, b_w, b_pos, b_till, b_mark, a_cellKind, b_group, b_flag, b_len, b_lo, b_hi, a_live, b_dropped) v1 := by
  unfold wpY_close
  dsimp only
  refine hin _ ?_
  refine br_f (nI_pos (by omega)) (br_t (nI_lt ho (by omega)) ⟨vp_in_nI (by omega) (by omega), ?_⟩)
  rw [nI_clamp (by omega : o < 2 ^ 31), ea_s (by omega : 0 < C)]
  refine br_f (nI_pos (by omega)) (br_c (fun z => h0 ?_) (fun z => ?_))
  · have := ea_im z (by omega) (by omega); omega
  · have ne : o + 1 ≠ C := fun y => z (by rw [← y]; rfl)
    have ap : (a_kinds o = 4 → ea_al v1 = true) → wY_close_45 post v1 (a_kinds o) (nI c) (nI L) (nI C) g_wLen a_source a_kinds a_chars b_w b_pos b_till b_mark a_cellKind b_group b_flag b_len b_lo b_hi a_live b_dropped := by
      intro y
      have q := h2 ne y
      refine br_c (fun x => ?_) (fun x => ?_)
      · rw [if_pos x] at q; exact q
      · rw [if_neg x] at q; exact q
    refine br_c (fun y => ea_yal (ea_br (fun x => h1 ne y x) (fun x => ap (fun _ => x)))) (fun y => ap (fun x => absurd x y))
theorem ed_close (v1 : Int32) (ok : ec_Ok c L C D a_source a_kinds a_chars a_mate a_openStack) : wpX_close (fun r u' => wpY_close (fun r' v' => r' = r ∧ i_Rel (k + 2) u' v') ((nI c), (nI L), (nI C), g_wLen, a_source, a_kinds, a_chars, b_w, b_pos, b_till, b_mark, a_cellKind, b_group, b_flag, b_len, b_lo, b_hi, a_live, b_dropped) v1) ((nI c), (nI L), (nI C), (nI D), f_linkCount, f_runCount, f_openerCount, f_nodes, f_domain, a_source, a_kinds, a_chars, a_mate, a_openStack, a_cellKind, a_group, a_live, a_runLo, a_runHi, a_runChar, a_runSize, a_runGroup, a_runOpens, a_runCloses, a_openers, a_floors, a_start, a_width, a_out, a_nodeOf, a_clash) v1 := by
  have ok2 := ok
  obtain ⟨o1, o2, o3, o4, o5, o6⟩ := ok2
  have hD : D ≤ C := by rw [o6.1]; exact eb_dp_le _ _
  cases D with
  | zero =>
    refine br_t rfl ?_
    unfold wpY_close
    dsimp only
    refine ec_yin o6 (by omega) (fun _ => ?_) (fun o ho u _ => ?_)
    · exact br_t (by decide) (br_t (by decide) ⟨rfl, ec_in ok⟩)
    · have := ec_un_D o6 (by omega) ho u
      omega
  | succ D =>
    obtain ⟨o, e1, e2⟩ := o6.2.2.2.2.2.1 D (by omega)
    have ol := e2.1
    have hin : ∀ q : Int32 → Prop, q (nI o) → wpY_innermost q ((nI c), (nI L), (nI C), g_wLen, a_source, a_kinds, a_chars, b_w, b_pos, b_till, b_mark, a_cellKind, b_group, b_flag, b_len, b_lo, b_hi, a_live, b_dropped) := by
      intro q hq
      refine ec_yin o6 (by omega) (fun z => absurd (ec_Op_un o6 e2) (z o ol)) (fun t ht u hf => ?_)
      rcases Nat.lt_trichotomy t o with w | w | w
      · exact absurd (ec_Op_un o6 e2) (hf o w ol)
      · subst w; exact hq
      · exact absurd u (ec_top o6 (by omega) e2 w ht)
    have hlast : o + 1 = C ↔ eb_op (a_kinds (C - 1)) = true := by
      constructor
      · intro z
        have : C - 1 = o := by omega
        rw [this]; exact e2.2.1
      · intro z
        rcases o6.2.2.1 (C - 1) (by omega) z with ⟨b1, b2⟩ | ⟨j, b1, b2⟩
        · by_cases w : o < C - 1
          · exact absurd ⟨z, b1⟩ (ec_top o6 (by omega) e2 w (by omega))
          · omega
        · have := b2.1
          have := b2.2.1
          omega
    refine br_f (nI_ne0 (by omega) (by omega)) ?_
    have go : o + 1 ≠ C → wX_close_35 (fun r u' => wpY_close (fun r' v' => r' = r ∧ i_Rel (k + 2) u' v') ((nI c), (nI L), (nI C), g_wLen, a_source, a_kinds, a_chars, b_w, b_pos, b_till, b_mark, a_cellKind, b_group, b_flag, b_len, b_lo, b_hi, a_live, b_dropped) v1) v1 (nI c) (nI L) (nI C) (nI (D + 1)) f_linkCount f_runCount f_openerCount f_nodes f_domain a_source a_kinds a_chars a_mate a_openStack a_cellKind a_group a_live a_runLo a_runHi a_runChar a_runSize a_runGroup a_runOpens a_runCloses a_openers a_floors a_start a_width a_out a_nodeOf a_clash := by
      intro ne
      unfold wX_close_35
      rw [nI_pred D, nI_clamp (by omega : D < 2 ^ 31), e1, nI_clamp (by omega : o < 2 ^ 31)]
      refine ⟨vp_in_nI (by omega) (by omega), vp_in_nI (by omega) (by omega), nm_e ?_⟩
      have fin : (a_kinds o = 4 → ea_al v1 = true) → wX_close_67 (fun r u' => wpY_close (fun r' v' => r' = r ∧ i_Rel (k + 2) u' v') ((nI c), (nI L), (nI C), g_wLen, a_source, a_kinds, a_chars, b_w, b_pos, b_till, b_mark, a_cellKind, b_group, b_flag, b_len, b_lo, b_hi, a_live, b_dropped) v1) v1 (a_kinds o) (nI c) (nI L) (nI C) (nI (D + 1)) f_linkCount f_runCount f_openerCount f_nodes f_domain a_source a_kinds a_chars a_mate a_openStack a_cellKind a_group a_live a_runLo a_runHi a_runChar a_runSize a_runGroup a_runOpens a_runCloses a_openers a_floors a_start a_width a_out a_nodeOf a_clash := by
        intro y
        refine pk_lt C c (fun h => ?_) (fun h => ?_)
        · have kc : eb_Kc (a_kinds o + 4) (if a_kinds o = 4 then v1 else 0) := by
            by_cases x : a_kinds o = 4
            · rw [if_pos x, x]; exact Or.inr (Or.inr ⟨by decide, y x⟩)
            · rw [if_neg x]
              rcases eb_op_4 e2.2.1 with q | q | q | q
              · rw [q]; exact Or.inr (Or.inl ⟨by decide, rfl⟩)
              · rw [q]; exact Or.inr (Or.inl ⟨by decide, rfl⟩)
              · rw [q]; exact Or.inr (Or.inl ⟨by decide, rfl⟩)
              · exact absurd q x
          have ap : wX_close_91 (fun r u' => wpY_close (fun r' v' => r' = r ∧ i_Rel (k + 2) u' v') ((nI c), (nI L), (nI C), g_wLen, a_source, a_kinds, a_chars, b_w, b_pos, b_till, b_mark, a_cellKind, b_group, b_flag, b_len, b_lo, b_hi, a_live, b_dropped) v1) (a_kinds o) (if a_kinds o = 4 then v1 else 0) (nI c) (nI L) (nI C) (nI (D + 1)) f_linkCount f_runCount f_openerCount f_nodes f_domain a_source a_kinds a_chars a_mate a_openStack a_cellKind a_group a_live a_runLo a_runHi a_runChar a_runSize a_runGroup a_runOpens a_runCloses a_openers a_floors a_start a_width a_out a_nodeOf a_clash := by
            refine eb_xapC (D := D) (o := o) (by omega) (by omega) (by omega) e1 (eb_cl_op e2.2.1) ?_
            refine ed_ycl (by omega) ol (fun z => absurd z ne) (fun _ x1 x2 => ?_) (fun _ _ => ed_yap o2 h ⟨rfl, ?_⟩) hin
            · rw [y x1] at x2; exact absurd x2 (by decide)
            · exact ec_in ⟨o1, o2, o3, by omega, o5, eb_Itm_c o6 (by omega) e2 kc⟩
          refine br_c (fun x => ?_) (fun x => ?_)
          · rw [if_pos x] at ap; exact ap
          · rw [if_neg x] at ap; exact ap
        · exact ed_ycl (by omega) ol (fun z => absurd z ne) (fun _ x1 x2 => by rw [y x1] at x2; exact absurd x2 (by decide)) (fun _ _ => ed_yap2 h (by omega) ⟨rfl, ec_in ok⟩) hin
      refine br_c (fun y => ea_xal (ea_br (fun x => ?_) (fun x => fin (fun _ => x)))) (fun y => fin (fun x => absurd x y))
      exact ed_ycl (by omega) ol (fun z => absurd z ne) (fun _ _ _ => ⟨rfl, ec_in ok⟩) (fun _ q => by rw [q y] at x; exact absurd x (by decide)) hin
    rw [ea_s (by omega : 0 < C), nI_clamp (by omega : C - 1 < 2 ^ 31)]
    refine ⟨vp_in_nI (by omega) (by omega), nm_e ?_⟩
    refine br_c (fun z => go (fun y => ?_)) (fun z => br_c (fun y => go (fun x => ?_)) (fun y => ?_))
    · exact (eb_op_iff.mp (hlast.mp y)).1 z
    · exact (eb_op_iff.mp (hlast.mp x)).2 y
    · have ho : o + 1 = C := hlast.mpr (eb_op_iff.mpr ⟨z, y⟩)
      exact ed_ycl (by omega) ol (fun _ => ⟨rfl, ec_in ok⟩) (fun x => absurd ho x) (fun x => absurd ho x) hin
end ED
theorem i_vc_type {k : Nat} {u : SX} {v : SY} (I : i_Rel k u v) (hk : k + 2 ≤ 1025) (v1 : Int32) : wpX_type (fun r u' => wpY_type (fun r' v' => r' = r ∧ i_Rel (k + 2) u' v') v v1) u v1 :=
  ec_el (P := fun u v => wpX_type (fun r u' => wpY_type (fun r' v' => r' = r ∧ i_Rel (k + 2) u' v') v v1) u v1) I (fun ok => ed_type v1 ok)
theorem i_vc_clearSource {k : Nat} {u : SX} {v : SY} (I : i_Rel k u v) (hk : k + 2 ≤ 1025) : wpX_clearSource (fun u' => wpY_clearSource (fun v' => i_Rel (k + 2) u' v') v) u :=
  ec_el (P := fun u v => wpX_clearSource (fun u' => wpY_clearSource (fun v' => i_Rel (k + 2) u' v') v) u) I (fun ok => ed_clearSource ok)
theorem i_vc_sourceLength {k : Nat} {u : SX} {v : SY} (I : i_Rel k u v) (hk : k + 2 ≤ 1025) : wpX_sourceLength (fun r => wpY_sourceLength (fun r' => r' = r ∧ i_Rel (k + 2) u v) v) u :=
  ec_el (P := fun u v => wpX_sourceLength (fun r => wpY_sourceLength (fun r' => r' = r ∧ i_Rel (k + 2) u v) v) u) I (fun ok => ⟨rfl, ec_in ok⟩)
theorem i_vc_sourceAt {k : Nat} {u : SX} {v : SY} (I : i_Rel k u v) (hk : k + 2 ≤ 1025) (v1 : Int32) : wpX_sourceAt (fun r => wpY_sourceAt (fun r' => r' = r ∧ i_Rel (k + 2) u v) v v1) u v1 :=
  ec_el (P := fun u v => wpX_sourceAt (fun r => wpY_sourceAt (fun r' => r' = r ∧ i_Rel (k + 2) u v) v v1) u v1) I (fun ok => ed_sourceAt v1 ok)
theorem i_vc_text {k : Nat} {u : SX} {v : SY} (I : i_Rel k u v) (hk : k + 2 ≤ 1025) (v1 : Int32) : wpX_text (fun r u' => wpY_text (fun r' v' => r' = r ∧ i_Rel (k + 2) u' v') v v1) u v1 :=
  ec_el (P := fun u v => wpX_text (fun r u' => wpY_text (fun r' v' => r' = r ∧ i_Rel (k + 2) u' v') v v1) u v1) I (fun ok => ed_text v1 ok)
theorem i_vc_open {k : Nat} {u : SX} {v : SY} (I : i_Rel k u v) (hk : k + 2 ≤ 1025) (v1 : Int32) : wpX_open (fun r u' => wpY_open (fun r' v' => r' = r ∧ i_Rel (k + 2) u' v') v v1) u v1 :=
  ec_el (P := fun u v => wpX_open (fun r u' => wpY_open (fun r' v' => r' = r ∧ i_Rel (k + 2) u' v') v v1) u v1) I (fun ok => ed_open v1 ok)
theorem i_vc_close {k : Nat} {u : SX} {v : SY} (I : i_Rel k u v) (hk : k + 2 ≤ 1025) (v1 : Int32) : wpX_close (fun r u' => wpY_close (fun r' v' => r' = r ∧ i_Rel (k + 2) u' v') v v1) u v1 :=
  ec_el (P := fun u v => wpX_close (fun r u' => wpY_close (fun r' v' => r' = r ∧ i_Rel (k + 2) u' v') v v1) u v1) I (fun ok => ed_close v1 ok)
theorem i_vc_clearItems {k : Nat} {u : SX} {v : SY} (I : i_Rel k u v) (hk : k + 2 ≤ 1025) : wpX_clearItems (fun u' => wpY_clearItems (fun v' => i_Rel (k + 2) u' v') v) u :=
  ec_el (P := fun u v => wpX_clearItems (fun u' => wpY_clearItems (fun v' => i_Rel (k + 2) u' v') v) u) I (fun ok => ed_clearItems ok)
theorem i_vc_itemCount {k : Nat} {u : SX} {v : SY} (I : i_Rel k u v) (hk : k + 2 ≤ 1025) : wpX_itemCount (fun r => wpY_itemCount (fun r' => r' = r ∧ i_Rel (k + 2) u v) v) u :=
  ec_el (P := fun u v => wpX_itemCount (fun r => wpY_itemCount (fun r' => r' = r ∧ i_Rel (k + 2) u v) v) u) I (fun ok => ⟨rfl, ec_in ok⟩)
theorem i_vc_itemKind {k : Nat} {u : SX} {v : SY} (I : i_Rel k u v) (hk : k + 2 ≤ 1025) (v1 : Int32) : wpX_itemKind (fun r => wpY_itemKind (fun r' => r' = r ∧ i_Rel (k + 2) u v) v v1) u v1 :=
  ec_el (P := fun u v => wpX_itemKind (fun r => wpY_itemKind (fun r' => r' = r ∧ i_Rel (k + 2) u v) v v1) u v1) I (fun ok => ed_itemKind v1 ok)
theorem i_vc_itemChar {k : Nat} {u : SX} {v : SY} (I : i_Rel k u v) (hk : k + 2 ≤ 1025) (v1 : Int32) : wpX_itemChar (fun r => wpY_itemChar (fun r' => r' = r ∧ i_Rel (k + 2) u v) v v1) u v1 :=
  ec_el (P := fun u v => wpX_itemChar (fun r => wpY_itemChar (fun r' => r' = r ∧ i_Rel (k + 2) u v) v v1) u v1) I (fun ok => ed_itemChar v1 ok)
theorem i_vc_partner {k : Nat} {u : SX} {v : SY} (I : i_Rel k u v) (hk : k + 2 ≤ 1025) (v1 : Int32) : wpX_partner (fun r => wpY_partner (fun r' => r' = r ∧ i_Rel (k + 2) u v) v v1) u v1 :=
  ec_el (P := fun u v => wpX_partner (fun r => wpY_partner (fun r' => r' = r ∧ i_Rel (k + 2) u v) v v1) u v1) I (fun ok => ed_partner v1 ok)
theorem i_vc_openDepth {k : Nat} {u : SX} {v : SY} (I : i_Rel k u v) (hk : k + 2 ≤ 1025) : wpX_openDepth (fun r => wpY_openDepth (fun r' => r' = r ∧ i_Rel (k + 2) u v) v) u :=
  ec_el (P := fun u v => wpX_openDepth (fun r => wpY_openDepth (fun r' => r' = r ∧ i_Rel (k + 2) u v) v) u) I (fun ok => ed_openDepth ok)
end
section
/-! parse: fills, pairs of cells, rows of ticks -/
section EE
variable {f g : Nat → Int32} {a b j n : Nat} {v : Int32}
def ee_fill (f : Nat → Int32) (a b : Nat) (v : Int32) : Nat → Int32 := fun j => if a ≤ j ∧ j < b then v else f j
theorem ee_fill_in (h1 : a ≤ j) (h2 : j < b) : ee_fill f a b v j = v := if_pos ⟨h1, h2⟩
theorem ee_fill_out (h : j < a ∨ b ≤ j) : ee_fill f a b v j = f j := if_neg (by omega)
theorem ee_fill_s (h : a ≤ b) : upd (ee_fill f a b v) b v = ee_fill f a (b + 1) v := by
  funext j
  by_cases e : j = b
  · subst e; rw [ea_us, ee_fill_in h (by omega)]
  · rw [ea_un e]
    by_cases z : a ≤ j ∧ j < b
    · rw [ee_fill_in z.1 z.2, ee_fill_in z.1 (by omega)]
    · rw [ee_fill_out (by omega), ee_fill_out (by omega)]
theorem ee_fill_0 : ee_fill f a a v = f := by
  funext j
  exact ee_fill_out (by omega)
def ee_cpy (f g : Nat → Int32) (n : Nat) : Nat → Int32 := fun j => if j < n then g j else f j
theorem ee_cpy_in (h : j < n) : ee_cpy f g n j = g j := if_pos h
theorem ee_cpy_out (h : n ≤ j) : ee_cpy f g n j = f j := if_neg (by omega)
theorem ee_cpy_s : upd (ee_cpy f g n) n (g n) = ee_cpy f g (n + 1) := by
  funext j
  by_cases e : j = n
  · subst e; rw [ea_us, ee_cpy_in (by omega)]
  · rw [ea_un e]
    by_cases z : j < n
    · rw [ee_cpy_in z, ee_cpy_in (by omega)]
    · rw [ee_cpy_out (by omega), ee_cpy_out (by omega)]
theorem ee_cpy_0 : ee_cpy f g 0 = f := by
  funext j
  exact ee_cpy_out (by omega)
theorem ee_ux {k : Nat} (h : f k = v) : upd f k v = f := by
  funext j
  by_cases e : j = k
  · subst e; rw [ea_us, h]
  · exact ea_un e
end EE
/-- neither opening nor closing -/
def ee_nt (x : Int32) : Prop := eb_op x = false ∧ eb_cl x = false
theorem ee_nt0 : ee_nt 0 := ⟨by decide, by decide⟩
theorem ee_nt1 : ee_nt (-1) := ⟨by decide, by decide⟩
def ee_CP (ck : Nat → Int32) (L : Nat) : Prop := ∀ b, b < L → eb_cl (ck b) = true → ∃ a, eb_Pr ck L a b
section EI
variable {ck ck' : Nat → Int32} {a b L : Nat} {k : Int32}
theorem ee_ins_dp (hk : eb_op k = true) (hab : a < b) (ha : ck' a = k) (hb : ck' b = k + 4) (na : ee_nt (ck a)) (nb : ee_nt (ck b))
    (hs : ∀ x, x ≠ a → x ≠ b → ck' x = ck x ∨ (ee_nt (ck x) ∧ ee_nt (ck' x))) (hu : ∀ x, a < x → x < b → eb_cl (ck x) = true → 1 ≤ eb_dp ck x) :
    ∀ t, eb_dp ck' t = eb_dp ck t + (if a < t ∧ t ≤ b then 1 else 0) := by
  intro t
  induction t with
  | zero => rw [if_neg (by omega)]; rfl
  | succ t ih =>
    by_cases e1 : t = a
    · subst e1
      rw [if_neg (by omega)] at ih
      rw [if_pos (by omega), eb_dp_o (by rw [ha]; exact hk), eb_dp_n na.1 na.2, ih]
    · by_cases e2 : t = b
      · subst e2
        rw [if_pos (by omega)] at ih
        rw [if_neg (by omega), eb_dp_c (by rw [hb]; exact eb_cl_op hk), eb_dp_n nb.1 nb.2, ih]
        omega
      · have ei : (if a < t + 1 ∧ t + 1 ≤ b then 1 else 0) = (if a < t ∧ t ≤ b then 1 else 0) := by
          by_cases z : a < t ∧ t ≤ b
          · rw [if_pos z, if_pos (by omega)]
          · rw [if_neg z, if_neg (by omega)]
        rw [ei]
        rcases hs t e1 e2 with h | ⟨h1, h2⟩
        · cases c1 : eb_op (ck t)
          · cases c2 : eb_cl (ck t)
            · rw [eb_dp_n (by rw [h]; exact c1) (by rw [h]; exact c2), eb_dp_n c1 c2, ih]
            · rw [eb_dp_c (by rw [h]; exact c2), eb_dp_c c2, ih]
              by_cases z : a < t ∧ t ≤ b
              · have := hu t z.1 (by omega) c2
                rw [if_pos z]; omega
              · rw [if_neg z]; omega
          · rw [eb_dp_o (by rw [h]; exact c1), eb_dp_o c1, ih]; omega
        · rw [eb_dp_n h2.1 h2.2, eb_dp_n h1.1 h1.2, ih]
theorem ee_CP_1 (cp : ee_CP ck L) {x : Nat} (hx : x < L) (h : eb_cl (ck x) = true) : 1 ≤ eb_dp ck x := by
  obtain ⟨a, p⟩ := cp x hx h
  have := p.2.2.2.2.1
  omega
theorem ee_ins_CP (hk : eb_op k = true) (hab : a < b) (ha : ck' a = k) (hb : ck' b = k + 4) (na : ee_nt (ck a)) (nb : ee_nt (ck b))
    (hs : ∀ x, x ≠ a → x ≠ b → ck' x = ck x ∨ (ee_nt (ck x) ∧ ee_nt (ck' x))) (cp : ee_CP ck L) (hbL : b < L)
    (l1 : eb_dp ck a = eb_dp ck b) (l2 : ∀ t, a ≤ t → t ≤ b → eb_dp ck a ≤ eb_dp ck t) : ee_CP ck' L := by
  have dp := ee_ins_dp hk hab ha hb na nb hs (fun x _ h2 h3 => ee_CP_1 cp (by omega) h3)
  intro b' hb' hc
  by_cases e : b' = b
  · subst e
    refine ⟨a, hab, hbL, by rw [ha]; exact hk, by rw [hb, ha], ?_, fun t h1 h2 => ?_⟩
    · rw [dp, dp, if_pos (by omega), if_neg (by omega)]; omega
    · rw [dp a, dp t, if_neg (by omega : ¬ (a < a ∧ a ≤ b')), if_pos (by omega : a < t ∧ t ≤ b')]
      have := l2 t (by omega) h2
      omega
  · have nba : b' ≠ a := fun z => by
      subst z
      rw [ha, eb_cl_of_op hk] at hc
      exact absurd hc (by decide)
    have eb' : ck' b' = ck b' := by
      rcases hs b' nba e with h | ⟨h1, h2⟩
      · exact h
      · rw [h2.2] at hc; exact absurd hc (by decide)
    rw [eb'] at hc
    obtain ⟨a', p1, p2, p3, p4, p5, p6⟩ := cp b' hb' hc
    have naa : a' ≠ a := fun z => by
      subst z
      rw [na.1] at p3; exact absurd p3 (by decide)
    have nab : a' ≠ b := fun z => by
      subst z
      rw [nb.1] at p3; exact absurd p3 (by decide)
    have ea' : ck' a' = ck a' := by
      rcases hs a' naa nab with h | ⟨h1, h2⟩
      · exact h
      · rw [h1.1] at p3; exact absurd p3 (by decide)
    have hn := eb_dp_c hc
    refine ⟨a', p1, p2, by rw [ea']; exact p3, by rw [eb', ea']; exact p4, ?_, fun t h1 h2 => ?_⟩
    · rw [dp, dp, p5]
      rcases Nat.lt_or_ge a' a with w | w
      · rw [if_neg (by omega : ¬ (a < a' ∧ a' ≤ b))]
        rw [if_neg]
        intro z
        have h3 := p6 a w (by omega)
        have h4 := l2 (b' + 1) (by omega) (by omega)
        omega
      · by_cases w2 : a' ≤ b
        · have h3 : b' < b := by
            apply Decidable.byContradiction
            intro z
            have h4 := p6 b (by omega) (by omega)
            have h5 := l2 a' (by omega) (by omega)
            omega
          rw [if_pos (by omega), if_pos (by omega)]
        · rw [if_neg (by omega), if_neg (by omega)]
    · rw [dp, dp]
      have h3 := p6 t h1 h2
      rcases Nat.lt_or_ge a' a with w | w
      · rw [if_neg (by omega : ¬ (a < a' ∧ a' ≤ b))]
        omega
      · by_cases w2 : a' ≤ b
        · have h3' : b' < b := by
            apply Decidable.byContradiction
            intro z
            have h4 := p6 b (by omega) (by omega)
            have h5 := l2 a' (by omega) (by omega)
            omega
          rw [if_pos (by omega), if_pos (by omega)]
          omega
        · rw [if_neg (by omega : ¬ (a < a' ∧ a' ≤ b))]
          omega
/-- neutral changes alone -/
theorem ee_nt_dp (hs : ∀ x, ck' x = ck x ∨ (ee_nt (ck x) ∧ ee_nt (ck' x))) : ∀ t, eb_dp ck' t = eb_dp ck t := by
  intro t
  induction t with
  | zero => rfl
  | succ t ih =>
    rcases hs t with h | ⟨h1, h2⟩
    · show (if eb_op (ck' t) = true then eb_dp ck' t + 1 else _) = (if eb_op (ck t) = true then eb_dp ck t + 1 else _)
      rw [ih, h]
    · rw [eb_dp_n h2.1 h2.2, eb_dp_n h1.1 h1.2, ih]
theorem ee_nt_CP (hs : ∀ x, ck' x = ck x ∨ (ee_nt (ck x) ∧ ee_nt (ck' x))) (cp : ee_CP ck L) : ee_CP ck' L := by
  have dp := ee_nt_dp hs
  intro b hb hc
  have eb' : ck' b = ck b := by
    rcases hs b with h | ⟨h1, h2⟩
    · exact h
    · rw [h2.2] at hc; exact absurd hc (by decide)
  rw [eb'] at hc
  obtain ⟨a, p1, p2, p3, p4, p5, p6⟩ := cp b hb hc
  have ea' : ck' a = ck a := by
    rcases hs a with h | ⟨h1, h2⟩
    · exact h
    · rw [h1.1] at p3; exact absurd p3 (by decide)
  refine ⟨a, p1, p2, by rw [ea']; exact p3, by rw [eb', ea']; exact p4, by rw [dp, dp]; exact p5, fun t h1 h2 => ?_⟩
  rw [dp, dp]; exact p6 t h1 h2
/-- depth over neutral cells -/
theorem ee_dp_nt {i : Nat} : ∀ d, (∀ x, i ≤ x → x < i + d → ee_nt (ck x)) → eb_dp ck (i + d) = eb_dp ck i := by
  intro d
  induction d with
  | zero => intro _; rfl
  | succ d ih =>
    intro h
    have := h (i + d) (by omega) (by omega)
    show eb_dp ck (i + d + 1) = _
    rw [eb_dp_n this.1 this.2]
    exact ih (fun x h1 h2 => h x h1 (by omega))
end EI
/-- the number of ticks from cell i on, among d cells -/
def ee_tk (S : Nat → Int32) : Nat → Nat → Nat
  | 0, _ => 0
  | d + 1, i => if S i = 96 then ee_tk S d (i + 1) + 1 else 0
section ET
variable {S : Nat → Int32}
theorem ee_tk_t {d i : Nat} (h : S i = 96) : ee_tk S (d + 1) i = ee_tk S d (i + 1) + 1 := if_pos h
theorem ee_tk_f {d i : Nat} (h : ¬ S i = 96) : ee_tk S d i = 0 := by
  cases d with
  | zero => rfl
  | succ d => exact if_neg h
theorem ee_tk_le : ∀ d i, ee_tk S d i ≤ d := by
  intro d
  induction d with
  | zero => intro i; exact Nat.le_refl 0
  | succ d ih =>
    intro i
    by_cases h : S i = 96
    · rw [ee_tk_t h]; have := ih (i + 1); omega
    · rw [ee_tk_f h]; omega
theorem ee_tk_in : ∀ d i t, t < ee_tk S d i → S (i + t) = 96 := by
  intro d
  induction d with
  | zero => intro i t h; exact absurd h (by show ¬ t < 0; omega)
  | succ d ih =>
    intro i t h
    by_cases z : S i = 96
    · rw [ee_tk_t z] at h
      by_cases e : t = 0
      · subst e; exact z
      · have := ih (i + 1) (t - 1) (by omega)
        rw [show i + 1 + (t - 1) = i + t by omega] at this
        exact this
    · rw [ee_tk_f z] at h; omega
theorem ee_tk_end : ∀ d i, ee_tk S d i < d → ¬ S (i + ee_tk S d i) = 96 := by
  intro d
  induction d with
  | zero => intro i h; omega
  | succ d ih =>
    intro i h
    by_cases z : S i = 96
    · rw [ee_tk_t z] at h ⊢
      have := ih (i + 1) (by omega)
      rw [show i + 1 + ee_tk S d (i + 1) = i + (ee_tk S d (i + 1) + 1) by omega] at this
      exact this
    · rw [ee_tk_f z]; exact z
theorem ee_tk_eq {d i n : Nat} (h1 : n ≤ d) (h2 : ∀ t, t < n → S (i + t) = 96) (h3 : n < d → ¬ S (i + n) = 96) : ee_tk S d i = n := by
  have a := ee_tk_le (S := S) d i
  rcases Nat.lt_trichotomy (ee_tk S d i) n with w | w | w
  · exact absurd (h2 _ w) (ee_tk_end d i (by omega))
  · exact w
  · exact absurd (ee_tk_in d i n w) (h3 (by omega))
theorem ee_tk_pos {d i : Nat} (hd : 0 < d) : ee_tk S d i = 0 ↔ ¬ S i = 96 := by
  obtain ⟨d, rfl⟩ : ∃ m, d = m + 1 := ⟨d - 1, by omega⟩
  constructor
  · intro h z
    rw [ee_tk_t z] at h; omega
  · exact ee_tk_f
end ET
/-- a maximal row of n ticks begins at k -/
def ee_Row (S : Nat → Int32) (L n lo k : Nat) : Prop := lo ≤ k ∧ k < L ∧ ¬ S (k - 1) = 96 ∧ ee_tk S (L - k) k = n
/-- the first such row -/
def ee_FT (S : Nat → Int32) (L n lo : Nat) (r : Int32) : Prop :=
  (r = -1 ∧ ∀ k, ¬ ee_Row S L n lo k) ∨ (∃ k, r = nI k ∧ ee_Row S L n lo k ∧ ∀ k', k' < k → ¬ ee_Row S L n lo k')
theorem ee_FT_ex (S : Nat → Int32) (L n lo : Nat) : ∃ r, ee_FT S L n lo r := by
  by_cases h : ∃ k, ee_Row S L n lo k
  · obtain ⟨k, h1, h2⟩ := pk_least _ h
    exact ⟨nI k, Or.inr ⟨k, rfl, h1, h2⟩⟩
  · exact ⟨-1, Or.inl ⟨rfl, fun k hk => h ⟨k, hk⟩⟩⟩
theorem ee_FT_1 {S : Nat → Int32} {L n lo : Nat} {r r' : Int32} (h : ee_FT S L n lo r) (h' : ee_FT S L n lo r') : r = r' := by
  rcases h with ⟨a, b⟩ | ⟨k, a, b, c⟩
  · rcases h' with ⟨a', b'⟩ | ⟨k', a', b', c'⟩
    · rw [a, a']
    · exact absurd b' (b k')
  · rcases h' with ⟨a', b'⟩ | ⟨k', a', b', c'⟩
    · exact absurd b (b' k)
    · rcases Nat.lt_trichotomy k k' with w | w | w
      · exact absurd b (c' k w)
      · rw [a, a', w]
      · exact absurd b' (c k' w)
end
section
/-! parse: reset, hide, atoms -/
/-- what the atom at cell i does -/
def ef_code (ck : Nat → Int32) (i j n : Nat) : Nat → Int32 := upd (upd (ee_fill (ee_fill ck i (i + n) (-1)) j (j + n) (-1)) i 3) j 7
def ef_At (S : Nat → Int32) (L i : Nat) (ck lv : Nat → Int32) (nx : Nat) (ck' lv' : Nat → Int32) : Prop :=
  (S i = 92 ∧ i + 1 < L ∧ ea_pu (S (i + 1)) = true ∧ nx = i + 2 ∧ ck' = upd ck i (-1) ∧ lv' = lv) ∨
  (S i = 96 ∧ (∀ k, ¬ ee_Row S L (ee_tk S (L - i) i) (i + ee_tk S (L - i) i) k) ∧ nx = i + ee_tk S (L - i) i ∧ ck' = ck ∧ lv' = lv) ∨
  (S i = 96 ∧ ∃ j, ee_Row S L (ee_tk S (L - i) i) (i + ee_tk S (L - i) i) j ∧ (∀ k', k' < j → ¬ ee_Row S L (ee_tk S (L - i) i) (i + ee_tk S (L - i) i) k') ∧ nx = j + ee_tk S (L - i) i ∧ ck' = ef_code ck i j (ee_tk S (L - i) i) ∧ lv' = lv) ∨
  (¬ S i = 96 ∧ ¬ (S i = 92 ∧ i + 1 < L ∧ ea_pu (S (i + 1)) = true) ∧ nx = i + 1 ∧ ck' = ck ∧ lv' = upd lv i 1)
theorem ef_At_ex (S : Nat → Int32) (L i : Nat) (ck lv : Nat → Int32) : ∃ nx ck' lv', ef_At S L i ck lv nx ck' lv' := by
  by_cases h1 : S i = 92 ∧ i + 1 < L ∧ ea_pu (S (i + 1)) = true
  · exact ⟨_, _, _, Or.inl ⟨h1.1, h1.2.1, h1.2.2, rfl, rfl, rfl⟩⟩
  · by_cases h2 : S i = 96
    · obtain ⟨r, hr⟩ := ee_FT_ex S L (ee_tk S (L - i) i) (i + ee_tk S (L - i) i)
      rcases hr with ⟨a, b⟩ | ⟨k, a, b, c⟩
      · exact ⟨_, _, _, Or.inr (Or.inl ⟨h2, b, rfl, rfl, rfl⟩)⟩
      · exact ⟨_, _, _, Or.inr (Or.inr (Or.inl ⟨h2, k, b, c, rfl, rfl, rfl⟩))⟩
    · exact ⟨_, _, _, Or.inr (Or.inr (Or.inr ⟨h2, h1, rfl, rfl, rfl⟩))⟩
def ef_Inv (S : Nat → Int32) (L i nx : Nat) (ck lv : Nat → Int32) : Prop :=
  i ≤ nx ∧ nx ≤ L ∧ (∀ x, nx ≤ x → x < L → ck x = 0) ∧ (∀ x, i ≤ x → x < L → lv x = 0) ∧
  (∀ x, x < L → lv x = 0 ∨ (lv x = 1 ∧ ck x = 0 ∧ eb_dp ck x = 0)) ∧ eb_dp ck nx = 0 ∧ ee_CP ck L ∧
  (∀ x, x < L → ck x = -1 ∨ ck x = 0 ∨ ck x = 3 ∨ ck x = 7) ∧
  (∀ x, x < L → lv x = 1 → (x + 1 < i → ¬ S (x + 1) = 92 → ¬ S (x + 1) = 96 → lv (x + 1) = 1) ∧ (x + 1 = i → nx = i))
theorem ef_01 : ¬ (0 : Int32) = 1 := by decide
theorem ef_skip {S : Nat → Int32} {L i nx : Nat} {ck lv : Nat → Int32} (h : ef_Inv S L i nx ck lv) (hi : i < nx) : ef_Inv S L (i + 1) nx ck lv := by
  obtain ⟨a1, a2, a3, a4, a5, a6, a7, a8, a9⟩ := h
  refine ⟨by omega, a2, a3, fun x h1 h2 => a4 x (by omega) h2, a5, a6, a7, a8, fun x h1 h2 => ⟨fun h3 h4 h5 => ?_, fun h3 => ?_⟩⟩
  · by_cases e : x + 1 = i
    · have := (a9 x h1 h2).2 e; omega
    · exact (a9 x h1 h2).1 (by omega) h4 h5
  · have e : x = i := by omega
    subst e
    rw [a4 x (Nat.le_refl _) h1] at h2
    exact absurd h2 ef_01
theorem ef_step {S : Nat → Int32} {L i nx : Nat} {ck lv ck' lv' : Nat → Int32} (h : ef_Inv S L i i ck lv) (hi : i < L) (A : ef_At S L i ck lv nx ck' lv') : ef_Inv S L (i + 1) nx ck' lv' ∧ i + 1 ≤ nx := by
  obtain ⟨a1, a2, a3, a4, a5, a6, a7, a8, a9⟩ := h
  have hlt : ∀ x, x < L → lv x = 1 → x < i := fun x h1 h2 => by
    apply Decidable.byContradiction
    intro z
    rw [a4 x (by omega) h1] at h2
    exact absurd h2 ef_01
  have nt : ∀ x, i ≤ x → x < L → ee_nt (ck x) := fun x h1 h2 => by rw [a3 x h1 h2]; exact ee_nt0
  have dp0 : ∀ x, i ≤ x → x ≤ L → eb_dp ck x = 0 := fun x h1 h2 => by
    have := ee_dp_nt (ck := ck) (i := i) (x - i) (fun y h3 h4 => nt y h3 (by omega))
    rw [show i + (x - i) = x by omega] at this
    rw [this]; exact a6
  rcases A with ⟨b1, b2, b3, rfl, rfl, rfl⟩ | ⟨b1, b2, rfl, rfl, rfl⟩ | ⟨b1, j, b2, b3, rfl, rfl, rfl⟩ | ⟨b1, b2, rfl, rfl, rfl⟩
  · have hs : ∀ x, (upd ck i (-1)) x = ck x ∨ (ee_nt (ck x) ∧ ee_nt ((upd ck i (-1)) x)) := fun x => by
      by_cases e : x = i
      · subst e; rw [ea_us]; exact Or.inr ⟨nt x (Nat.le_refl _) hi, ee_nt1⟩
      · exact Or.inl (ea_un e)
    have dp := ee_nt_dp hs
    refine ⟨⟨by omega, by omega, fun x h1 h2 => by rw [ea_un (by omega)]; exact a3 x (by omega) h2, fun x h1 h2 => a4 x (by omega) h2, fun x h1 => ?_, ?_, ee_nt_CP hs a7, fun x h1 => ?_, fun x h1 h2 => ⟨fun h3 h4 h5 => ?_, fun h3 => ?_⟩⟩, by omega⟩
    · rcases a5 x h1 with h | h
      · exact Or.inl h
      · have := hlt x h1 h.1
        rw [ea_un (by omega), dp]; exact Or.inr h
    · rw [dp]; exact dp0 _ (by omega) (by omega)
    · by_cases e : x = i
      · subst e; exact Or.inl ea_us
      · rw [ea_un e]; exact a8 x h1
    · by_cases e : x + 1 = i
      · rw [e] at h4; exact absurd b1 h4
      · exact (a9 x h1 h2).1 (by omega) h4 h5
    · have := hlt x h1 h2; omega
  · have tp := ee_tk_pos (S := S) (d := L - i) (i := i) (by omega)
    have tl := ee_tk_le (S := S) (L - i) i
    have t1 : 1 ≤ ee_tk S (L - i) i := by
      apply Decidable.byContradiction
      intro z
      exact (tp.mp (by omega)) b1
    refine ⟨⟨by omega, by omega, fun x h1 h2 => a3 x (by omega) h2, fun x h1 h2 => a4 x (by omega) h2, a5, dp0 _ (by omega) (by omega), a7, a8, fun x h1 h2 => ⟨fun h3 h4 h5 => ?_, fun h3 => ?_⟩⟩, by omega⟩
    · by_cases e : x + 1 = i
      · rw [e] at h5; exact absurd b1 h5
      · exact (a9 x h1 h2).1 (by omega) h4 h5
    · have := hlt x h1 h2; omega
  · have tp := ee_tk_pos (S := S) (d := L - i) (i := i) (by omega)
    have t1 : 1 ≤ ee_tk S (L - i) i := by
      apply Decidable.byContradiction
      intro z
      exact (tp.mp (by omega)) b1
    obtain ⟨c1, c2, c3, c4⟩ := b2
    have tl := ee_tk_le (S := S) (L - j) j
    rw [c4] at tl
    generalize ee_tk S (L - i) i = n at *
    have ei : (ef_code ck i j n) i = 3 := by unfold ef_code; rw [ea_un (by omega)]; exact ea_us
    have ej : (ef_code ck i j n) j = 3 + 4 := ea_us
    have ex : ∀ x, x ≠ i → x ≠ j → (ef_code ck i j n) x = if (i ≤ x ∧ x < i + n) ∨ (j ≤ x ∧ x < j + n) then -1 else ck x := by
      intro x h1 h2
      unfold ef_code
      rw [ea_un h2, ea_un h1]
      by_cases z2 : j ≤ x ∧ x < j + n
      · rw [ee_fill_in z2.1 z2.2, if_pos (Or.inr z2)]
      · rw [ee_fill_out (by omega)]
        by_cases z1 : i ≤ x ∧ x < i + n
        · rw [ee_fill_in z1.1 z1.2, if_pos (Or.inl z1)]
        · rw [ee_fill_out (by omega), if_neg (by omega)]
    have hs : ∀ x, x ≠ i → x ≠ j → (ef_code ck i j n) x = ck x ∨ (ee_nt (ck x) ∧ ee_nt ((ef_code ck i j n) x)) := by
      intro x h1 h2
      rw [ex x h1 h2]
      by_cases z : (i ≤ x ∧ x < i + n) ∨ (j ≤ x ∧ x < j + n)
      · rw [if_pos z]; exact Or.inr ⟨nt x (by omega) (by omega), ee_nt1⟩
      · rw [if_neg z]; exact Or.inl rfl
    have dp := ee_ins_dp (k := 3) (by decide) (by omega : i < j) ei ej (nt i (Nat.le_refl _) hi) (nt j (by omega) c2) hs (fun x h1 h2 h3 => by
      rw [(nt x (by omega) (by omega)).2] at h3; exact absurd h3 (by decide))
    have cp := ee_ins_CP (k := 3) (by decide) (by omega : i < j) ei ej (nt i (Nat.le_refl _) hi) (nt j (by omega) c2) hs a7 c2 (by rw [dp0 i (by omega) (by omega), dp0 j (by omega) (by omega)]) (fun t h1 h2 => by rw [dp0 i (by omega) (by omega)]; omega)
    refine ⟨⟨by omega, by omega, fun x h1 h2 => ?_, fun x h1 h2 => a4 x (by omega) h2, fun x h1 => ?_, ?_, cp, fun x h1 => ?_, fun x h1 h2 => ⟨fun h3 h4 h5 => ?_, fun h3 => ?_⟩⟩, by omega⟩
    · rw [ex x (by omega) (by omega), if_neg (by omega)]; exact a3 x (by omega) h2
    · rcases a5 x h1 with h | h
      · exact Or.inl h
      · have := hlt x h1 h.1
        rw [ex x (by omega) (by omega), if_neg (by omega), dp, if_neg (by omega)]; exact Or.inr h
    · rw [dp, if_neg (by omega)]; exact dp0 _ (by omega) (by omega)
    · by_cases e1 : x = i
      · subst e1; rw [ei]; exact Or.inr (Or.inr (Or.inl rfl))
      · by_cases e2 : x = j
        · subst e2; rw [ej]; exact Or.inr (Or.inr (Or.inr (by decide)))
        · rw [ex x e1 e2]
          by_cases z : (i ≤ x ∧ x < i + n) ∨ (j ≤ x ∧ x < j + n)
          · rw [if_pos z]; exact Or.inl rfl
          · rw [if_neg z]; exact a8 x h1
    · by_cases e : x + 1 = i
      · rw [e] at h5; exact absurd b1 h5
      · exact (a9 x h1 h2).1 (by omega) h4 h5
    · have := hlt x h1 h2; omega
  · refine ⟨⟨by omega, by omega, fun x h1 h2 => a3 x (by omega) h2, fun x h1 h2 => by rw [ea_un (by omega)]; exact a4 x (by omega) h2, fun x h1 => ?_, dp0 _ (by omega) (by omega), a7, a8, fun x h1 h2 => ⟨fun h3 h4 h5 => ?_, fun h3 => ?_⟩⟩, by omega⟩
    · by_cases e : x = i
      · subst e
        exact Or.inr ⟨ea_us, a3 x (Nat.le_refl _) hi, a6⟩
      · rw [ea_un e]; exact a5 x h1
    · by_cases e : x + 1 = i
      · rw [e]; exact ea_us
      · rw [ea_un (by omega)] at h2
        rw [ea_un (by omega)]
        exact (a9 x h1 h2).1 (by omega) h4 h5
    · omega
section EF
variable {f_cap f_count f_depth f_linkCount f_runCount f_openerCount f_nodes f_domain : Int32} {a_source a_kinds a_chars a_mate a_openStack a_cellKind a_group a_live a_runLo a_runHi a_runChar a_runSize a_runGroup a_runOpens a_runCloses a_openers a_floors a_start a_width a_out a_nodeOf a_clash : Nat → Int32} {g_limit g_count g_wLen : Int32} {b_src b_kinds b_chars b_w b_pos b_till b_mark b_out b_group b_flag b_len b_lo b_hi b_live b_dropped : Nat → Int32}
variable {L : Nat}
theorem ef_xreset {post : SX → Prop} (hL : L ≤ 64) (h : post (f_cap, (nI L), f_count, f_depth, 0, 0, f_openerCount, f_nodes, f_domain, a_source, a_kinds, a_chars, a_mate, a_openStack, (ee_fill a_cellKind 0 L 0), (ee_fill a_group 0 L 0), (ee_fill a_live 0 L 0), a_runLo, a_runHi, a_runChar, a_runSize, a_runGroup, a_runOpens, a_runCloses, a_openers, a_floors, a_start, a_width, a_out, a_nodeOf, a_clash)) : wpX_resetCells post (f_cap, (nI L), f_count, f_depth, f_linkCount, f_runCount, f_openerCount, f_nodes, f_domain, a_source, a_kinds, a_chars, a_mate, a_openStack, a_cellKind, a_group, a_live, a_runLo, a_runHi, a_runChar, a_runSize, a_runGroup, a_runOpens, a_runCloses, a_openers, a_floors, a_start, a_width, a_out, a_nodeOf, a_clash) := by
  have key : ∀ d i n, i + d = L → d < n → wX_resetCells_2 post f_cap (nI L) f_count f_depth f_linkCount f_runCount f_openerCount f_nodes f_domain n (nI i) a_source a_kinds a_chars a_mate a_openStack (ee_fill a_cellKind 0 i 0) (ee_fill a_group 0 i 0) (ee_fill a_live 0 i 0) a_runLo a_runHi a_runChar a_runSize a_runGroup a_runOpens a_runCloses a_openers a_floors a_start a_width a_out a_nodeOf a_clash := by
    intro d
    induction d with
    | zero =>
      intro i n hi hn
      obtain ⟨n, rfl⟩ : ∃ m, n = m + 1 := ⟨n - 1, by omega⟩
      have e : i = L := by omega
      subst e
      exact br_t (nI_le (Nat.le_refl _) (by omega)) h
    | succ d ih =>
      intro i n hi hn
      obtain ⟨n, rfl⟩ : ∃ m, n = m + 1 := ⟨n - 1, by omega⟩
      have e : (nI i).toNatClampNeg = i := nI_clamp (by omega)
      have w : vp_in (nI i) 64 := vp_in_nI (by omega) (by omega)
      exact br_f (nI_ge (by omega) (by omega)) ⟨w, nm_r (e' := ee_fill a_cellKind 0 (i + 1) 0) (by rw [e]; exact ee_fill_s (by omega)) ⟨w, nm_r (e' := ee_fill a_group 0 (i + 1) 0) (by rw [e]; exact ee_fill_s (by omega)) ⟨w, nm_r (e' := ee_fill a_live 0 (i + 1) 0) (by rw [e, ea_vb0]; exact ee_fill_s (by omega)) (nm_r (nI_1 i) (ih (i + 1) n (by omega) (by omega)))⟩⟩⟩
  have q := key L 0 (L + 1) (by omega) (by omega)
  rw [ee_fill_0, ee_fill_0, ee_fill_0] at q
  exact ⟨_, q⟩
theorem ef_xhide {post : SX → Prop} {a b : Nat} (hab : a ≤ b) (hb : b ≤ L) (hL : L ≤ 64) (h : post (f_cap, (nI L), f_count, f_depth, f_linkCount, f_runCount, f_openerCount, f_nodes, f_domain, a_source, a_kinds, a_chars, a_mate, a_openStack, (ee_fill a_cellKind a b (-1)), a_group, a_live, a_runLo, a_runHi, a_runChar, a_runSize, a_runGroup, a_runOpens, a_runCloses, a_openers, a_floors, a_start, a_width, a_out, a_nodeOf, a_clash)) : wpX_hide post (f_cap, (nI L), f_count, f_depth, f_linkCount, f_runCount, f_openerCount, f_nodes, f_domain, a_source, a_kinds, a_chars, a_mate, a_openStack, a_cellKind, a_group, a_live, a_runLo, a_runHi, a_runChar, a_runSize, a_runGroup, a_runOpens, a_runCloses, a_openers, a_floors, a_start, a_width, a_out, a_nodeOf, a_clash) (nI a) (nI b) := by
  have key : ∀ d i n, i + d = b → a ≤ i → d < n → wX_hide_2 post (nI b) f_cap (nI L) f_count f_depth f_linkCount f_runCount f_openerCount f_nodes f_domain n (nI i) a_source a_kinds a_chars a_mate a_openStack (ee_fill a_cellKind a i (-1)) a_group a_live a_runLo a_runHi a_runChar a_runSize a_runGroup a_runOpens a_runCloses a_openers a_floors a_start a_width a_out a_nodeOf a_clash := by
    intro d
    induction d with
    | zero =>
      intro i n hi ha hn
      obtain ⟨n, rfl⟩ : ∃ m, n = m + 1 := ⟨n - 1, by omega⟩
      have e : i = b := by omega
      subst e
      exact br_t (nI_le (Nat.le_refl _) (by omega)) h
    | succ d ih =>
      intro i n hi ha hn
      obtain ⟨n, rfl⟩ : ∃ m, n = m + 1 := ⟨n - 1, by omega⟩
      have e : (nI i).toNatClampNeg = i := nI_clamp (by omega)
      have w : vp_in (nI i) 64 := vp_in_nI (by omega) (by omega)
      exact br_f (nI_ge (by omega) (by omega)) (br_f (nI_ge (by omega) (by omega)) ⟨w, nm_r (e' := ee_fill a_cellKind a (i + 1) (-1)) (by rw [e]; exact ee_fill_s (by omega)) (nm_r (nI_1 i) (ih (i + 1) n (by omega) (by omega) (by omega)))⟩)
  have q := key (b - a) a (b - a + 1) (by omega) (by omega) (by omega)
  rw [ee_fill_0] at q
  exact ⟨_, q⟩
theorem ef_xtk {post : Int32 → SX → Prop} {i : Nat} (hL : L ≤ 64) (hi : i ≤ L) (h : wX_tickAtom_32 post (nI i) (nI (ee_tk a_source (L - i) i)) f_cap (nI L) f_count f_depth f_linkCount f_runCount f_openerCount f_nodes f_domain a_source a_kinds a_chars a_mate a_openStack a_cellKind a_group a_live a_runLo a_runHi a_runChar a_runSize a_runGroup a_runOpens a_runCloses a_openers a_floors a_start a_width a_out a_nodeOf a_clash) : wpX_tickAtom post (f_cap, (nI L), f_count, f_depth, f_linkCount, f_runCount, f_openerCount, f_nodes, f_domain, a_source, a_kinds, a_chars, a_mate, a_openStack, a_cellKind, a_group, a_live, a_runLo, a_runHi, a_runChar, a_runSize, a_runGroup, a_runOpens, a_runCloses, a_openers, a_floors, a_start, a_width, a_out, a_nodeOf, a_clash) (nI i) := by
  have key : ∀ d k q n, k + d = L → d < n → q + ee_tk a_source d k = ee_tk a_source (L - i) i → wX_tickAtom_4 post (nI i) f_cap (nI L) f_count f_depth f_linkCount f_runCount f_openerCount f_nodes f_domain a_source a_kinds a_chars a_mate a_openStack a_cellKind a_group a_live a_runLo a_runHi a_runChar a_runSize a_runGroup a_runOpens a_runCloses a_openers a_floors a_start a_width a_out a_nodeOf a_clash n (nI q) (nI k) := by
    intro d
    induction d with
    | zero =>
      intro k q n hk hn hq
      obtain ⟨n, rfl⟩ : ∃ m, n = m + 1 := ⟨n - 1, by omega⟩
      have e : q = ee_tk a_source (L - i) i := hq
      rw [← e] at h
      exact br_t (nI_le (by omega) (by omega)) h
    | succ d ih =>
      intro k q n hk hn hq
      obtain ⟨n, rfl⟩ : ∃ m, n = m + 1 := ⟨n - 1, by omega⟩
      have e : (nI k).toNatClampNeg = k := nI_clamp (by omega)
      have w : vp_in (nI k) 64 := vp_in_nI (by omega) (by omega)
      refine br_f (nI_ge (by omega) (by omega)) ⟨w, ?_⟩
      rw [e]
      refine br_c (fun z => ?_) (fun z => ?_)
      · rw [ee_tk_t z] at hq
        exact nm_r (nI_1 q) (nm_r (nI_1 k) (ih (k + 1) (q + 1) n (by omega) (by omega) (by omega)))
      · rw [ee_tk_f z] at hq
        have e : q = ee_tk a_source (L - i) i := hq
        rw [← e] at h
        exact h
  exact ⟨_, key (L - i) i 0 (L - i + 1) (by omega) (by omega) (by omega)⟩
theorem ef_ytk {post : Int32 → Prop} {i : Nat} (hL : L ≤ 64) (hi : i ≤ L) (h : post (nI (ee_tk b_src (L - i) i))) : wpY_ticks post (g_limit, (nI L), g_count, g_wLen, b_src, b_kinds, b_chars, b_w, b_pos, b_till, b_mark, b_out, b_group, b_flag, b_len, b_lo, b_hi, b_live, b_dropped) (nI i) := by
  have key : ∀ d k q n, k + d = L → d < n → q + ee_tk b_src d k = ee_tk b_src (L - i) i → wY_ticks_4 post g_limit (nI L) g_count g_wLen b_src b_kinds b_chars b_w b_pos b_till b_mark b_out b_group b_flag b_len b_lo b_hi b_live b_dropped n (nI q) (nI k) := by
    intro d
    induction d with
    | zero =>
      intro k q n hk hn hq
      obtain ⟨n, rfl⟩ : ∃ m, n = m + 1 := ⟨n - 1, by omega⟩
      have e : q = ee_tk b_src (L - i) i := hq
      rw [← e] at h
      exact br_t (nI_le (by omega) (by omega)) h
    | succ d ih =>
      intro k q n hk hn hq
      obtain ⟨n, rfl⟩ : ∃ m, n = m + 1 := ⟨n - 1, by omega⟩
      have e : (nI k).toNatClampNeg = k := nI_clamp (by omega)
      have w : vp_in (nI k) 64 := vp_in_nI (by omega) (by omega)
      refine br_f (nI_ge (by omega) (by omega)) ⟨w, ?_⟩
      rw [e]
      refine br_c (fun z => ?_) (fun z => ?_)
      · rw [ee_tk_t z] at hq
        exact nm_r (nI_1 q) (nm_r (nI_1 k) (ih (k + 1) (q + 1) n (by omega) (by omega) (by omega)))
      · rw [ee_tk_f z] at hq
        have e : q = ee_tk b_src (L - i) i := hq
        rw [← e] at h
        exact h
  exact ⟨_, key (L - i) i 0 (L - i + 1) (by omega) (by omega) (by omega)⟩
theorem ef_xft {post : Int32 → Prop} {n lo : Nat} {r : Int32} (hL : L ≤ 64) (hlo : lo ≤ L) (hn : 1 ≤ n) (hn2 : n ≤ 64) (h0 : lo < L → ¬ a_source lo = 96) (ft : ee_FT a_source L n lo r) (h : post r) : wpX_findTicks post (f_cap, (nI L), f_count, f_depth, f_linkCount, f_runCount, f_openerCount, f_nodes, f_domain, a_source, a_kinds, a_chars, a_mate, a_openStack, a_cellKind, a_group, a_live, a_runLo, a_runHi, a_runChar, a_runSize, a_runGroup, a_runOpens, a_runCloses, a_openers, a_floors, a_start, a_width, a_out, a_nodeOf, a_clash) (nI lo) (nI n) := by
  have key : ∀ d k m q, k + d = L + 1 → d < m → lo + q ≤ k → (∀ t, k - q ≤ t → t < k → a_source t = 96) → (k - q = lo ∨ ¬ a_source (k - q - 1) = 96 ∨ L < k) → (∀ k', k' < k - q → ¬ ee_Row a_source L n lo k') → (k ≤ L ∨ q = 0) → wX_findTicks_5 post (nI n) f_cap (nI L) f_count f_depth f_linkCount f_runCount f_openerCount f_nodes f_domain a_source a_kinds a_chars a_mate a_openStack a_cellKind a_group a_live a_runLo a_runHi a_runChar a_runSize a_runGroup a_runOpens a_runCloses a_openers a_floors a_start a_width a_out a_nodeOf a_clash m (nI q) (nI k) := by
    intro d
    induction d with
    | zero =>
      intro k m q h1 h2 h3 h4 h5 h6 h7
      obtain ⟨m, rfl⟩ : ∃ z, m = z + 1 := ⟨m - 1, by omega⟩
      refine br_t (nI_lt (by omega) (by omega)) ?_
      have : r = -1 := ee_FT_1 ft (Or.inl ⟨rfl, fun k' hk' => h6 k' (by have := hk'.2.1; omega) hk'⟩)
      rw [this] at h
      exact h
    | succ d ih =>
      intro k m q h1 h2 h3 h4 h5 h6 h7
      obtain ⟨m, rfl⟩ : ∃ z, m = z + 1 := ⟨m - 1, by omega⟩
      have en : (k = L ∨ ¬ a_source k = 96) → wX_findTicks_41 post (wX_findTicks_5 post (nI n) f_cap (nI L) f_count f_depth f_linkCount f_runCount f_openerCount f_nodes f_domain a_source a_kinds a_chars a_mate a_openStack a_cellKind a_group a_live a_runLo a_runHi a_runChar a_runSize a_runGroup a_runOpens a_runCloses a_openers a_floors a_start a_width a_out a_nodeOf a_clash m) (nI n) (nI q) (nI k) f_cap (nI L) f_count f_depth f_linkCount f_runCount f_openerCount f_nodes f_domain a_source a_kinds a_chars a_mate a_openStack a_cellKind a_group a_live a_runLo a_runHi a_runChar a_runSize a_runGroup a_runOpens a_runCloses a_openers a_floors a_start a_width a_out a_nodeOf a_clash := by
        intro he
        have tk : ee_tk a_source (L - (k - q)) (k - q) = q := by
          refine ee_tk_eq (by omega) (fun t ht => h4 _ (by omega) (by omega)) (fun hq => ?_)
          rw [show k - q + q = k by omega]
          rcases he with z | z
          · omega
          · exact z
        refine br_c (fun z => ?_) (fun z => ?_)
        · have z := ea_im z (by omega) (by omega)
          subst z
          rw [pk_sub (by omega)]
          have row : ee_Row a_source L q lo (k - q) := by
            refine ⟨by omega, by omega, ?_, tk⟩
            rcases h5 with w | w
            · exfalso
              refine h0 (by omega) ?_
              rw [← w]
              exact h4 _ (Nat.le_refl _) (by omega)
            · rcases w with w | w
              · exact w
              · omega
          have : r = nI (k - q) := ee_FT_1 ft (Or.inr ⟨_, rfl, row, h6⟩)
          rw [this] at h
          exact h
        · have nq : q ≠ n := fun w => z (by rw [w])
          refine nm_r (nI_1 k) (ih (k + 1) m 0 (by omega) (by omega) (by omega) (fun t _ _ => by omega) ?_ (fun k' hk' row => ?_) (Or.inr rfl))
          · rcases he with he | he
            · exact Or.inr (Or.inr (by omega))
            · exact Or.inr (Or.inl he)
          · obtain ⟨r1, r2, r3, r4⟩ := row
            rcases Nat.lt_trichotomy k' (k - q) with w | w | w
            · exact h6 k' w ⟨r1, r2, r3, r4⟩
            · subst w; rw [tk] at r4; exact nq r4
            · exact r3 (h4 _ (by omega) (by omega))
      refine br_f (nI_nlt (by omega) (by omega)) (pk_le L k (fun z => en (Or.inl (by omega))) (fun z => ?_))
      have e : (nI k).toNatClampNeg = k := nI_clamp (by omega)
      refine ⟨vp_in_nI (by omega) (by omega), ?_⟩
      rw [e]
      refine br_c (fun y => nm_r (nI_1 q) (nm_r (nI_1 k) (ih (k + 1) m (q + 1) (by omega) (by omega) (by omega) (fun t t1 t2 => ?_) ?_ ?_ (Or.inl (by omega))))) (fun y => en (Or.inr y))
      · by_cases e2 : t = k
        · subst e2; exact y
        · exact h4 t (by omega) (by omega)
      · rw [show k + 1 - (q + 1) = k - q by omega]
        rcases h5 with w | w | w
        · exact Or.inl w
        · exact Or.inr (Or.inl w)
        · omega
      · rw [show k + 1 - (q + 1) = k - q by omega]; exact h6
  exact ⟨_, key (L + 1 - lo) lo (L + 1 - lo + 1) 0 (by omega) (by omega) (by omega) (fun t _ _ => by omega) (Or.inl (by omega)) (fun k' hk' row => by have := row.1; omega) (Or.inl hlo)⟩
theorem ef_xcode {post : Int32 → SX → Prop} {i n : Nat} {r : Int32} (hL : L ≤ 64) (hn : 1 ≤ n) (hi : i + n ≤ L) (h0 : i + n < L → ¬ a_source (i + n) = 96) (ft : ee_FT a_source L n (i + n) r)
    (h1 : r = -1 → post (nI (i + n)) (f_cap, (nI L), f_count, f_depth, f_linkCount, f_runCount, f_openerCount, f_nodes, f_domain, a_source, a_kinds, a_chars, a_mate, a_openStack, a_cellKind, a_group, a_live, a_runLo, a_runHi, a_runChar, a_runSize, a_runGroup, a_runOpens, a_runCloses, a_openers, a_floors, a_start, a_width, a_out, a_nodeOf, a_clash))
    (h2 : ∀ j, r = nI j → ee_Row a_source L n (i + n) j → post (nI (j + n)) (f_cap, (nI L), f_count, f_depth, f_linkCount, f_runCount, f_openerCount, f_nodes, f_domain, a_source, a_kinds, a_chars, a_mate, a_openStack, (ef_code a_cellKind i j n), a_group, a_live, a_runLo, a_runHi, a_runChar, a_runSize, a_runGroup, a_runOpens, a_runCloses, a_openers, a_floors, a_start, a_width, a_out, a_nodeOf, a_clash)) : wX_tickAtom_32 post (nI i) (nI n) f_cap (nI L) f_count f_depth f_linkCount f_runCount f_openerCount f_nodes f_domain a_source a_kinds a_chars a_mate a_openStack a_cellKind a_group a_live a_runLo a_runHi a_runChar a_runSize a_runGroup a_runOpens a_runCloses a_openers a_floors a_start a_width a_out a_nodeOf a_clash := by
  unfold wX_tickAtom_32
  rw [nI_add]
  refine ef_xft (r := r) hL hi hn (by omega) h0 ft ?_
  rcases ft with ⟨a, b⟩ | ⟨j, a, b, c⟩
  · subst a
    exact br_f (by decide) (h1 rfl)
  · subst a
    have k := h2 j rfl b
    obtain ⟨b1, b2, b3, b4⟩ := b
    have tl := ee_tk_le (S := a_source) (L - j) j
    have e1 : (nI i).toNatClampNeg = i := nI_clamp (by omega)
    have e2 : (nI j).toNatClampNeg = j := nI_clamp (by omega)
    refine br_t (ea_0le (by omega)) (ef_xhide (by omega) (by omega) hL ?_)
    dsimp only
    rw [nI_add]
    refine ef_xhide (by omega) (by omega) hL ?_
    refine ⟨vp_in_nI (by omega) (by omega), nm_r (e' := upd (ee_fill (ee_fill a_cellKind i (i + n) (-1)) j (j + n) (-1)) i 3) (by rw [e1]) ⟨vp_in_nI (by omega) (by omega), nm_r (e' := ef_code a_cellKind i j n) (by rw [e2]; rfl) k⟩⟩
theorem ef_xat {post : Int32 → SX → Prop} {i nx : Nat} {ck' lv' : Nat → Int32} (hL : L ≤ 64) (hi : i < L) (A : ef_At a_source L i a_cellKind a_live nx ck' lv') (h : post (nI nx) (f_cap, (nI L), f_count, f_depth, f_linkCount, f_runCount, f_openerCount, f_nodes, f_domain, a_source, a_kinds, a_chars, a_mate, a_openStack, ck', a_group, lv', a_runLo, a_runHi, a_runChar, a_runSize, a_runGroup, a_runOpens, a_runCloses, a_openers, a_floors, a_start, a_width, a_out, a_nodeOf, a_clash)) : wpX_atomAt post (f_cap, (nI L), f_count, f_depth, f_linkCount, f_runCount, f_openerCount, f_nodes, f_domain, a_source, a_kinds, a_chars, a_mate, a_openStack, a_cellKind, a_group, a_live, a_runLo, a_runHi, a_runChar, a_runSize, a_runGroup, a_runOpens, a_runCloses, a_openers, a_floors, a_start, a_width, a_out, a_nodeOf, a_clash) (nI i) := by
  have e : (nI i).toNatClampNeg = i := nI_clamp (by omega)
  have w : vp_in (nI i) 64 := vp_in_nI (by omega) (by omega)
  have tick : ∀ (r : Int32), a_source i = 96 → ee_FT a_source L (ee_tk a_source (L - i) i) (i + ee_tk a_source (L - i) i) r →
      (r = -1 → post (nI (i + ee_tk a_source (L - i) i)) (f_cap, (nI L), f_count, f_depth, f_linkCount, f_runCount, f_openerCount, f_nodes, f_domain, a_source, a_kinds, a_chars, a_mate, a_openStack, a_cellKind, a_group, a_live, a_runLo, a_runHi, a_runChar, a_runSize, a_runGroup, a_runOpens, a_runCloses, a_openers, a_floors, a_start, a_width, a_out, a_nodeOf, a_clash)) →
      (∀ j, r = nI j → ee_Row a_source L (ee_tk a_source (L - i) i) (i + ee_tk a_source (L - i) i) j → post (nI (j + ee_tk a_source (L - i) i)) (f_cap, (nI L), f_count, f_depth, f_linkCount, f_runCount, f_openerCount, f_nodes, f_domain, a_source, a_kinds, a_chars, a_mate, a_openStack, (ef_code a_cellKind i j (ee_tk a_source (L - i) i)), a_group, a_live, a_runLo, a_runHi, a_runChar, a_runSize, a_runGroup, a_runOpens, a_runCloses, a_openers, a_floors, a_start, a_width, a_out, a_nodeOf, a_clash)) →
      wpX_atomAt post (f_cap, (nI L), f_count, f_depth, f_linkCount, f_runCount, f_openerCount, f_nodes, f_domain, a_source, a_kinds, a_chars, a_mate, a_openStack, a_cellKind, a_group, a_live, a_runLo, a_runHi, a_runChar, a_runSize, a_runGroup, a_runOpens, a_runCloses, a_openers, a_floors, a_start, a_width, a_out, a_nodeOf, a_clash) (nI i) := by
    intro r b1 ft h1 h2
    have tp := ee_tk_pos (S := a_source) (d := L - i) (i := i) (by omega)
    have tl := ee_tk_le (S := a_source) (L - i) i
    have t1 : 1 ≤ ee_tk a_source (L - i) i := by
      apply Decidable.byContradiction
      intro z
      exact (tp.mp (by omega)) b1
    refine ⟨w, br_f (by rw [e, b1]; decide) ⟨w, br_t (by rw [e]; exact b1) (ef_xtk hL (by omega) (ef_xcode hL t1 (by omega) (fun z => ee_tk_end (L - i) i (by omega)) ft h1 h2))⟩⟩
  rcases A with ⟨b1, b2, b3, q1, q2, q3⟩ | ⟨b1, b2, q1, q2, q3⟩ | ⟨b1, j, b2, b3, q1, q2, q3⟩ | ⟨b1, b2, q1, q2, q3⟩ <;> rw [q1, q2, q3] at h
  · unfold wpX_atomAt
    dsimp only
    rw [nI_1 i, ea_2 i, e, nI_clamp (by omega : i + 1 < 2 ^ 31)]
    refine ⟨w, br_t b1 (br_f (nI_ge (by omega) (by omega)) ⟨vp_in_nI (by omega) (by omega), ea_xpu (ea_br (fun z => ?_) (fun z => ⟨w, nm_e h⟩))⟩)⟩
    rw [b3] at z; exact absurd z (by decide)
  · exact tick (-1) b1 (Or.inl ⟨rfl, b2⟩) (fun _ => h) (fun j z row => absurd row (b2 j))
  · have jl := b2.2.1
    exact tick (nI j) b1 (Or.inr ⟨j, rfl, b2, b3⟩) (fun z => absurd z (ea_ne1 (by omega))) (fun j' z row => by
      have := ea_im z (by omega) (by have := row.2.1; omega)
      subst this
      exact h)
  · have a47 : wX_atomAt_47 post (nI i) f_cap (nI L) f_count f_depth f_linkCount f_runCount f_openerCount f_nodes f_domain a_source a_kinds a_chars a_mate a_openStack a_cellKind a_group a_live a_runLo a_runHi a_runChar a_runSize a_runGroup a_runOpens a_runCloses a_openers a_floors a_start a_width a_out a_nodeOf a_clash := by
      refine ⟨w, br_f (by rw [e]; exact b1) ⟨w, nm_r (e' := upd a_live i 1) (by rw [e, ea_vb1]) ?_⟩⟩
      rw [nI_1 i]; exact h
    unfold wpX_atomAt
    dsimp only
    rw [nI_1 i, ea_2 i, e, nI_clamp (by omega : i + 1 < 2 ^ 31)]
    refine ⟨w, br_c (fun z => pk_le L (i + 1) (fun y => a47) (fun y => ⟨vp_in_nI (by omega) (by omega), ea_xpu (ea_br (fun x => a47) (fun x => ?_))⟩)) (fun z => a47)⟩
    exact absurd ⟨z, y, x⟩ b2
end EF
end
section
/-! parse: Y's atoms, both sides together -/
theorem eg_FT_k {S : Nat → Int32} {L n k : Nat} {x : Int32} (h : ee_FT S L n (k + 1) x) (hk : ¬ ee_Row S L n k k) : ee_FT S L n k x := by
  have mv : ∀ q, ee_Row S L n k q → ee_Row S L n (k + 1) q := fun q ⟨a, b⟩ => by
    by_cases e : q = k
    · subst e; exact absurd ⟨a, b⟩ hk
    · exact ⟨by omega, b⟩
  rcases h with ⟨a, b⟩ | ⟨j, a, b, c⟩
  · exact Or.inl ⟨a, fun q hq => b q (mv q hq)⟩
  · exact Or.inr ⟨j, a, ⟨by have := b.1; omega, b.2⟩, fun q h1 h2 => c q h1 (mv q h2)⟩
theorem eg_code_s {ck : Nat → Int32} {i j q : Nat} : upd (upd (ee_fill (ee_fill ck i (i + q) (-1)) j (j + q) (-1)) (i + q) (-1)) (j + q) (-1) = ee_fill (ee_fill ck i (i + (q + 1)) (-1)) j (j + (q + 1)) (-1) := by
  funext x
  by_cases e1 : x = j + q
  · subst e1; rw [ea_us, ee_fill_in (by omega) (by omega)]
  · rw [ea_un e1]
    by_cases e2 : x = i + q
    · subst e2
      rw [ea_us]
      by_cases z : j ≤ i + q ∧ i + q < j + (q + 1)
      · rw [ee_fill_in z.1 z.2]
      · rw [ee_fill_out (by omega), ee_fill_in (by omega) (by omega)]
    · rw [ea_un e2]
      by_cases z : j ≤ x ∧ x < j + q
      · rw [ee_fill_in z.1 z.2, ee_fill_in z.1 (by omega)]
      · rw [ee_fill_out (by omega), ee_fill_out (by omega : x < j ∨ j + (q + 1) ≤ x)]
        by_cases y : i ≤ x ∧ x < i + q
        · rw [ee_fill_in y.1 y.2, ee_fill_in y.1 (by omega)]
        · rw [ee_fill_out (by omega), ee_fill_out (by omega)]
section EG
variable {f_cap f_count f_depth f_linkCount f_runCount f_openerCount f_nodes f_domain : Int32} {a_kinds a_chars a_mate a_openStack a_group a_runLo a_runHi a_runChar a_runSize a_runGroup a_runOpens a_runCloses a_openers a_floors a_start a_width a_out a_nodeOf a_clash : Nat → Int32} {g_limit g_count : Int32} {b_kinds b_chars b_pos b_till b_mark b_group b_flag b_len b_lo b_hi b_dropped : Nat → Int32}
variable {L : Nat} {S W ck lv : Nat → Int32}
theorem eg_yrow {post : SY → Prop} {J : Int32 → Int32 → (Nat → Int32) → (Nat → Int32) → (Nat → Int32) → (Nat → Int32) → (Nat → Int32) → (Nat → Int32) → (Nat → Int32) → (Nat → Int32) → (Nat → Int32) → (Nat → Int32) → (Nat → Int32) → (Nat → Int32) → (Nat → Int32) → (Nat → Int32) → (Nat → Int32) → Prop} {i n : Nat} {r : Int32} (hL : L ≤ 64) (hn : 1 ≤ n) (hi : i + n ≤ L) (ft : ee_FT S L n (i + n) r)
    (h1 : r = -1 → wY_atoms_168 post J (nI i) (nI n) (-1) (nI i) g_limit (nI L) g_count (nI L) S b_kinds b_chars W b_pos b_till b_mark ck b_group b_flag b_len b_lo b_hi lv b_dropped)
    (h2 : ∀ j, r = nI j → ee_Row S L n (i + n) j → wY_atoms_168 post J (nI i) (nI n) (nI j) (nI j) g_limit (nI L) g_count (nI L) S b_kinds b_chars W b_pos b_till b_mark ck b_group b_flag b_len b_lo b_hi lv b_dropped) :
    ∃ m, wY_atoms_112 post J (nI i) (nI n) g_limit (nI L) g_count (nI L) S b_kinds b_chars W b_pos b_till b_mark ck b_group b_flag b_len b_lo b_hi lv b_dropped m (-1) (nI L - 1) := by
  have key : ∀ d k m x, k + 1 = i + n + d → k + 1 ≤ L → d < m → ee_FT S L n (k + 1) x → wY_atoms_112 post J (nI i) (nI n) g_limit (nI L) g_count (nI L) S b_kinds b_chars W b_pos b_till b_mark ck b_group b_flag b_len b_lo b_hi lv b_dropped m x (nI k) := by
    intro d
    induction d with
    | zero =>
      intro k m x h3 h4 h5 h6
      obtain ⟨m, rfl⟩ : ∃ z, m = z + 1 := ⟨m - 1, by omega⟩
      refine br_t (by rw [nI_add]; exact nI_lt (by omega) (by omega)) ?_
      rw [show k + 1 = i + n by omega] at h6
      have e := ee_FT_1 h6 ft
      subst e
      rcases ft with ⟨a, b⟩ | ⟨j, a, b, c⟩
      · subst a
        exact br_t rfl (h1 rfl)
      · subst a
        have := b.2.1
        exact br_f (ea_ne1 (by omega)) (h2 j rfl b)
    | succ d ih =>
      intro k m x h3 h4 h5 h6
      obtain ⟨m, rfl⟩ : ∃ z, m = z + 1 := ⟨m - 1, by omega⟩
      obtain ⟨k, rfl⟩ : ∃ z, k = z + 1 := ⟨k - 1, by omega⟩
      refine br_f (by rw [nI_add]; exact nI_nlt (by omega) (by omega)) ?_
      rw [nI_pred k, nI_clamp (by omega : k < 2 ^ 31)]
      refine ⟨vp_in_nI (by omega) (by omega), br_c (fun z => nm_r (pk_m1 k) (ih k m x (by omega) (by omega) (by omega) (eg_FT_k h6 (fun row => row.2.2.1 z)))) (fun z => ef_ytk hL (by omega) (br_c (fun y => ?_) (fun y => ?_)))⟩
      · have y := ea_im y (by have := ee_tk_le (S := S) (L - (k + 1)) (k + 1); omega) (by omega)
        exact nm_r (pk_m1 k) (ih k m _ (by omega) (by omega) (by omega) (Or.inr ⟨k + 1, rfl, ⟨Nat.le_refl _, by omega, z, y⟩, fun q hq row => by have := row.1; omega⟩))
      · exact nm_r (pk_m1 k) (ih k m x (by omega) (by omega) (by omega) (eg_FT_k h6 (fun row => y (by rw [row.2.2.2]))))
  rw [ea_s (by omega : 0 < L)]
  refine ⟨_, key (L - (i + n)) (L - 1) (L - (i + n) + 1) (-1) (by omega) (by omega) (by omega) (Or.inl ⟨rfl, fun k row => ?_⟩)⟩
  have := row.1
  have := row.2.1
  omega
theorem eg_yfill {post : SY → Prop} {J : Int32 → Int32 → (Nat → Int32) → (Nat → Int32) → (Nat → Int32) → (Nat → Int32) → (Nat → Int32) → (Nat → Int32) → (Nat → Int32) → (Nat → Int32) → (Nat → Int32) → (Nat → Int32) → (Nat → Int32) → (Nat → Int32) → (Nat → Int32) → (Nat → Int32) → (Nat → Int32) → Prop} {i j n : Nat} {x2 : Int32} (hL : L ≤ 64) (hi : i + n ≤ 64) (hi0 : i < 64) (hj : j < 64) (hjn : j + n ≤ 64)
    (h : J (nI (i + 1)) x2 S b_kinds b_chars W b_pos b_till b_mark (ef_code ck i j n) b_group b_flag b_len b_lo b_hi lv b_dropped) :
    ∃ m, wY_atoms_184 post J (nI i) x2 (nI n) (nI j) g_limit (nI L) g_count (nI L) m 0 S b_kinds b_chars W b_pos b_till b_mark ck b_group b_flag b_len b_lo b_hi lv b_dropped := by
  have key : ∀ d q m, q + d = n → d < m → wY_atoms_184 post J (nI i) x2 (nI n) (nI j) g_limit (nI L) g_count (nI L) m (nI q) S b_kinds b_chars W b_pos b_till b_mark (ee_fill (ee_fill ck i (i + q) (-1)) j (j + q) (-1)) b_group b_flag b_len b_lo b_hi lv b_dropped := by
    intro d
    induction d with
    | zero =>
      intro q m h1 h2
      obtain ⟨m, rfl⟩ : ∃ z, m = z + 1 := ⟨m - 1, by omega⟩
      have e : q = n := by omega
      subst e
      exact br_t (nI_le (Nat.le_refl _) (by omega)) ⟨vp_in_nI (by omega) (by omega), nm_r (e' := upd (ee_fill (ee_fill ck i (i + q) (-1)) j (j + q) (-1)) i 3) (by rw [nI_clamp (by omega : i < 2 ^ 31)]) ⟨vp_in_nI (by omega) (by omega), nm_r (e' := ef_code ck i j q) (by rw [nI_clamp (by omega : j < 2 ^ 31)]; rfl) (nm_r (nI_1 i) h)⟩⟩
    | succ d ih =>
      intro q m h1 h2
      obtain ⟨m, rfl⟩ : ∃ z, m = z + 1 := ⟨m - 1, by omega⟩
      refine br_f (nI_ge (by omega) (by omega)) ?_
      rw [nI_add, nI_add, nI_clamp (by omega : i + q < 2 ^ 31), nI_clamp (by omega : j + q < 2 ^ 31)]
      exact ⟨vp_in_nI (by omega) (by omega), nm_e ⟨vp_in_nI (by omega) (by omega), nm_r eg_code_s (nm_r (nI_1 q) (ih (q + 1) m (by omega) (by omega)))⟩⟩
  have q := key n 0 (n + 1) (by omega) (by omega)
  simp only [Nat.add_zero, ee_fill_0] at q
  exact ⟨_, q⟩
theorem eg_yat {post : SY → Prop} {i nx q n : Nat} {ck' lv' : Nat → Int32} (hL : L ≤ 64) (hi : i < L) (hq : q ≤ i) (hW : ∀ x, x < L → W x = S x) (hl : lv i = 0) (A : ef_At S L i ck lv nx ck' lv')
    (h : ∀ q', (q' = nx ∨ (nx = i + 1 ∧ q' ≤ i + 1)) → wY_atoms_4 post g_limit (nI L) g_count (nI L) n (nI (i + 1)) (nI q') S b_kinds b_chars W b_pos b_till b_mark ck' b_group b_flag b_len b_lo b_hi lv' b_dropped) :
    wY_atoms_4 post g_limit (nI L) g_count (nI L) (n + 1) (nI i) (nI q) S b_kinds b_chars W b_pos b_till b_mark ck b_group b_flag b_len b_lo b_hi lv b_dropped := by
  have e : (nI i).toNatClampNeg = i := nI_clamp (by omega)
  have w : vp_in (nI i) 64 := vp_in_nI (by omega) (by omega)
  have tl := ee_tk_le (S := S) (L - i) i
  have tp := ee_tk_pos (S := S) (d := L - i) (i := i) (by omega)
  refine br_f (nI_ge (by omega) (by omega)) (br_t (nI_le hq (by omega)) ?_)
  -- the character behind
  have at1 : ∀ P : Int32 → Prop, (∀ x, (i + 1 < L → x = S (i + 1)) → (¬ i + 1 < L → x = 32) → P x) → wpY_at P (g_limit, (nI L), g_count, (nI L), S, b_kinds, b_chars, W, b_pos, b_till, b_mark, ck, b_group, b_flag, b_len, b_lo, b_hi, lv, b_dropped) (nI i + 1) := by
    intro P hP
    rw [nI_1]
    by_cases z : i + 1 < L
    · exact ea_yat (by omega) z (hP _ (fun _ => hW _ z) (fun y => absurd z y))
    · exact ea_yat2 (by omega) (by omega) (by omega) (hP _ (fun y => absurd y z) (fun _ => rfl))
  refine at1 _ (fun x x1 x2 => ef_ytk hL (by omega) ?_)
  -- live or not
  have a67 : ¬ S i = 96 → ¬ (S i = 92 ∧ i + 1 < L ∧ ea_pu (S (i + 1)) = true) → wY_atoms_67 post (wY_atoms_4 post g_limit (nI L) g_count (nI L) n) (nI i) (nI q) (nI (ee_tk S (L - i) i)) (-1) (nI i) g_limit (nI L) g_count (nI L) S b_kinds b_chars W b_pos b_till b_mark ck b_group b_flag b_len b_lo b_hi lv b_dropped := by
    intro z1 z2
    rcases A with ⟨b1, b2, b3, _⟩ | ⟨b1, _⟩ | ⟨b1, _⟩ | ⟨b1, b2, q1, q2, q3⟩
    · exact absurd ⟨b1, b2, b3⟩ z2
    · exact absurd b1 z1
    · exact absurd b1 z1
    · rw [q1, q2, q3] at h
      refine ⟨w, nm_r (e' := upd lv i 1) (by rw [e, ea_vb1]) ⟨w, ?_⟩⟩
      rw [e, ea_us]
      exact br_f (by decide) (nm_r (nI_1 i) (h q (Or.inr ⟨rfl, by omega⟩)))
  have ux : upd lv i 0 = lv := ee_ux hl
  by_cases c : S i = 96
  · have t1 : ¬ nI (ee_tk S (L - i) i) = 0 := by
      rw [ea_eq0 (by omega)]
      exact fun z => (tp.mp z) c
    have t1' : 1 ≤ ee_tk S (L - i) i := by
      apply Decidable.byContradiction
      intro z
      exact (tp.mp (by omega)) c
    refine br_f t1 ⟨w, nm_r (e' := lv) (by rw [e, ea_vb0]; exact ux) ⟨w, ?_⟩⟩
    rw [e, hl]
    refine br_t rfl (br_f t1 (nm_e ?_))
    rcases A with ⟨b1, _⟩ | ⟨b1, b2, q1, q2, q3⟩ | ⟨b1, j, b2, b3, q1, q2, q3⟩ | ⟨b1, _⟩
    · rw [c] at b1; exact absurd b1 (by decide)
    · rw [q1, q2, q3] at h
      refine eg_yrow hL t1' (by omega) (Or.inl ⟨rfl, b2⟩) (fun _ => ?_) (fun j z row => absurd row (b2 j))
      exact nm_r (nI_add _ _) (br_t rfl (nm_r (nI_1 i) (h _ (Or.inl rfl))))
    · rw [q1, q2, q3] at h
      have jl := b2.2.1
      refine eg_yrow hL t1' (by omega) (Or.inr ⟨j, rfl, b2, b3⟩) (fun z => absurd z (ea_ne1 (by omega))) (fun j' z row => ?_)
      have := ea_im z (by omega) (by have := row.2.1; omega)
      subst this
      have tl2 := ee_tk_le (S := S) (L - j) j
      rw [b2.2.2.2] at tl2
      exact nm_r (nI_add _ _) (br_f (ea_ne1 (by omega)) (eg_yfill hL (by omega) (by omega) (by omega) (by omega) (h _ (Or.inl rfl))))
    · exact absurd c b1
  · have t0 : nI (ee_tk S (L - i) i) = 0 := (ea_eq0 (by omega)).mpr (tp.mpr c)
    refine br_t t0 ⟨w, ?_⟩
    rw [e]
    refine br_c (fun z => ea_ypu (ea_br (fun y => a67 c (fun hh => ?_)) (fun y => ?_))) (fun z => a67 c (fun hh => z hh.1))
    · rw [x1 hh.2.1, hh.2.2] at y; exact absurd y (by decide)
    · have il : i + 1 < L := by
        apply Decidable.byContradiction
        intro zz
        rw [x2 zz] at y
        exact absurd y (by decide)
      rcases A with ⟨b1, b2, b3, q1, q2, q3⟩ | ⟨b1, _⟩ | ⟨b1, _⟩ | ⟨b1, b2, _⟩
      · rw [q1, q2, q3] at h
        refine ⟨w, nm_r (e' := lv) (by rw [e, ea_vb0]; exact ux) ⟨w, ?_⟩⟩
        rw [e, hl]
        exact br_t rfl (br_t t0 ⟨w, nm_e (nm_r (ea_2 i) (nm_r (nI_1 i) (h _ (Or.inl rfl))))⟩)
      · exact absurd b1 c
      · exact absurd b1 c
      · rw [x1 il] at y
        exact absurd ⟨z, il, y⟩ b2
/-- both sides' atoms -/
theorem eg_atoms (hL : L ≤ 64) (hW : ∀ x, x < L → W x = S x) : ∀ (d i nx : Nat) (ck lv : Nat → Int32), i + d = L → ef_Inv S L i nx ck lv →
    ∃ ck' lv', ef_Inv S L L L ck' lv' ∧ (∀ x, L ≤ x → ck' x = ck x ∧ lv' x = lv x) ∧
      (∀ (post : SX → Prop) (n : Nat), d < n → post (f_cap, (nI L), f_count, f_depth, f_linkCount, f_runCount, f_openerCount, f_nodes, f_domain, S, a_kinds, a_chars, a_mate, a_openStack, ck', a_group, lv', a_runLo, a_runHi, a_runChar, a_runSize, a_runGroup, a_runOpens, a_runCloses, a_openers, a_floors, a_start, a_width, a_out, a_nodeOf, a_clash) → wX_splitAtoms_4 post n (nI nx) (nI i) f_cap (nI L) f_count f_depth f_linkCount f_runCount f_openerCount f_nodes f_domain S a_kinds a_chars a_mate a_openStack ck a_group lv a_runLo a_runHi a_runChar a_runSize a_runGroup a_runOpens a_runCloses a_openers a_floors a_start a_width a_out a_nodeOf a_clash) ∧
      (∀ (post : SY → Prop) (n q : Nat), d < n → (q = nx ∨ (nx = i ∧ q ≤ i)) → post (g_limit, (nI L), g_count, (nI L), S, b_kinds, b_chars, W, b_pos, b_till, b_mark, ck', b_group, b_flag, b_len, b_lo, b_hi, lv', b_dropped) → wY_atoms_4 post g_limit (nI L) g_count (nI L) n (nI i) (nI q) S b_kinds b_chars W b_pos b_till b_mark ck b_group b_flag b_len b_lo b_hi lv b_dropped) := by
  intro d
  induction d with
  | zero =>
    intro i nx ck lv h1 h2
    have e : i = L := by omega
    subst e
    have e : nx = i := by have := h2.1; have := h2.2.1; omega
    subst e
    refine ⟨ck, lv, h2, fun x _ => ⟨rfl, rfl⟩, fun post n hn h => ?_, fun post n q hn hq h => ?_⟩
    · obtain ⟨n, rfl⟩ : ∃ z, n = z + 1 := ⟨n - 1, by omega⟩
      exact br_t (nI_le (Nat.le_refl _) (by omega)) h
    · obtain ⟨n, rfl⟩ : ∃ z, n = z + 1 := ⟨n - 1, by omega⟩
      exact br_t (nI_le (Nat.le_refl _) (by omega)) h
  | succ d ih =>
    intro i nx ck lv h1 h2
    have i1 := h2.1
    have i2 := h2.2.1
    by_cases e : i = nx
    · subst e
      obtain ⟨nx, ck1, lv1, A⟩ := ef_At_ex S L i ck lv
      have st := ef_step h2 (by omega) A
      obtain ⟨ck', lv', r1, r2, r3, r4⟩ := ih (i + 1) nx ck1 lv1 (by omega) st.1
      have out : ∀ x, L ≤ x → ck1 x = ck x ∧ lv1 x = lv x := by
        intro x hx
        rcases A with ⟨b1, b2, b3, q1, q2, q3⟩ | ⟨b1, b2, q1, q2, q3⟩ | ⟨b1, j, b2, b3, q1, q2, q3⟩ | ⟨b1, b2, q1, q2, q3⟩ <;> rw [q2, q3]
        · exact ⟨ea_un (by omega), rfl⟩
        · exact ⟨rfl, rfl⟩
        · have tl := ee_tk_le (S := S) (L - i) i
          have tl2 := ee_tk_le (S := S) (L - j) j
          have jl := b2.2.1
          rw [b2.2.2.2] at tl2
          refine ⟨?_, rfl⟩
          unfold ef_code
          rw [ea_un (by omega), ea_un (by omega), ee_fill_out (by omega), ee_fill_out (by omega)]
        · exact ⟨rfl, ea_un (by omega)⟩
      refine ⟨ck', lv', r1, fun x hx => ⟨(r2 x hx).1.trans (out x hx).1, (r2 x hx).2.trans (out x hx).2⟩, fun post n hn h => ?_, fun post n q hn hq h => ?_⟩
      · obtain ⟨n, rfl⟩ : ∃ z, n = z + 1 := ⟨n - 1, by omega⟩
        exact br_f (nI_ge (by omega) (by omega)) (br_t rfl (ef_xat hL (by omega) A (nm_r (nI_1 i) (r3 post n (by omega) h))))
      · obtain ⟨n, rfl⟩ : ∃ z, n = z + 1 := ⟨n - 1, by omega⟩
        refine eg_yat hL (by omega) (by omega) hW (h2.2.2.2.1 i (Nat.le_refl _) (by omega)) A (fun q' hq' => ?_)
        exact r4 post n q' (by omega) (by omega) h
    · obtain ⟨ck', lv', r1, r2, r3, r4⟩ := ih (i + 1) nx ck lv (by omega) (ef_skip h2 (by omega))
      refine ⟨ck', lv', r1, r2, fun post n hn h => ?_, fun post n q hn hq h => ?_⟩
      · obtain ⟨n, rfl⟩ : ∃ z, n = z + 1 := ⟨n - 1, by omega⟩
        exact br_f (nI_ge (by omega) (by omega)) (br_f (fun z => e (ea_im z (by omega) (by omega))) (nm_r (nI_1 i) (r3 post n (by omega) h)))
      · obtain ⟨n, rfl⟩ : ∃ z, n = z + 1 := ⟨n - 1, by omega⟩
        exact br_f (nI_ge (by omega) (by omega)) (br_f (nI_ge (by omega) (by omega)) (nm_r (nI_1 i) (r4 post n q (by omega) (by omega) h)))
end EG
end
section
/-! parse: links, purely -/
noncomputable def eh_b (P : Prop) : Bool := @decide P (Classical.propDecidable P)
theorem eh_bt {P : Prop} (h : P) : eh_b P = true := @decide_eq_true P (Classical.propDecidable P) h
theorem eh_bf {P : Prop} (h : ¬ P) : eh_b P = false := @decide_eq_false P (Classical.propDecidable P) h
theorem eh_bi {P : Prop} (h : eh_b P = true) : P := @of_decide_eq_true P (Classical.propDecidable P) h
def eh_Lk (S lv : Nat → Int32) (L i j : Nat) : Prop :=
  i + 1 < j ∧ j + 3 < L ∧ ¬ lv i = 0 ∧ S i = 91 ∧ ¬ lv j = 0 ∧ S j = 93 ∧ (∀ t, i < t → t < j → ¬ lv t = 0 → ¬ S t = 91 ∧ ¬ S t = 93) ∧ S (j + 1) = 40 ∧ ea_al (S (j + 2)) = true ∧ S (j + 3) = 41
section EH
variable {S lv ck : Nat → Int32} {L i j i' j' : Nat}
theorem eh_sep1 (h : eh_Lk S lv L i j) (h' : eh_Lk S lv L i' j') (w : i < i') : j + 3 < i' := by
  obtain ⟨a1, a2, a3, a4, a5, a6, a7, a8, a9, a10⟩ := h
  obtain ⟨b1, b2, b3, b4, b5, b6, b7, b8, b9, b10⟩ := h'
  have n1 : ¬ i' < j := fun z => (a7 i' w z b3).1 b4
  have n2 : ¬ i' = j := fun z => by rw [z, a6] at b4; exact absurd b4 (by decide)
  have n3 : ¬ i' = j + 1 := fun z => by rw [z, a8] at b4; exact absurd b4 (by decide)
  have n4 : ¬ i' = j + 2 := fun z => by rw [z] at b4; rw [b4] at a9; exact absurd a9 (by decide)
  have n5 : ¬ i' = j + 3 := fun z => by rw [z, a10] at b4; exact absurd b4 (by decide)
  omega
theorem eh_fun (h : eh_Lk S lv L i j) (h' : eh_Lk S lv L i j') : j = j' := by
  obtain ⟨a1, a2, a3, a4, a5, a6, a7, a8, a9, a10⟩ := h
  obtain ⟨b1, b2, b3, b4, b5, b6, b7, b8, b9, b10⟩ := h'
  rcases Nat.lt_trichotomy j j' with w | w | w
  · exact absurd a6 (b7 j (by omega) w a5).2
  · exact w
  · exact absurd b6 (a7 j' (by omega) w b5).2
theorem eh_sep (h : eh_Lk S lv L i j) (h' : eh_Lk S lv L i' j') : (i = i' ∧ j = j') ∨ j + 3 < i' ∨ j' + 3 < i := by
  rcases Nat.lt_trichotomy i i' with w | w | w
  · exact Or.inr (Or.inl (eh_sep1 h h' w))
  · subst w; exact Or.inl ⟨rfl, eh_fun h h'⟩
  · exact Or.inr (Or.inr (eh_sep1 h' h w))
/-- the cells once the links of P are made -/
noncomputable def eh_lk (P : Nat → Nat → Prop) (ck : Nat → Int32) : Nat → Int32 := fun x =>
  if eh_b (∃ j, P x j) = true then 4 else if eh_b (∃ i, P i x) = true then 8 else if eh_b (∃ i j, P i j ∧ j < x ∧ x ≤ j + 3) = true then -1 else ck x
theorem eh_lk_n {P : Nat → Nat → Prop} {x : Nat} (h1 : ¬ ∃ j, P x j) (h2 : ¬ ∃ i, P i x) (h3 : ¬ ∃ i j, P i j ∧ j < x ∧ x ≤ j + 3) : eh_lk P ck x = ck x := by
  unfold eh_lk
  rw [eh_bf h1, eh_bf h2, eh_bf h3]; rfl
theorem eh_lk_0 {P : Nat → Nat → Prop} (h : ∀ a b, ¬ P a b) : eh_lk P ck = ck := by
  funext x
  exact eh_lk_n (fun ⟨j, z⟩ => h _ _ z) (fun ⟨j, z⟩ => h _ _ z) (fun ⟨i, j, z⟩ => h _ _ z.1)
theorem eh_lk_c {P P' : Nat → Nat → Prop} (h : ∀ a b, P' a b ↔ P a b) : eh_lk P' ck = eh_lk P ck := by
  have : P' = P := by
    funext a b
    exact propext (h a b)
  rw [this]
theorem eh_add {P P' : Nat → Nat → Prop} (sub : ∀ a b, P a b → eh_Lk S lv L a b) (hl : eh_Lk S lv L i j) (hP : ∀ a b, P' a b ↔ P a b ∨ (a = i ∧ b = j)) (x : Nat) :
    eh_lk P' ck x = if x = i then 4 else if x = j then 8 else if j < x ∧ x ≤ j + 3 then -1 else eh_lk P ck x := by
  have sub' : ∀ a b, P' a b → eh_Lk S lv L a b := fun a b h => by
    rcases (hP a b).mp h with z | ⟨z1, z2⟩
    · exact sub a b z
    · subst z1 z2; exact hl
  have hl' := hl
  obtain ⟨a1, a2, a3, a4, a5, a6, a7, a8, a9, a10⟩ := hl'
  by_cases e1 : x = i
  · subst e1
    rw [if_pos rfl]
    unfold eh_lk
    rw [eh_bt ⟨j, (hP x j).mpr (Or.inr ⟨rfl, rfl⟩)⟩]; rfl
  · rw [if_neg e1]
    by_cases e2 : x = j
    · subst e2
      rw [if_pos rfl]
      unfold eh_lk
      have n1 : ¬ ∃ b, P' x b := fun ⟨b, z⟩ => by
        have := (sub' _ _ z).2.2.2.1
        rw [a6] at this; exact absurd this (by decide)
      rw [eh_bf n1, eh_bt ⟨i, (hP i x).mpr (Or.inr ⟨rfl, rfl⟩)⟩]; rfl
    · rw [if_neg e2]
      by_cases e3 : j < x ∧ x ≤ j + 3
      · rw [if_pos e3]
        have sx : S x = 40 ∨ ea_al (S x) = true ∨ S x = 41 := by
          have : x = j + 1 ∨ x = j + 2 ∨ x = j + 3 := by omega
          rcases this with z | z | z
          · rw [z]; exact Or.inl a8
          · rw [z]; exact Or.inr (Or.inl a9)
          · rw [z]; exact Or.inr (Or.inr a10)
        have n1 : ¬ ∃ b, P' x b := fun ⟨b, z⟩ => by
          have q := (sub' _ _ z).2.2.2.1
          rw [q] at sx
          exact absurd sx (by decide)
        have n2 : ¬ ∃ a, P' a x := fun ⟨a, z⟩ => by
          have q := (sub' _ _ z).2.2.2.2.2.1
          rw [q] at sx
          exact absurd sx (by decide)
        unfold eh_lk
        rw [eh_bf n1, eh_bf n2, eh_bt ⟨i, j, (hP i j).mpr (Or.inr ⟨rfl, rfl⟩), e3⟩]; rfl
      · rw [if_neg e3]
        have p1 : (∃ b, P' x b) = (∃ b, P x b) := propext ⟨fun ⟨b, z⟩ => by
          rcases (hP _ _).mp z with z | z
          · exact ⟨b, z⟩
          · exact absurd z.1 e1, fun ⟨b, z⟩ => ⟨b, (hP _ _).mpr (Or.inl z)⟩⟩
        have p2 : (∃ a, P' a x) = (∃ a, P a x) := propext ⟨fun ⟨b, z⟩ => by
          rcases (hP _ _).mp z with z | z
          · exact ⟨b, z⟩
          · exact absurd z.2 e2, fun ⟨b, z⟩ => ⟨b, (hP _ _).mpr (Or.inl z)⟩⟩
        have p3 : (∃ a b, P' a b ∧ b < x ∧ x ≤ b + 3) = (∃ a b, P a b ∧ b < x ∧ x ≤ b + 3) := propext ⟨fun ⟨a, b, z, y⟩ => by
          rcases (hP _ _).mp z with z | z
          · exact ⟨a, b, z, y⟩
          · rw [z.2] at y; exact absurd y e3, fun ⟨a, b, z, y⟩ => ⟨a, b, (hP _ _).mpr (Or.inl z), y⟩⟩
        unfold eh_lk
        rw [p1, p2, p3]
/-- the links that close ahead of p -/
def eh_P (S lv : Nat → Int32) (L p a b : Nat) : Prop := eh_Lk S lv L a b ∧ b < p
theorem eh_P_s {p a b : Nat} (h : ¬ ∃ i, eh_Lk S lv L i p) : eh_P S lv L (p + 1) a b ↔ eh_P S lv L p a b := by
  constructor
  · intro ⟨h1, h2⟩
    refine ⟨h1, ?_⟩
    apply Decidable.byContradiction
    intro z
    have : b = p := by omega
    subst this
    exact h ⟨a, h1⟩
  · intro ⟨h1, h2⟩
    exact ⟨h1, by omega⟩
theorem eh_P_a {p o a b : Nat} (h : eh_Lk S lv L o p) : eh_P S lv L (p + 1) a b ↔ eh_P S lv L p a b ∨ (a = o ∧ b = p) := by
  constructor
  · intro ⟨h1, h2⟩
    by_cases z : b = p
    · subst z
      rcases eh_sep h1 h with y | y | y
      · exact Or.inr ⟨y.1, rfl⟩
      · have := h.1; omega
      · have := h1.1; omega
    · exact Or.inl ⟨h1, by omega⟩
  · intro h1
    rcases h1 with ⟨h1, h2⟩ | ⟨h1, h2⟩
    · exact ⟨h1, by omega⟩
    · subst h1 h2; exact ⟨h, by omega⟩
theorem eh_P_L {a b : Nat} : eh_P S lv L L a b ↔ eh_Lk S lv L a b := ⟨fun h => h.1, fun h => ⟨h, by have := h.2.1; omega⟩⟩
/-- a link's cells -/
def eh_tc (P : Nat → Nat → Prop) (x : Nat) : Prop := (∃ b, P x b) ∨ (∃ a, P a x) ∨ (∃ a b, P a b ∧ b < x ∧ x ≤ b + 3)
def eh_cv (P : Nat → Nat → Prop) (t : Nat) : Prop := ∃ a b, P a b ∧ a < t ∧ t ≤ b
theorem eh_lk_u {P : Nat → Nat → Prop} {x : Nat} (h : ¬ eh_tc P x) : eh_lk P ck x = ck x :=
  eh_lk_n (fun z => h (Or.inl z)) (fun z => h (Or.inr (Or.inl z))) (fun z => h (Or.inr (Or.inr z)))
theorem eh_lv {p : Nat} (I : ef_Inv S L L L ck lv) {x : Nat} (hx : x < L) (hl : ¬ lv x = 0) : lv x = 1 ∧ ck x = 0 ∧ eb_dp ck x = 0 := by
  rcases I.2.2.2.2.1 x hx with h | h
  · exact absurd h hl
  · exact h
theorem eh_lv1 (I : ef_Inv S L L L ck lv) {x : Nat} (hx : x + 1 < L) (hl : lv x = 1) (h1 : ¬ S (x + 1) = 92) (h2 : ¬ S (x + 1) = 96) : lv (x + 1) = 1 :=
  (I.2.2.2.2.2.2.2.2 x (by omega) hl).1 hx h1 h2
/-- a link's cells are live, and text so far -/
theorem eh_cells (I : ef_Inv S L L L ck lv) (h : eh_Lk S lv L i j) : lv i = 1 ∧ lv j = 1 ∧ ck i = 0 ∧ ck j = 0 ∧ eb_dp ck i = 0 ∧ eb_dp ck j = 0 ∧ ∀ x, j < x → x ≤ j + 3 → ck x = 0 := by
  obtain ⟨a1, a2, a3, a4, a5, a6, a7, a8, a9, a10⟩ := h
  have li := eh_lv (p := 0) I (by omega : i < L) a3
  have lj := eh_lv (p := 0) I (by omega : j < L) a5
  have l1 : lv (j + 1) = 1 := eh_lv1 I (by omega) lj.1 (by rw [a8]; decide) (by rw [a8]; decide)
  have l2 : lv (j + 2) = 1 := eh_lv1 I (x := j + 1) (by omega) l1 (fun z => by rw [show j + 1 + 1 = j + 2 from rfl] at z; rw [z] at a9; exact absurd a9 (by decide)) (fun z => by rw [show j + 1 + 1 = j + 2 from rfl] at z; rw [z] at a9; exact absurd a9 (by decide))
  have l3 : lv (j + 3) = 1 := eh_lv1 I (x := j + 2) (by omega) l2 (by rw [show j + 2 + 1 = j + 3 from rfl, a10]; decide) (by rw [show j + 2 + 1 = j + 3 from rfl, a10]; decide)
  refine ⟨li.1, lj.1, li.2.1, lj.2.1, li.2.2, lj.2.2, fun x h1 h2 => ?_⟩
  have : x = j + 1 ∨ x = j + 2 ∨ x = j + 3 := by omega
  rcases this with z | z | z <;> subst z
  · exact (eh_lv (p := 0) I (by omega) (by rw [l1]; decide)).2.1
  · exact (eh_lv (p := 0) I (by omega) (by rw [l2]; decide)).2.1
  · exact (eh_lv (p := 0) I (by omega) (by rw [l3]; decide)).2.1
theorem eh_cp (I : ef_Inv S L L L ck lv) : ∀ p, ee_CP (eh_lk (eh_P S lv L p) ck) L ∧ (∀ t, eb_dp (eh_lk (eh_P S lv L p) ck) t = eb_dp ck t + (if eh_b (eh_cv (eh_P S lv L p) t) = true then 1 else 0)) := by
  intro p
  induction p with
  | zero =>
    have n0 : ∀ a b, ¬ eh_P S lv L 0 a b := fun a b h => by have := h.2; omega
    rw [eh_lk_0 n0]
    refine ⟨I.2.2.2.2.2.2.1, fun t => ?_⟩
    rw [eh_bf (fun ⟨a, b, z, _⟩ => n0 a b z)]; rfl
  | succ p ih =>
    by_cases h : ∃ o, eh_Lk S lv L o p
    · obtain ⟨o, h⟩ := h
      have ad := eh_add (ck := ck) (P := eh_P S lv L p) (P' := eh_P S lv L (p + 1)) (fun a b z => z.1) h (fun a b => eh_P_a h)
      have ce := eh_cells I h
      have op := h.1
      have pl := h.2.1
      have far : ∀ a b, eh_P S lv L p a b → b + 3 < o := fun a b z => by
        rcases eh_sep z.1 h with y | y | y
        · have := z.2; omega
        · exact y
        · have := z.2
          have := z.1.1
          omega
      have un : ∀ x, o ≤ x → ¬ eh_tc (eh_P S lv L p) x := fun x hx z => by
        rcases z with ⟨b, z⟩ | ⟨a, z⟩ | ⟨a, b, z, y⟩
        · have := far _ _ z; have := z.1.1; omega
        · have := far _ _ z; omega
        · have := far _ _ z; omega
      have nc : ∀ t, o ≤ t → ¬ eh_cv (eh_P S lv L p) t := fun t ht ⟨a, b, z, y⟩ => by
        have := far _ _ z; omega
      have eo : eh_lk (eh_P S lv L p) ck o = 0 := (eh_lk_u (un o (Nat.le_refl _))).trans ce.2.2.1
      have ep : eh_lk (eh_P S lv L p) ck p = 0 := (eh_lk_u (un p (by omega))).trans ce.2.2.2.1
      have no : ee_nt (eh_lk (eh_P S lv L p) ck o) := by rw [eo]; exact ee_nt0
      have np : ee_nt (eh_lk (eh_P S lv L p) ck p) := by rw [ep]; exact ee_nt0
      have ho : eh_lk (eh_P S lv L (p + 1)) ck o = 4 := by rw [ad, if_pos rfl]
      have hp : eh_lk (eh_P S lv L (p + 1)) ck p = 4 + 4 := by rw [ad, if_neg (by omega), if_pos rfl]; decide
      have hs : ∀ x, x ≠ o → x ≠ p → eh_lk (eh_P S lv L (p + 1)) ck x = eh_lk (eh_P S lv L p) ck x ∨ (ee_nt (eh_lk (eh_P S lv L p) ck x) ∧ ee_nt (eh_lk (eh_P S lv L (p + 1)) ck x)) := fun x h1 h2 => by
        rw [ad x, if_neg h1, if_neg h2]
        by_cases z : p < x ∧ x ≤ p + 3
        · rw [if_pos z, eh_lk_u (un x (by omega)), ce.2.2.2.2.2.2 x z.1 z.2]
          exact Or.inr ⟨ee_nt0, ee_nt1⟩
        · rw [if_neg z]; exact Or.inl rfl
      have d0 : eb_dp (eh_lk (eh_P S lv L p) ck) o = 0 := by
        rw [ih.2, ce.2.2.2.2.1, eh_bf (nc o (Nat.le_refl _))]; rfl
      have dp0 : eb_dp (eh_lk (eh_P S lv L p) ck) p = 0 := by
        rw [ih.2, ce.2.2.2.2.2.1, eh_bf (nc p (by omega))]; rfl
      have dp := ee_ins_dp (k := 4) (by decide) (by omega : o < p) ho hp no np hs (fun x _ h2 h3 => ee_CP_1 ih.1 (by omega) h3)
      refine ⟨ee_ins_CP (k := 4) (by decide) (by omega : o < p) ho hp no np hs ih.1 (by omega) (by rw [d0, dp0]) (fun t _ _ => by rw [d0]; omega), fun t => ?_⟩
      rw [dp, ih.2]
      by_cases z : o < t ∧ t ≤ p
      · rw [if_pos z, eh_bf (nc t (by omega)), eh_bt ⟨o, p, (eh_P_a h).mpr (Or.inr ⟨rfl, rfl⟩), z⟩]; rfl
      · rw [if_neg z]
        have : eh_cv (eh_P S lv L (p + 1)) t = eh_cv (eh_P S lv L p) t := propext ⟨fun ⟨a, b, y, x⟩ => by
          rcases (eh_P_a h).mp y with y | y
          · exact ⟨a, b, y, x⟩
          · rw [y.1, y.2] at x; exact absurd x z, fun ⟨a, b, y, x⟩ => ⟨a, b, (eh_P_a h).mpr (Or.inl y), x⟩⟩
        rw [this]; omega
    · have e : eh_P S lv L (p + 1) = eh_P S lv L p := by
        funext a b
        exact propext (eh_P_s h)
      rw [e]; exact ih
end EH
end
section
/-! parse: links on both sides -/
def ei_G (P : Nat → Nat → Prop) (L : Nat) (g : Nat → Int32) (lc : Nat) (rk : Nat → Nat) : Prop :=
  (∀ a b x, P a b → a < x → x < b → g x = nI (rk a)) ∧ (∀ x, x < L → (¬ ∃ a b, P a b ∧ a < x ∧ x < b) → g x = 0) ∧
  (∀ a b, P a b → 1 ≤ rk a ∧ rk a ≤ lc) ∧ (∀ a b a' b', P a b → P a' b' → rk a = rk a' → a = a')
def ei_br (S lv : Nat → Int32) (t : Nat) : Prop := ¬ lv t = 0 ∧ (S t = 91 ∨ S t = 93)
def ei_O (S lv : Nat → Int32) (j : Nat) (x1 : Int32) : Prop :=
  (x1 = -1 ∧ ∀ o, o < j → ¬ lv o = 0 → S o = 91 → ∃ t, o < t ∧ t < j ∧ ei_br S lv t) ∨
  (∃ o, o < j ∧ x1 = nI o ∧ ¬ lv o = 0 ∧ S o = 91 ∧ ∀ t, o < t → t < j → ¬ ei_br S lv t)
theorem ei_Lk_br {S lv : Nat → Int32} {L i j : Nat} (h : eh_Lk S lv L i j) : ei_br S lv i ∧ ei_br S lv j ∧ ∀ t, i < t → t < j → ¬ ei_br S lv t := by
  obtain ⟨a1, a2, a3, a4, a5, a6, a7, a8, a9, a10⟩ := h
  refine ⟨⟨a3, Or.inl a4⟩, ⟨a5, Or.inr a6⟩, fun t h1 h2 ⟨h3, h4⟩ => ?_⟩
  rcases h4 with z | z
  · exact (a7 t h1 h2 h3).1 z
  · exact (a7 t h1 h2 h3).2 z
theorem ei_ck {f : Nat → Int32} {o j x : Nat} (ho : o < j) : (upd (upd (ee_fill f j (j + 4) (-1)) o 4) j 8) x = if x = o then 4 else if x = j then 8 else if j < x ∧ x ≤ j + 3 then -1 else f x := by
  by_cases e2 : x = j
  · subst e2; rw [ea_us, if_neg (by omega), if_pos rfl]
  · rw [ea_un e2]
    by_cases e1 : x = o
    · subst e1; rw [ea_us, if_pos rfl]
    · rw [ea_un e1, if_neg e1, if_neg e2]
      by_cases z : j < x ∧ x ≤ j + 3
      · rw [if_pos z, ee_fill_in (by omega) (by omega)]
      · rw [if_neg z, ee_fill_out (by omega)]
theorem ei_ck2 {f : Nat → Int32} {o j x : Nat} (ho : o < j) : (upd (upd (upd (upd (upd f o 4) j 8) (j + 1) (-1)) (j + 2) (-1)) (j + 3) (-1)) x = if x = o then 4 else if x = j then 8 else if j < x ∧ x ≤ j + 3 then -1 else f x := by
  by_cases e3 : x = j + 3
  · subst e3; rw [ea_us, if_neg (by omega), if_neg (by omega), if_pos (by omega)]
  · rw [ea_un e3]
    by_cases e4 : x = j + 2
    · subst e4; rw [ea_us, if_neg (by omega), if_neg (by omega), if_pos (by omega)]
    · rw [ea_un e4]
      by_cases e5 : x = j + 1
      · subst e5; rw [ea_us, if_neg (by omega), if_neg (by omega), if_pos (by omega)]
      · rw [ea_un e5]
        by_cases e2 : x = j
        · subst e2; rw [ea_us, if_neg (by omega), if_pos rfl]
        · rw [ea_un e2]
          by_cases e1 : x = o
          · subst e1; rw [ea_us, if_pos rfl]
          · rw [ea_un e1, if_neg e1, if_neg e2, if_neg (by omega)]
/-- one more link in X's groups -/
theorem ei_G_a {P P' : Nat → Nat → Prop} {S lv : Nat → Int32} {L o j lc : Nat} {g : Nat → Int32} {rk : Nat → Nat} (sub : ∀ a b, P a b → eh_Lk S lv L a b) (hl : eh_Lk S lv L o j) (hno : ¬ P o j)
    (hP : ∀ a b, P' a b ↔ P a b ∨ (a = o ∧ b = j)) (G : ei_G P L g lc rk) : ei_G P' L (ee_fill g (o + 1) j (nI (lc + 1))) (lc + 1) (fun a => if a = o then lc + 1 else rk a) := by
  obtain ⟨g1, g2, g3, g4⟩ := G
  have far : ∀ a b, P a b → (a ≠ o) ∧ (b + 3 < o ∨ j + 3 < a) := fun a b h => by
    rcases eh_sep (sub a b h) hl with z | z | z
    · exfalso; rw [z.1, z.2] at h; exact hno h
    · have := (sub a b h).1; exact ⟨by omega, Or.inl z⟩
    · have := hl.1; exact ⟨by omega, Or.inr z⟩
  refine ⟨fun a b x h h1 h2 => ?_, fun x hx hn => ?_, fun a b h => ?_, fun a b a' b' h h' e => ?_⟩
  · rcases (hP a b).mp h with z | ⟨z1, z2⟩
    · have := far a b z
      dsimp only
      rw [if_neg this.1, ee_fill_out (by omega)]
      exact g1 a b x z h1 h2
    · subst z1 z2
      dsimp only
      rw [if_pos rfl, ee_fill_in (by omega) h2]
  · have n1 : ¬ (o + 1 ≤ x ∧ x < j) := fun z => hn ⟨o, j, (hP o j).mpr (Or.inr ⟨rfl, rfl⟩), by omega, z.2⟩
    rw [ee_fill_out (by omega)]
    exact g2 x hx (fun ⟨a, b, z, y⟩ => hn ⟨a, b, (hP a b).mpr (Or.inl z), y⟩)
  · dsimp only
    rcases (hP a b).mp h with z | ⟨z1, z2⟩
    · rw [if_neg (far a b z).1]
      have := g3 a b z
      omega
    · subst z1; rw [if_pos rfl]; omega
  · dsimp only at e
    rcases (hP a b).mp h with z | ⟨z1, z2⟩
    · rw [if_neg (far a b z).1] at e
      have := g3 a b z
      rcases (hP a' b').mp h' with y | ⟨y1, y2⟩
      · rw [if_neg (far a' b' y).1] at e
        exact g4 a b a' b' z y e
      · subst y1; rw [if_pos rfl] at e; omega
    · subst z1
      rw [if_pos rfl] at e
      rcases (hP a' b').mp h' with y | ⟨y1, y2⟩
      · rw [if_neg (far a' b' y).1] at e
        have := g3 a' b' y
        omega
      · exact y1.symm
def ei_GY (P : Nat → Nat → Prop) (L : Nat) (g : Nat → Int32) : Prop :=
  (∀ a b x, P a b → a < x → x < b → g x = nI a) ∧ (∀ x, x < L → (¬ ∃ a b, P a b ∧ a < x ∧ x < b) → g x = -1)
theorem ei_GY_a {P P' : Nat → Nat → Prop} {S lv : Nat → Int32} {L o j : Nat} {g : Nat → Int32} (sub : ∀ a b, P a b → eh_Lk S lv L a b) (hl : eh_Lk S lv L o j) (hno : ¬ P o j)
    (hP : ∀ a b, P' a b ↔ P a b ∨ (a = o ∧ b = j)) (G : ei_GY P L g) : ei_GY P' L (ee_fill g (o + 1) j (nI o)) := by
  obtain ⟨g1, g2⟩ := G
  have far : ∀ a b, P a b → (a ≠ o) ∧ (b + 3 < o ∨ j + 3 < a) := fun a b h => by
    rcases eh_sep (sub a b h) hl with z | z | z
    · exfalso; rw [z.1, z.2] at h; exact hno h
    · have := (sub a b h).1; exact ⟨by omega, Or.inl z⟩
    · have := hl.1; exact ⟨by omega, Or.inr z⟩
  refine ⟨fun a b x h h1 h2 => ?_, fun x hx hn => ?_⟩
  · rcases (hP a b).mp h with z | ⟨z1, z2⟩
    · have := far a b z
      rw [ee_fill_out (by omega)]
      exact g1 a b x z h1 h2
    · subst z1 z2
      rw [ee_fill_in (by omega) h2]
  · have n1 : ¬ (o + 1 ≤ x ∧ x < j) := fun z => hn ⟨o, j, (hP o j).mpr (Or.inr ⟨rfl, rfl⟩), by omega, z.2⟩
    rw [ee_fill_out (by omega)]
    exact g2 x hx (fun ⟨a, b, z, y⟩ => hn ⟨a, b, (hP a b).mpr (Or.inl z), y⟩)
section EI
variable {f_cap f_count f_depth f_runCount f_openerCount f_nodes f_domain : Int32} {a_kinds a_chars a_mate a_openStack a_group a_runLo a_runHi a_runChar a_runSize a_runGroup a_runOpens a_runCloses a_openers a_floors a_start a_width a_out a_nodeOf a_clash : Nat → Int32} {L : Nat} {S lv ck : Nat → Int32}
theorem ei_xmk {post : SX → Prop} {o j lc : Nat} (hL : L ≤ 64) (hoj : o + 1 < j) (hj : j + 3 < L) (h : post (f_cap, (nI L), f_count, f_depth, (nI (lc + 1)), f_runCount, f_openerCount, f_nodes, f_domain, S, a_kinds, a_chars, a_mate, a_openStack, (upd (upd (ee_fill ck j (j + 4) (-1)) o 4) j 8), (ee_fill a_group (o + 1) j (nI (lc + 1))), lv, a_runLo, a_runHi, a_runChar, a_runSize, a_runGroup, a_runOpens, a_runCloses, a_openers, a_floors, a_start, a_width, a_out, a_nodeOf, a_clash)) : wpX_makeLink post (f_cap, (nI L), f_count, f_depth, (nI lc), f_runCount, f_openerCount, f_nodes, f_domain, S, a_kinds, a_chars, a_mate, a_openStack, ck, a_group, lv, a_runLo, a_runHi, a_runChar, a_runSize, a_runGroup, a_runOpens, a_runCloses, a_openers, a_floors, a_start, a_width, a_out, a_nodeOf, a_clash) (nI o) (nI j) := by
  have key : ∀ d k n, k + d = j → o + 1 ≤ k → d < n → wX_makeLink_14 post (nI o) (nI j) f_cap (nI L) f_count f_depth (nI (lc + 1)) f_runCount f_openerCount f_nodes f_domain n (nI k) S a_kinds a_chars a_mate a_openStack ck (ee_fill a_group (o + 1) k (nI (lc + 1))) lv a_runLo a_runHi a_runChar a_runSize a_runGroup a_runOpens a_runCloses a_openers a_floors a_start a_width a_out a_nodeOf a_clash := by
    intro d
    induction d with
    | zero =>
      intro k n h1 h2 h3
      obtain ⟨n, rfl⟩ : ∃ z, n = z + 1 := ⟨n - 1, by omega⟩
      have e : k = j := by omega
      subst e
      refine br_t (nI_le (Nat.le_refl _) (by omega)) ?_
      rw [ea_4]
      refine ef_xhide (by omega) (by omega) hL ?_
      exact ⟨vp_in_nI (by omega) (by omega), nm_r (e' := upd (ee_fill ck k (k + 4) (-1)) o 4) (by rw [nI_clamp (by omega : o < 2 ^ 31)]) ⟨vp_in_nI (by omega) (by omega), nm_r (e' := upd (upd (ee_fill ck k (k + 4) (-1)) o 4) k 8) (by rw [nI_clamp (by omega : k < 2 ^ 31)]) h⟩⟩
    | succ d ih =>
      intro k n h1 h2 h3
      obtain ⟨n, rfl⟩ : ∃ z, n = z + 1 := ⟨n - 1, by omega⟩
      exact br_f (nI_ge (by omega) (by omega)) ⟨vp_in_nI (by omega) (by omega), nm_r (e' := ee_fill a_group (o + 1) (k + 1) (nI (lc + 1))) (by rw [nI_clamp (by omega : k < 2 ^ 31)]; exact ee_fill_s h2) (nm_r (nI_1 k) (ih (k + 1) n (by omega) (by omega) (by omega)))⟩
  refine nm_r (nI_1 lc) (nm_r (nI_1 o) ⟨j - (o + 1) + 1, ?_⟩)
  have q := key (j - (o + 1)) (o + 1) (j - (o + 1) + 1) (by omega) (by omega) (by omega)
  rw [ee_fill_0] at q
  exact q
def ei_T (S : Nat → Int32) (L j : Nat) : Prop := j + 3 < L ∧ S (j + 1) = 40 ∧ ea_al (S (j + 2)) = true ∧ S (j + 3) = 41
theorem ei_xht {post : Int32 → Prop} {j : Nat} {f_linkCount : Int32} (hL : L ≤ 64) (hj : j < L) (h1 : ei_T S L j → post 1) (h0 : ¬ ei_T S L j → post 0) : wpX_hasTarget post (f_cap, (nI L), f_count, f_depth, f_linkCount, f_runCount, f_openerCount, f_nodes, f_domain, S, a_kinds, a_chars, a_mate, a_openStack, ck, a_group, lv, a_runLo, a_runHi, a_runChar, a_runSize, a_runGroup, a_runOpens, a_runCloses, a_openers, a_floors, a_start, a_width, a_out, a_nodeOf, a_clash) (nI j) := by
  unfold wpX_hasTarget
  dsimp only
  rw [nI_1, ea_2, ea_3, nI_clamp (by omega : j + 1 < 2 ^ 31), nI_clamp (by omega : j + 2 < 2 ^ 31), nI_clamp (by omega : j + 3 < 2 ^ 31)]
  refine pk_le L (j + 3) (fun z => h0 (fun t => by have := t.1; omega)) (fun z => ⟨vp_in_nI (by omega) (by omega), br_c (fun a => ⟨vp_in_nI (by omega) (by omega), ea_xal (ea_br (fun b => h0 (fun t => ?_)) (fun b => ⟨vp_in_nI (by omega) (by omega), br_c (fun d => h1 ⟨z, a, b, d⟩) (fun d => h0 (fun t => d t.2.2.2))⟩))⟩) (fun a => h0 (fun t => a t.2.1))⟩)
  rw [t.2.2.1] at b; exact absurd b (by decide)
theorem ei_xlinks {post : SX → Prop} (hL : L ≤ 64) (I : ef_Inv S L L L ck lv) (hg : ∀ x, x < L → a_group x = 0)
    (h : ∀ (g : Nat → Int32) (lc : Nat) (rk : Nat → Nat), lc ≤ L → ei_G (eh_Lk S lv L) L g lc rk → post (f_cap, (nI L), f_count, f_depth, (nI lc), f_runCount, f_openerCount, f_nodes, f_domain, S, a_kinds, a_chars, a_mate, a_openStack, (eh_lk (eh_Lk S lv L) ck), g, lv, a_runLo, a_runHi, a_runChar, a_runSize, a_runGroup, a_runOpens, a_runCloses, a_openers, a_floors, a_start, a_width, a_out, a_nodeOf, a_clash)) :
    wpX_findLinks post (f_cap, (nI L), f_count, f_depth, 0, f_runCount, f_openerCount, f_nodes, f_domain, S, a_kinds, a_chars, a_mate, a_openStack, ck, a_group, lv, a_runLo, a_runHi, a_runChar, a_runSize, a_runGroup, a_runOpens, a_runCloses, a_openers, a_floors, a_start, a_width, a_out, a_nodeOf, a_clash) := by
  have key : ∀ d j n x1 (g : Nat → Int32) lc rk, j + d = L → d < n → ei_G (eh_P S lv L j) L g lc rk → lc ≤ j → ei_O S lv j x1 → wX_findLinks_4 post n x1 (nI j) f_cap (nI L) f_count f_depth (nI lc) f_runCount f_openerCount f_nodes f_domain S a_kinds a_chars a_mate a_openStack (eh_lk (eh_P S lv L j) ck) g lv a_runLo a_runHi a_runChar a_runSize a_runGroup a_runOpens a_runCloses a_openers a_floors a_start a_width a_out a_nodeOf a_clash := by
    intro d
    induction d with
    | zero =>
      intro j n x1 g lc rk h1 h2 h3 h4 h5
      obtain ⟨n, rfl⟩ : ∃ z, n = z + 1 := ⟨n - 1, by omega⟩
      have e : j = L := by omega
      subst e
      have eP : eh_P S lv j j = eh_Lk S lv j := by
        funext a b
        exact propext eh_P_L
      rw [eP] at h3 ⊢
      exact br_t (nI_le (Nat.le_refl _) (by omega)) (h g lc rk h4 h3)
    | succ d ih =>
      intro j n x1 g lc rk h1 h2 h3 h4 h5
      obtain ⟨n, rfl⟩ : ∃ z, n = z + 1 := ⟨n - 1, by omega⟩
      have e : (nI j).toNatClampNeg = j := nI_clamp (by omega)
      have w : vp_in (nI j) 64 := vp_in_nI (by omega) (by omega)
      have same : (¬ ∃ i, eh_Lk S lv L i j) → ∀ x, ei_O S lv (j + 1) x → wX_findLinks_4 post n x (nI (j + 1)) f_cap (nI L) f_count f_depth (nI lc) f_runCount f_openerCount f_nodes f_domain S a_kinds a_chars a_mate a_openStack (eh_lk (eh_P S lv L j) ck) g lv a_runLo a_runHi a_runChar a_runSize a_runGroup a_runOpens a_runCloses a_openers a_floors a_start a_width a_out a_nodeOf a_clash := by
        intro hn x hx
        have eP : eh_P S lv L (j + 1) = eh_P S lv L j := by
          funext a b
          exact propext (eh_P_s hn)
        have q := ih (j + 1) n x g lc rk (by omega) (by omega) (by rw [eP]; exact h3) (by omega) hx
        rw [eP] at q
        exact q
      have keep : ¬ ei_br S lv j → ei_O S lv (j + 1) x1 := by
        intro nb
        rcases h5 with ⟨a, b⟩ | ⟨o, a, b, c1, c2, c3⟩
        · refine Or.inl ⟨a, fun o h6 h7 h8 => ?_⟩
          by_cases z : o = j
          · subst z; exact absurd ⟨h7, Or.inl h8⟩ nb
          · obtain ⟨t, t1, t2, t3⟩ := b o (by omega) h7 h8
            exact ⟨t, t1, by omega, t3⟩
        · refine Or.inr ⟨o, by omega, b, c1, c2, fun t h6 h7 => ?_⟩
          by_cases z : t = j
          · subst z; exact nb
          · exact c3 t h6 (by omega)
      have cl : ei_br S lv j → ¬ S j = 91 → ei_O S lv (j + 1) (-1) := by
        intro hb hs
        refine Or.inl ⟨rfl, fun o h6 h7 h8 => ⟨j, ?_, by omega, hb⟩⟩
        by_cases z : o = j
        · subst z; exact absurd h8 hs
        · omega
      refine br_f (nI_ge (by omega) (by omega)) ⟨w, ?_⟩
      rw [e]
      refine br_c (fun z => nm_r (nI_1 j) (same (fun ⟨i, l⟩ => l.2.2.2.2.1 z) x1 (keep (fun b => b.1 z)))) (fun z => ⟨w, br_c (fun y => ?_) (fun y => ⟨w, br_c (fun x => ?_) (fun x => ?_)⟩)⟩)
      · refine nm_r (nI_1 j) (same (fun ⟨i, l⟩ => by have := l.2.2.2.2.2.1; rw [y] at this; exact absurd this (by decide)) (nI j) (Or.inr ⟨j, by omega, rfl, z, y, fun t h6 h7 => by omega⟩))
      · have hb : ei_br S lv j := ⟨z, Or.inr x⟩
        rcases h5 with ⟨a, b⟩ | ⟨o, a, b, c1, c2, c3⟩
        · rw [a]
          refine br_t (by decide) (nm_r (nI_1 j) (same (fun ⟨i, l⟩ => ?_) (-1) (cl hb y)))
          obtain ⟨t, t1, t2, t3⟩ := b i (by have := l.1; omega) l.2.2.1 l.2.2.2.1
          exact (ei_Lk_br l).2.2 t t1 t2 t3
        · rw [b]
          have uq : ∀ i, eh_Lk S lv L i j → i = o := fun i l => by
            have hb := ei_Lk_br l
            rcases Nat.lt_trichotomy i o with w | w | w
            · exact absurd ⟨c1, Or.inl c2⟩ (hb.2.2 o w a)
            · exact w
            · exact absurd hb.1 (c3 i w (by have := l.1; omega))
          refine br_f (nI_pos (by omega)) ?_
          rw [nI_1 o]
          refine pk_le j (o + 1) (fun v => nm_r (nI_1 j) (same (fun ⟨i, l⟩ => ?_) (-1) (cl hb y))) (fun v => ei_xht hL (by omega) (fun t => ?_) (fun t => ?_))
          · have := uq i l
            have := l.1
            omega
          · have l : eh_Lk S lv L o j := ⟨v, t.1, c1, c2, z, x, fun q h6 h7 h8 => ⟨fun h9 => c3 q h6 h7 ⟨h8, Or.inl h9⟩, fun h9 => c3 q h6 h7 ⟨h8, Or.inr h9⟩⟩, t.2.1, t.2.2.1, t.2.2.2⟩
            refine br_f (by decide) (ei_xmk hL v t.1 (nm_r (nI_1 j) ?_))
            have q := ih (j + 1) n (-1) _ (lc + 1) _ (by omega) (by omega) (ei_G_a (P := eh_P S lv L j) (fun a b z => z.1) l (fun z => by have := z.2; omega) (fun a b => eh_P_a l) h3) (by omega) (cl hb y)
            have ec : upd (upd (ee_fill (eh_lk (eh_P S lv L j) ck) j (j + 4) (-1)) o 4) j 8 = eh_lk (eh_P S lv L (j + 1)) ck := by
              funext x
              rw [ei_ck a, eh_add (ck := ck) (P := eh_P S lv L j) (P' := eh_P S lv L (j + 1)) (fun a b z => z.1) l (fun a b => eh_P_a l)]
            rw [← ec] at q
            exact q
          · refine br_t rfl (nm_r (nI_1 j) (same (fun ⟨i, l⟩ => t ⟨l.2.1, l.2.2.2.2.2.2.2⟩) (-1) (cl hb y)))
      · refine nm_r (nI_1 j) (same (fun ⟨i, l⟩ => x l.2.2.2.2.2.1) x1 (keep (fun b => ?_)))
        rcases b.2 with q | q
        · exact y q
        · exact x q
  have n0 : ∀ a b, ¬ eh_P S lv L 0 a b := fun a b h => by have := h.2; omega
  have q := key L 0 (L + 1) (-1) a_group 0 (fun _ => 0) (by omega) (by omega) ⟨fun a b x z => absurd z (n0 a b), fun x hx _ => hg x hx, fun a b z => absurd z (n0 a b), fun a b a' b' z => absurd z (n0 a b)⟩ (by omega) (Or.inl ⟨rfl, fun o ho => by omega⟩)
  rw [eh_lk_0 n0] at q
  exact ⟨_, q⟩
end EI
section EJ
variable {g_limit g_count : Int32} {b_kinds b_chars b_pos b_till b_mark b_group b_flag b_len b_lo b_hi b_dropped : Nat → Int32} {L : Nat} {S W lv ck : Nat → Int32}
def ei_Q (S lv : Nat → Int32) (L p a b : Nat) : Prop := eh_Lk S lv L a b ∧ a < p
def ei_NB (S lv : Nat → Int32) (L k : Nat) (x : Int32) : Prop :=
  (x = -1 ∧ ∀ t, k < t → t < L → ¬ ei_br S lv t) ∨ (∃ j, x = nI j ∧ k < j ∧ j < L ∧ ei_br S lv j ∧ ∀ t, k < t → t < j → ¬ ei_br S lv t)
theorem ei_yat {P : Int32 → Prop} {k : Nat} (hL : L ≤ 64) (hk : k < 2 ^ 30) (h : P (if k < L then W k else 32)) : wpY_at P (g_limit, (nI L), g_count, (nI L), S, b_kinds, b_chars, W, b_pos, b_till, b_mark, ck, b_group, b_flag, b_len, b_lo, b_hi, lv, b_dropped) (nI k) := by
  by_cases z : k < L
  · rw [if_pos z] at h; exact ea_yat (by omega) z h
  · rw [if_neg z] at h; exact ea_yat2 (by omega) (by omega) (by omega) h
theorem ei_ylk {post : SY → Prop} {J : Int32 → (Nat → Int32) → (Nat → Int32) → (Nat → Int32) → (Nat → Int32) → (Nat → Int32) → (Nat → Int32) → (Nat → Int32) → (Nat → Int32) → (Nat → Int32) → (Nat → Int32) → (Nat → Int32) → (Nat → Int32) → (Nat → Int32) → (Nat → Int32) → (Nat → Int32) → Prop} {i j : Nat} (hL : L ≤ 64) (hij : i + 1 < j) (hj : j + 3 < L)
    (h : J (nI (i + 1)) S b_kinds b_chars W b_pos b_till b_mark (upd (upd (upd (upd (upd ck i 4) j 8) (j + 1) (-1)) (j + 2) (-1)) (j + 3) (-1)) (ee_fill b_group (i + 1) j (nI i)) b_flag b_len b_lo b_hi lv b_dropped) :
    ∃ m, wY_links_157 post J (nI i) (nI j) g_limit (nI L) g_count (nI L) m (nI (i + 1)) S b_kinds b_chars W b_pos b_till b_mark ck b_group b_flag b_len b_lo b_hi lv b_dropped := by
  have key : ∀ d k m, k + d = j → i + 1 ≤ k → d < m → wY_links_157 post J (nI i) (nI j) g_limit (nI L) g_count (nI L) m (nI k) S b_kinds b_chars W b_pos b_till b_mark ck (ee_fill b_group (i + 1) k (nI i)) b_flag b_len b_lo b_hi lv b_dropped := by
    intro d
    induction d with
    | zero =>
      intro k m h1 h2 h3
      obtain ⟨m, rfl⟩ : ∃ z, m = z + 1 := ⟨m - 1, by omega⟩
      have e : k = j := by omega
      subst e
      refine br_t (nI_le (Nat.le_refl _) (by omega)) ?_
      rw [nI_1 k, ea_2 k, ea_3 k, nI_clamp (by omega : i < 2 ^ 31), nI_clamp (by omega : k < 2 ^ 31), nI_clamp (by omega : k + 1 < 2 ^ 31), nI_clamp (by omega : k + 2 < 2 ^ 31), nI_clamp (by omega : k + 3 < 2 ^ 31)]
      exact ⟨vp_in_nI (by omega) (by omega), nm_e ⟨vp_in_nI (by omega) (by omega), nm_e ⟨vp_in_nI (by omega) (by omega), nm_e ⟨vp_in_nI (by omega) (by omega), nm_e ⟨vp_in_nI (by omega) (by omega), nm_e (nm_r (nI_1 i) h)⟩⟩⟩⟩⟩
    | succ d ih =>
      intro k m h1 h2 h3
      obtain ⟨m, rfl⟩ : ∃ z, m = z + 1 := ⟨m - 1, by omega⟩
      exact br_f (nI_ge (by omega) (by omega)) ⟨vp_in_nI (by omega) (by omega), nm_r (e' := ee_fill b_group (i + 1) (k + 1) (nI i)) (by rw [nI_clamp (by omega : k < 2 ^ 31)]; exact ee_fill_s h2) (nm_r (nI_1 k) (ih (k + 1) m (by omega) (by omega) (by omega)))⟩
  have q := key (j - (i + 1)) (i + 1) (j - (i + 1) + 1) (by omega) (by omega) (by omega)
  rw [ee_fill_0] at q
  exact ⟨_, q⟩
theorem ei_ynb {post : SY → Prop} {J : Int32 → (Nat → Int32) → (Nat → Int32) → (Nat → Int32) → (Nat → Int32) → (Nat → Int32) → (Nat → Int32) → (Nat → Int32) → (Nat → Int32) → (Nat → Int32) → (Nat → Int32) → (Nat → Int32) → (Nat → Int32) → (Nat → Int32) → (Nat → Int32) → (Nat → Int32) → Prop} {i : Nat} (hL : L ≤ 64) (hi : i < L) (hW : ∀ x, x < L → W x = S x)
    (h0 : (¬ ∃ j, eh_Lk S lv L i j) → J (nI (i + 1)) S b_kinds b_chars W b_pos b_till b_mark ck b_group b_flag b_len b_lo b_hi lv b_dropped)
    (h1 : ∀ j, eh_Lk S lv L i j → J (nI (i + 1)) S b_kinds b_chars W b_pos b_till b_mark (upd (upd (upd (upd (upd ck i 4) j 8) (j + 1) (-1)) (j + 2) (-1)) (j + 3) (-1)) (ee_fill b_group (i + 1) j (nI i)) b_flag b_len b_lo b_hi lv b_dropped) :
    ∃ m, wY_links_19 post J (nI i) g_limit (nI L) g_count (nI L) S b_kinds b_chars W b_pos b_till b_mark ck b_group b_flag b_len b_lo b_hi lv b_dropped m (-1) (nI L - 1) := by
  have e : (nI i).toNatClampNeg = i := nI_clamp (by omega)
  have w : vp_in (nI i) 64 := vp_in_nI (by omega) (by omega)
  have key : ∀ d k m x, k = i + d → k < L → d < m → ei_NB S lv L k x → wY_links_19 post J (nI i) g_limit (nI L) g_count (nI L) S b_kinds b_chars W b_pos b_till b_mark ck b_group b_flag b_len b_lo b_hi lv b_dropped m x (nI k) := by
    intro d
    induction d with
    | zero =>
      intro k m x h2 h3 h4 h5
      obtain ⟨m, rfl⟩ : ∃ z, m = z + 1 := ⟨m - 1, by omega⟩
      have ek : k = i := by omega
      subst ek
      refine br_t (nI_le (Nat.le_refl _) (by omega)) ?_
      rcases h5 with ⟨a, b⟩ | ⟨j, a, b1, b2, b3, b4⟩
      · subst a
        have no : ¬ ∃ j, eh_Lk S lv L k j := fun ⟨j, l⟩ => b j (by have := l.1; omega) (by have := l.2.1; omega) (ei_Lk_br l).2.1
        refine ei_yat (k := 0) hL (by omega) (ei_yat (k := 1) hL (by omega) (ei_yat (k := 2) hL (by omega) ⟨w, ?_⟩))
        rw [e]
        refine br_c (fun z => nm_r (nI_1 k) (h0 no)) (fun z => ⟨w, br_c (fun y => ?_) (fun y => nm_r (nI_1 k) (h0 no))⟩)
        refine br_t ?_ (nm_r (nI_1 k) (h0 no))
        rw [nI_1]
        exact Int32.le_trans (by decide : (-1 : Int32) ≤ 0) (ea_0le (by omega))
      · subst a
        have uq : ∀ j', eh_Lk S lv L k j' → j' = j := fun j' l => by
          have hb := ei_Lk_br l
          rcases Nat.lt_trichotomy j' j with v | v | v
          · exact absurd hb.2.1 (b4 j' (by have := l.1; omega) v)
          · exact v
          · exact absurd b3 (hb.2.2 j b1 v)
        rw [nI_1 j, ea_2 j, ea_3 j, nI_1 k]
        refine ei_yat hL (by omega) (ei_yat hL (by omega) (ei_yat hL (by omega) ⟨w, ?_⟩))
        rw [e, nI_clamp (by omega : j < 2 ^ 31)]
        have nx : (¬ eh_Lk S lv L k j) → J (nI (k + 1)) S b_kinds b_chars W b_pos b_till b_mark ck b_group b_flag b_len b_lo b_hi lv b_dropped := fun nl => h0 (fun ⟨j', l⟩ => nl (by rw [← uq j' l]; exact l))
        refine br_c (fun z => nm_e (nx (fun l => l.2.2.1 z))) (fun z => ⟨w, br_c (fun y => ?_) (fun y => nm_e (nx (fun l => y l.2.2.2.1)))⟩)
        refine pk_le j (k + 1) (fun v => nm_e (nx (fun l => by have := l.1; omega))) (fun v => ⟨vp_in_nI (by omega) (by omega), br_c (fun u => ?_) (fun u => nm_e (nx (fun l => u l.2.2.2.2.2.1)))⟩)
        refine br_c (fun t => ?_) (fun t => nm_e (nx (fun l => t ?_)))
        · refine ea_yal (ea_br (fun s => nm_e (nx (fun l => ?_))) (fun s => br_c (fun r => nm_e ?_) (fun r => nm_e (nx (fun l => r ?_)))))
          · have q := l.2.1
            rw [if_pos (by omega), hW _ (by omega), l.2.2.2.2.2.2.2.2.1] at s
            exact absurd s (by decide)
          · have j3 : j + 3 < L := by
              apply Decidable.byContradiction
              intro q
              rw [if_neg q] at r
              exact absurd r (by decide)
            rw [if_pos (by omega), hW _ (by omega)] at r s t
            refine ei_ylk hL v j3 (h1 j ⟨v, j3, z, y, b3.1, u, fun q q1 q2 q3 => ⟨fun q4 => b4 q q1 q2 ⟨q3, Or.inl q4⟩, fun q4 => b4 q q1 q2 ⟨q3, Or.inr q4⟩⟩, t, s, r⟩)
          · have q := l.2.1
            rw [if_pos (by omega), hW _ (by omega)]
            exact l.2.2.2.2.2.2.2.2.2
        · have q := l.2.1
          rw [if_pos (by omega), hW _ (by omega)]
          exact l.2.2.2.2.2.2.2.1
    | succ d ih =>
      intro k m x h2 h3 h4 h5
      obtain ⟨m, rfl⟩ : ∃ z, m = z + 1 := ⟨m - 1, by omega⟩
      obtain ⟨k, rfl⟩ : ∃ z, k = z + 1 := ⟨k - 1, by omega⟩
      have e : (nI (k + 1)).toNatClampNeg = k + 1 := nI_clamp (by omega)
      have w : vp_in (nI (k + 1)) 64 := vp_in_nI (by omega) (by omega)
      have keep : ¬ ei_br S lv (k + 1) → ei_NB S lv L k x := by
        intro nb
        rcases h5 with ⟨a, b⟩ | ⟨j, a, b1, b2, b3, b4⟩
        · refine Or.inl ⟨a, fun t t1 t2 => ?_⟩
          by_cases z : t = k + 1
          · subst z; exact nb
          · exact b t (by omega) t2
        · refine Or.inr ⟨j, a, by omega, b2, b3, fun t t1 t2 => ?_⟩
          by_cases z : t = k + 1
          · subst z; exact nb
          · exact b4 t (by omega) t2
      have put : ei_br S lv (k + 1) → ei_NB S lv L k (nI (k + 1)) := fun hb => Or.inr ⟨k + 1, rfl, by omega, h3, hb, fun t t1 t2 => by omega⟩
      refine br_f (nI_ge (by omega) (by omega)) ⟨w, ?_⟩
      rw [e]
      refine br_c (fun z => nm_r (pk_m1 k) (ih k m x (by omega) (by omega) (by omega) (keep (fun b => b.1 z)))) (fun z => ⟨w, br_c (fun y => nm_r (pk_m1 k) (ih k m _ (by omega) (by omega) (by omega) (put ⟨z, Or.inl y⟩))) (fun y => ⟨w, br_c (fun x' => nm_r (pk_m1 k) (ih k m _ (by omega) (by omega) (by omega) (put ⟨z, Or.inr x'⟩))) (fun x' => nm_r (pk_m1 k) (ih k m x (by omega) (by omega) (by omega) (keep (fun b => ?_))))⟩)⟩)
      rcases b.2 with q | q
      · exact y q
      · exact x' q
  rw [ea_s (by omega : 0 < L)]
  exact ⟨_, key (L - 1 - i) (L - 1) (L - 1 - i + 1) (-1) (by omega) (by omega) (by omega) (Or.inl ⟨rfl, fun t t1 t2 => by omega⟩)⟩
theorem ei_ylinks {post : SY → Prop} (hL : L ≤ 64) (hW : ∀ x, x < L → W x = S x) (hg : ∀ x, x < L → b_group x = -1)
    (h : ∀ g : Nat → Int32, ei_GY (eh_Lk S lv L) L g → post (g_limit, (nI L), g_count, (nI L), S, b_kinds, b_chars, W, b_pos, b_till, b_mark, (eh_lk (eh_Lk S lv L) ck), g, b_flag, b_len, b_lo, b_hi, lv, b_dropped)) :
    wpY_links post (g_limit, (nI L), g_count, (nI L), S, b_kinds, b_chars, W, b_pos, b_till, b_mark, ck, b_group, b_flag, b_len, b_lo, b_hi, lv, b_dropped) := by
  have key : ∀ d i n (g : Nat → Int32), i + d = L → d < n → ei_GY (ei_Q S lv L i) L g → wY_links_2 post g_limit (nI L) g_count (nI L) n (nI i) S b_kinds b_chars W b_pos b_till b_mark (eh_lk (ei_Q S lv L i) ck) g b_flag b_len b_lo b_hi lv b_dropped := by
    intro d
    induction d with
    | zero =>
      intro i n g h1 h2 h3
      obtain ⟨n, rfl⟩ : ∃ z, n = z + 1 := ⟨n - 1, by omega⟩
      have e : i = L := by omega
      subst e
      have eP : ei_Q S lv i i = eh_Lk S lv i := by
        funext a b
        exact propext ⟨fun h => h.1, fun h => ⟨h, by have := h.2.1; have := h.1; omega⟩⟩
      rw [eP] at h3 ⊢
      exact br_t (nI_le (Nat.le_refl _) (by omega)) (h g h3)
    | succ d ih =>
      intro i n g h1 h2 h3
      obtain ⟨n, rfl⟩ : ∃ z, n = z + 1 := ⟨n - 1, by omega⟩
      refine br_f (nI_ge (by omega) (by omega)) (nm_e (ei_ynb hL (by omega) hW (fun hn => ?_) (fun j l => ?_)))
      · have eP : ei_Q S lv L (i + 1) = ei_Q S lv L i := by
          funext a b
          refine propext ⟨fun h => ⟨h.1, ?_⟩, fun h => ⟨h.1, by have := h.2; omega⟩⟩
          apply Decidable.byContradiction
          intro z
          have := h.2
          have : a = i := by omega
          subst this
          exact hn ⟨b, h.1⟩
        have q := ih (i + 1) n g (by omega) (by omega) (by rw [eP]; exact h3)
        rw [eP] at q
        exact q
      · have hP : ∀ a b, ei_Q S lv L (i + 1) a b ↔ ei_Q S lv L i a b ∨ (a = i ∧ b = j) := fun a b => by
          constructor
          · intro h
            by_cases z : a = i
            · subst z; exact Or.inr ⟨rfl, eh_fun h.1 l⟩
            · have := h.2; exact Or.inl ⟨h.1, by omega⟩
          · intro h
            rcases h with h | ⟨h, h'⟩
            · exact ⟨h.1, by have := h.2; omega⟩
            · subst h h'; exact ⟨l, by omega⟩
        have q := ih (i + 1) n _ (by omega) (by omega) (ei_GY_a (P := ei_Q S lv L i) (fun a b z => z.1) l (fun z => by have := z.2; omega) hP h3)
        have ec : upd (upd (upd (upd (upd (eh_lk (ei_Q S lv L i) ck) i 4) j 8) (j + 1) (-1)) (j + 2) (-1)) (j + 3) (-1) = eh_lk (ei_Q S lv L (i + 1)) ck := by
          funext x
          rw [ei_ck2 (by have := l.1; omega), eh_add (ck := ck) (P := ei_Q S lv L i) (P' := ei_Q S lv L (i + 1)) (fun a b z => z.1) l hP]
        rw [← ec] at q
        exact q
  have n0 : ∀ a b, ¬ ei_Q S lv L 0 a b := fun a b h => by have := h.2; omega
  have q := key L 0 (L + 1) b_group (by omega) (by omega) ⟨fun a b x z => absurd z (n0 a b), fun x hx _ => hg x hx⟩
  rw [eh_lk_0 n0] at q
  exact ⟨_, q⟩
end EJ
end
section
/-! parse: runs -/
section EK
variable {S lv : Nat → Int32} {L : Nat}
def ek_st (S lv : Nat → Int32) (L x : Nat) : Prop := x < L ∧ ¬ lv x = 0 ∧ (S x = 42 ∨ S x = 95)
def ek_jn (S lv : Nat → Int32) (x : Nat) : Prop := 0 < x ∧ ¬ lv (x - 1) = 0 ∧ S (x - 1) = S x
def ek_fs (S lv : Nat → Int32) (L x : Nat) : Prop := ek_st S lv L x ∧ ¬ ek_jn S lv x
def ek_rl (S lv : Nat → Int32) (c : Int32) : Nat → Nat → Nat
  | 0, _ => 0
  | d + 1, i => if ¬ lv i = 0 ∧ S i = c then ek_rl S lv c d (i + 1) + 1 else 0
theorem ek_rl_le {c : Int32} : ∀ d i, ek_rl S lv c d i ≤ d := by
  intro d
  induction d with
  | zero => intro i; exact Nat.le_refl 0
  | succ d ih =>
    intro i
    unfold ek_rl
    by_cases h : ¬ lv i = 0 ∧ S i = c
    · rw [if_pos h]; have := ih (i + 1); omega
    · rw [if_neg h]; omega
theorem ek_rl_in {c : Int32} : ∀ d i t, t < ek_rl S lv c d i → ¬ lv (i + t) = 0 ∧ S (i + t) = c := by
  intro d
  induction d with
  | zero => intro i t h; exact absurd h (by show ¬ t < 0; omega)
  | succ d ih =>
    intro i t h
    unfold ek_rl at h
    by_cases z : ¬ lv i = 0 ∧ S i = c
    · rw [if_pos z] at h
      by_cases e : t = 0
      · subst e; exact z
      · have := ih (i + 1) (t - 1) (by omega)
        rw [show i + 1 + (t - 1) = i + t by omega] at this
        exact this
    · rw [if_neg z] at h; omega
theorem ek_rl_end {c : Int32} : ∀ d i, ek_rl S lv c d i < d → ¬ (¬ lv (i + ek_rl S lv c d i) = 0 ∧ S (i + ek_rl S lv c d i) = c) := by
  intro d
  induction d with
  | zero => intro i h; omega
  | succ d ih =>
    intro i h
    unfold ek_rl at h ⊢
    by_cases z : ¬ lv i = 0 ∧ S i = c
    · rw [if_pos z] at h ⊢
      have := ih (i + 1) (by omega)
      rw [show i + 1 + ek_rl S lv c d (i + 1) = i + (ek_rl S lv c d (i + 1) + 1) by omega] at this
      exact this
    · rw [if_neg z]; exact z
/-- the end of the run that begins at x (x itself where none begins) -/
noncomputable def ek_e (S lv : Nat → Int32) (L x : Nat) : Nat := if eh_b (ek_fs S lv L x) = true then x + ek_rl S lv (S x) (L - x) x else x
theorem ek_e_f {x : Nat} (h : ek_fs S lv L x) : x < ek_e S lv L x ∧ ek_e S lv L x ≤ L ∧ (∀ t, x ≤ t → t < ek_e S lv L x → ¬ lv t = 0 ∧ S t = S x) ∧ (ek_e S lv L x < L → ¬ (¬ lv (ek_e S lv L x) = 0 ∧ S (ek_e S lv L x) = S x)) := by
  unfold ek_e
  rw [eh_bt h, if_pos rfl]
  have h1 := ek_rl_le (S := S) (lv := lv) (c := S x) (L - x) x
  have xl := h.1.1
  refine ⟨?_, by omega, fun t a b => ?_, fun a => ek_rl_end (L - x) x (by omega)⟩
  · obtain ⟨d, e⟩ : ∃ d, L - x = d + 1 := ⟨L - x - 1, by omega⟩
    rw [e]
    unfold ek_rl
    rw [if_pos ⟨h.1.2.1, rfl⟩]; omega
  · have := ek_rl_in (S := S) (lv := lv) (c := S x) (L - x) x (t - x) (by omega)
    rw [show x + (t - x) = t by omega] at this
    exact this
theorem ek_e_n {x : Nat} (h : ¬ ek_fs S lv L x) : ek_e S lv L x = x := by
  unfold ek_e
  rw [eh_bf h]; rfl
theorem ek_e_le {x : Nat} (h : x < L) : x ≤ ek_e S lv L x ∧ ek_e S lv L x ≤ L := by
  by_cases z : ek_fs S lv L x
  · have := ek_e_f z; omega
  · rw [ek_e_n z]; omega
theorem ek_e_u {x e : Nat} (h : ek_fs S lv L x) (h1 : x < e) (h2 : e ≤ L) (h3 : ∀ t, x ≤ t → t < e → ¬ lv t = 0 ∧ S t = S x) (h4 : e < L → ¬ (¬ lv e = 0 ∧ S e = S x)) : ek_e S lv L x = e := by
  have q := ek_e_f h
  rcases Nat.lt_trichotomy (ek_e S lv L x) e with w | w | w
  · exact absurd (h3 _ (by omega) w) (q.2.2.2 (by omega))
  · exact w
  · exact absurd (q.2.2.1 e (by omega) w) (h4 (by omega))
theorem ek_dis {x x' : Nat} (h : ek_fs S lv L x) (h' : ek_fs S lv L x') (w : x < x') : ek_e S lv L x ≤ x' := by
  apply Decidable.byContradiction
  intro z
  have q := ek_e_f h
  have a := q.2.2.1 x' (by omega) (by omega)
  have b := q.2.2.1 (x' - 1) (by omega) (by omega)
  exact h'.2 ⟨by omega, b.1, by rw [b.2, a.2]⟩
theorem ek_cell {y : Nat} (h : ek_st S lv L y) : ∃ x, x ≤ y ∧ ek_fs S lv L x ∧ y < ek_e S lv L x := by
  induction y with
  | zero => exact ⟨0, Nat.le_refl _, ⟨h, fun z => by have := z.1; omega⟩, (ek_e_f ⟨h, fun z => by have := z.1; omega⟩).1⟩
  | succ y ih =>
    by_cases j : ek_jn S lv (y + 1)
    · obtain ⟨j1, j2, j3⟩ := j
      rw [show y + 1 - 1 = y by omega] at j2 j3
      obtain ⟨x, x1, x2, x3⟩ := ih ⟨by have := h.1; omega, j2, by rw [j3]; exact h.2.2⟩
      refine ⟨x, by omega, x2, ?_⟩
      apply Decidable.byContradiction
      intro z
      have q := ek_e_f x2
      have e : ek_e S lv L x = y + 1 := by omega
      have hl := h.1
      have := q.2.2.2 (by omega)
      rw [e] at this
      exact this ⟨h.2.1, by rw [← j3]; exact (q.2.2.1 y x1 x3).2⟩
    · exact ⟨y + 1, Nat.le_refl _, ⟨h, j⟩, (ek_e_f ⟨h, j⟩).1⟩
theorem ek_in {x y : Nat} (h : ek_fs S lv L x) (h1 : x ≤ y) (h2 : y < ek_e S lv L x) : ek_st S lv L y := by
  have q := ek_e_f h
  have := q.2.2.1 y h1 h2
  exact ⟨by omega, this.1, by rw [this.2]; exact h.1.2.2⟩
def ek_bef (S : Nat → Int32) (x : Nat) : Int32 := if x = 0 then 32 else S (x - 1)
noncomputable def ek_aft (S lv : Nat → Int32) (L x : Nat) : Int32 := if ek_e S lv L x < L then S (ek_e S lv L x) else 32
noncomputable def ek_op (S lv : Nat → Int32) (L x : Nat) : Bool := ea_sv (S x) (ek_bef S x) (ek_aft S lv L x)
noncomputable def ek_cl (S lv : Nat → Int32) (L x : Nat) : Bool := ea_sv (S x) (ek_aft S lv L x) (ek_bef S x)
/-- X's runs, so far -/
def ek_R (S lv : Nat → Int32) (L i R : Nat) (rl rh : Nat → Int32) (fr : Nat → Nat) : Prop :=
  R ≤ i ∧ (∀ r, r < R → rl r = nI (fr r) ∧ rh r = nI (min (ek_e S lv L (fr r)) i) ∧ ek_fs S lv L (fr r) ∧ fr r < i) ∧
  (∀ r r', r < r' → r' < R → fr r < fr r') ∧ (∀ x, x < i → ek_fs S lv L x → ∃ r, r < R ∧ fr r = x)
theorem ek_R_n {i R : Nat} {rl rh : Nat → Int32} {fr : Nat → Nat} (h : ek_R S lv L i R rl rh fr) (hi : i < L) (hn : ¬ ek_st S lv L i) : ek_R S lv L (i + 1) R rl rh fr := by
  obtain ⟨a1, a2, a3, a4⟩ := h
  refine ⟨by omega, fun r hr => ?_, a3, fun x hx hf => ?_⟩
  · obtain ⟨b1, b2, b3, b4⟩ := a2 r hr
    have : ek_e S lv L (fr r) ≤ i := by
      apply Decidable.byContradiction
      intro z
      exact hn (ek_in b3 (by omega) (by omega))
    refine ⟨b1, ?_, b3, by omega⟩
    rw [b2]
    congr 1
    omega
  · by_cases e : x = i
    · subst e; exact absurd hf.1 hn
    · exact a4 x (by omega) hf
theorem ek_R_f {i R : Nat} {rl rh : Nat → Int32} {fr : Nat → Nat} (h : ek_R S lv L i R rl rh fr) (hi : i < L) (hf : ek_fs S lv L i) : ek_R S lv L (i + 1) (R + 1) (upd rl R (nI i)) (upd rh R (nI (i + 1))) (fun r => if r = R then i else fr r) := by
  obtain ⟨a1, a2, a3, a4⟩ := h
  refine ⟨by omega, fun r hr => ?_, fun r r' h1 h2 => ?_, fun x hx hx2 => ?_⟩
  · dsimp only
    by_cases e : r = R
    · subst e
      rw [if_pos rfl, ea_us, ea_us]
      have := (ek_e_f hf).1
      refine ⟨rfl, ?_, hf, by omega⟩
      congr 1
      omega
    · rw [if_neg e, ea_un e, ea_un e]
      obtain ⟨b1, b2, b3, b4⟩ := a2 r (by omega)
      have := ek_dis b3 hf b4
      refine ⟨b1, ?_, b3, by omega⟩
      rw [b2]
      congr 1
      omega
  · dsimp only
    rw [if_neg (by omega : ¬ r = R)]
    by_cases e : r' = R
    · rw [if_pos e]; exact (a2 r (by omega)).2.2.2
    · rw [if_neg e]; exact a3 r r' h1 (by omega)
  · dsimp only
    by_cases e : x = i
    · subst e; exact ⟨R, by omega, if_pos rfl⟩
    · obtain ⟨r, r1, r2⟩ := a4 x (by omega) hx2
      exact ⟨r, by omega, by rw [if_neg (by omega)]; exact r2⟩
theorem ek_R_j {i R : Nat} {rl rh : Nat → Int32} {fr : Nat → Nat} (h : ek_R S lv L i R rl rh fr) (hi : i < L) (hs : ek_st S lv L i) (hj : ek_jn S lv i) : 0 < R ∧ ek_R S lv L (i + 1) R rl (upd rh (R - 1) (nI (i + 1))) fr := by
  obtain ⟨a1, a2, a3, a4⟩ := h
  obtain ⟨x, x1, x2, x3⟩ := ek_cell hs
  have xi : x < i := by
    apply Decidable.byContradiction
    intro z
    have : x = i := by omega
    subst this
    exact x2.2 hj
  obtain ⟨q, q1, q2⟩ := a4 x xi x2
  have ql : q = R - 1 := by
    apply Decidable.byContradiction
    intro z
    have h1 := a3 q (R - 1) (by omega) (by omega)
    have h2 := a2 (R - 1) (by omega)
    have h3 := ek_dis x2 h2.2.2.1 (by omega)
    omega
  refine ⟨by omega, by omega, fun r hr => ?_, a3, fun y hy hf => ?_⟩
  · obtain ⟨b1, b2, b3, b4⟩ := a2 r hr
    by_cases e : r = R - 1
    · subst e
      rw [ea_us]
      refine ⟨b1, ?_, b3, by omega⟩
      have : fr (R - 1) = x := by rw [← ql]; exact q2
      rw [this]
      congr 1
      omega
    · rw [ea_un e]
      have h1 := a3 r (R - 1) (by omega) (by omega)
      have h2 := a2 (R - 1) (by omega)
      have h3 := ek_dis b3 h2.2.2.1 h1
      have : fr (R - 1) = x := by rw [← ql]; exact q2
      refine ⟨b1, ?_, b3, by omega⟩
      rw [b2]
      congr 1
      omega
  · by_cases e : y = i
    · subst e; exact absurd hj hf.2
    · exact a4 y (by omega) hf
end EK
section EL
variable {f_cap f_count f_depth f_linkCount f_openerCount f_nodes f_domain : Int32} {a_kinds a_chars a_mate a_openStack a_cellKind a_group a_runChar a_runSize a_runGroup a_runOpens a_runCloses a_openers a_floors a_start a_width a_out a_nodeOf a_clash : Nat → Int32} {L : Nat} {S lv : Nat → Int32}
theorem el_xgather {post : SX → Prop} {rl0 rh0 : Nat → Int32} (hL : L ≤ 64)
    (h : ∀ (R : Nat) (rl rh : Nat → Int32) (fr : Nat → Nat), ek_R S lv L L R rl rh fr → post (f_cap, (nI L), f_count, f_depth, f_linkCount, (nI R), f_openerCount, f_nodes, f_domain, S, a_kinds, a_chars, a_mate, a_openStack, a_cellKind, a_group, lv, rl, rh, a_runChar, a_runSize, a_runGroup, a_runOpens, a_runCloses, a_openers, a_floors, a_start, a_width, a_out, a_nodeOf, a_clash)) :
    wpX_gatherRuns post (f_cap, (nI L), f_count, f_depth, f_linkCount, 0, f_openerCount, f_nodes, f_domain, S, a_kinds, a_chars, a_mate, a_openStack, a_cellKind, a_group, lv, rl0, rh0, a_runChar, a_runSize, a_runGroup, a_runOpens, a_runCloses, a_openers, a_floors, a_start, a_width, a_out, a_nodeOf, a_clash) := by
  have key : ∀ d i n R rl rh fr, i + d = L → d < n → ek_R S lv L i R rl rh fr → wX_gatherRuns_2 post f_cap (nI L) f_count f_depth f_linkCount f_openerCount f_nodes f_domain n (nI i) (nI R) S a_kinds a_chars a_mate a_openStack a_cellKind a_group lv rl rh a_runChar a_runSize a_runGroup a_runOpens a_runCloses a_openers a_floors a_start a_width a_out a_nodeOf a_clash := by
    intro d
    induction d with
    | zero =>
      intro i n R rl rh fr h1 h2 h3
      obtain ⟨n, rfl⟩ : ∃ z, n = z + 1 := ⟨n - 1, by omega⟩
      have e : i = L := by omega
      subst e
      exact br_t (nI_le (Nat.le_refl _) (by omega)) (h R rl rh fr h3)
    | succ d ih =>
      intro i n R rl rh fr h1 h2 h3
      obtain ⟨n, rfl⟩ : ∃ z, n = z + 1 := ⟨n - 1, by omega⟩
      have e : (nI i).toNatClampNeg = i := nI_clamp (by omega)
      have w : vp_in (nI i) 64 := vp_in_nI (by omega) (by omega)
      have Ri := h3.1
      have skip : ¬ ek_st S lv L i → wX_gatherRuns_2 post f_cap (nI L) f_count f_depth f_linkCount f_openerCount f_nodes f_domain n (nI (i + 1)) (nI R) S a_kinds a_chars a_mate a_openStack a_cellKind a_group lv rl rh a_runChar a_runSize a_runGroup a_runOpens a_runCloses a_openers a_floors a_start a_width a_out a_nodeOf a_clash := fun hn =>
        ih (i + 1) n R rl rh fr (by omega) (by omega) (ek_R_n h3 (by omega) hn)
      have new : ek_fs S lv L i → wX_gatherRuns_93 post (wX_gatherRuns_2 post f_cap (nI L) f_count f_depth f_linkCount f_openerCount f_nodes f_domain n) (nI i) f_cap (nI L) f_count f_depth f_linkCount (nI R) f_openerCount f_nodes f_domain S a_kinds a_chars a_mate a_openStack a_cellKind a_group lv rl rh a_runChar a_runSize a_runGroup a_runOpens a_runCloses a_openers a_floors a_start a_width a_out a_nodeOf a_clash := by
        intro hf
        have q := ih (i + 1) n _ _ _ _ (by omega) (by omega) (ek_R_f h3 (by omega) hf)
        refine ⟨vp_in_nI (by omega) (by omega), nm_r (e' := upd rl R (nI i)) (by rw [nI_clamp (by omega : R < 2 ^ 31)]) (nm_r (nI_1 R) ?_)⟩
        unfold wX_gatherRuns_113
        rw [nI_pred R, nI_1 i, nI_clamp (by omega : R < 2 ^ 31)]
        exact ⟨vp_in_nI (by omega) (by omega), nm_e (nm_e q)⟩
      have g44 : ek_st S lv L i → wX_gatherRuns_44 post (wX_gatherRuns_2 post f_cap (nI L) f_count f_depth f_linkCount f_openerCount f_nodes f_domain n) (nI i) f_cap (nI L) f_count f_depth f_linkCount (nI R) f_openerCount f_nodes f_domain S a_kinds a_chars a_mate a_openStack a_cellKind a_group lv rl rh a_runChar a_runSize a_runGroup a_runOpens a_runCloses a_openers a_floors a_start a_width a_out a_nodeOf a_clash := by
        intro hs
        have g80 : ¬ ek_jn S lv i → wX_gatherRuns_80 post (wX_gatherRuns_2 post f_cap (nI L) f_count f_depth f_linkCount f_openerCount f_nodes f_domain n) (nI i) f_cap (nI L) f_count f_depth f_linkCount (nI R) f_openerCount f_nodes f_domain S a_kinds a_chars a_mate a_openStack a_cellKind a_group lv rl rh a_runChar a_runSize a_runGroup a_runOpens a_runCloses a_openers a_floors a_start a_width a_out a_nodeOf a_clash := fun hj =>
          br_t rfl (new ⟨hs, hj⟩)
        by_cases z : i = 0
        · subst z
          exact br_t (by decide) (g80 (fun hj => by have := hj.1; omega))
        · refine br_f (nI_nle (by omega) (by omega)) ?_
          rw [ea_s (by omega : 0 < i), e, nI_clamp (by omega : i - 1 < 2 ^ 31)]
          refine ⟨vp_in_nI (by omega) (by omega), br_c (fun y => g80 (fun hj => hj.2.1 y)) (fun y => ⟨vp_in_nI (by omega) (by omega), w, br_c (fun x => ?_) (fun x => g80 (fun hj => x hj.2.2))⟩)⟩
          obtain ⟨R0, q⟩ := ek_R_j h3 (by omega) hs ⟨by omega, y, x⟩
          refine br_f (by decide) (br_f (nI_ne0 R0 (by omega)) ?_)
          have q := ih (i + 1) n _ _ _ _ (by omega) (by omega) q
          unfold wX_gatherRuns_113
          rw [ea_s R0, nI_1 i, nI_clamp (by omega : R - 1 < 2 ^ 31)]
          exact ⟨vp_in_nI (by omega) (by omega), nm_e (nm_e q)⟩
      refine br_f (nI_ge (by omega) (by omega)) ⟨w, ?_⟩
      rw [e]
      refine br_c (fun z => nm_r (nI_1 i) (skip (fun hs => hs.2.1 z))) (fun z => ⟨w, br_c (fun y => g44 ⟨by omega, z, Or.inl y⟩) (fun y => ⟨w, br_c (fun x => g44 ⟨by omega, z, Or.inr x⟩) (fun x => nm_r (nI_1 i) (skip (fun hs => ?_)))⟩)⟩)
      rcases hs.2.2 with q | q
      · exact y q
      · exact x q
  exact ⟨_, key L 0 (L + 1) 0 rl0 rh0 (fun _ => 0) (by omega) (by omega) ⟨by omega, fun r hr => by omega, fun r r' h1 h2 => by omega, fun x hx => by omega⟩⟩
end EL
section EM
variable {f_cap f_count f_depth f_linkCount f_openerCount f_nodes f_domain : Int32} {a_kinds a_chars a_mate a_openStack a_cellKind a_group a_runLo a_runHi a_runChar a_runSize a_runGroup a_runOpens a_runCloses a_openers a_floors a_start a_width a_out a_nodeOf a_clash : Nat → Int32} {L : Nat} {S lv : Nat → Int32}
theorem el_xcl {post : SX → Prop} {r x e : Nat} {f_runCount : Int32} (hL : L ≤ 64) (hr : r < 64) (h1 : a_runLo r = nI x) (h2 : a_runHi r = nI e) (hx : x < e) (he : e ≤ L)
    (h : post (f_cap, (nI L), f_count, f_depth, f_linkCount, f_runCount, f_openerCount, f_nodes, f_domain, S, a_kinds, a_chars, a_mate, a_openStack, a_cellKind, a_group, lv, a_runLo, a_runHi, (upd a_runChar r (S x)), (upd a_runSize r (nI (e - x))), (upd a_runGroup r (a_group x)), (upd a_runOpens r (ea_b (ea_sv (S x) (ek_bef S x) (if e < L then S e else 32)))), (upd a_runCloses r (ea_b (ea_sv (S x) (if e < L then S e else 32) (ek_bef S x)))), a_openers, a_floors, a_start, a_width, a_out, a_nodeOf, a_clash)) :
    wpX_classifyRun post (f_cap, (nI L), f_count, f_depth, f_linkCount, f_runCount, f_openerCount, f_nodes, f_domain, S, a_kinds, a_chars, a_mate, a_openStack, a_cellKind, a_group, lv, a_runLo, a_runHi, a_runChar, a_runSize, a_runGroup, a_runOpens, a_runCloses, a_openers, a_floors, a_start, a_width, a_out, a_nodeOf, a_clash) (nI r) := by
  have er : (nI r).toNatClampNeg = r := nI_clamp (by omega)
  have wr : vp_in (nI r) 64 := vp_in_nI (by omega) (by omega)
  have ex : (nI x).toNatClampNeg = x := nI_clamp (by omega)
  have wx : vp_in (nI x) 64 := vp_in_nI (by omega) (by omega)
  have fin : ∀ b a : Int32, b = ek_bef S x → a = (if e < L then S e else 32) → wX_classifyRun_52 post (nI r) (nI x) (nI e) b a f_cap (nI L) f_count f_depth f_linkCount f_runCount f_openerCount f_nodes f_domain S a_kinds a_chars a_mate a_openStack a_cellKind a_group lv a_runLo a_runHi a_runChar a_runSize a_runGroup a_runOpens a_runCloses a_openers a_floors a_start a_width a_out a_nodeOf a_clash := by
    intro b a hb ha
    unfold wX_classifyRun_52
    rw [er, ex, pk_sub (by omega)]
    refine ⟨wx, wr, nm_e ⟨wr, nm_e ⟨wx, wr, nm_e ⟨wx, ea_xsv ⟨wr, nm_r (by rw [ea_vb]) ⟨wx, ea_xsv ⟨wr, nm_r (by rw [ea_vb]) ?_⟩⟩⟩⟩⟩⟩⟩
    rw [hb, ha]
    exact h
  have c31 : ∀ b : Int32, b = ek_bef S x → wX_classifyRun_31 post (nI r) (nI x) (nI e) b f_cap (nI L) f_count f_depth f_linkCount f_runCount f_openerCount f_nodes f_domain S a_kinds a_chars a_mate a_openStack a_cellKind a_group lv a_runLo a_runHi a_runChar a_runSize a_runGroup a_runOpens a_runCloses a_openers a_floors a_start a_width a_out a_nodeOf a_clash := by
    intro b hb
    refine pk_le L e (fun z => fin b 32 hb (by rw [if_neg (by omega)])) (fun z => ⟨vp_in_nI (by omega) (by omega), ?_⟩)
    rw [nI_clamp (by omega : e < 2 ^ 31)]
    exact fin b (S e) hb (by rw [if_pos z])
  refine ⟨wr, nm_r (e' := nI x) (by rw [er]; exact h1) ⟨wr, nm_r (e' := nI e) (by rw [er]; exact h2) ?_⟩⟩
  by_cases z : x = 0
  · subst z
    exact br_t (by decide) (c31 32 rfl)
  · refine br_f (nI_nle (by omega) (by omega)) ?_
    rw [ea_s (by omega : 0 < x), nI_clamp (by omega : x - 1 < 2 ^ 31)]
    exact ⟨vp_in_nI (by omega) (by omega), c31 _ (by unfold ek_bef; rw [if_neg z])⟩
/-- what X knows of its runs -/
def el_K (S lv g : Nat → Int32) (L R : Nat) (fr : Nat → Nat) (rc rs rg ro rk : Nat → Int32) : Prop :=
  ∀ r, r < R → rc r = S (fr r) ∧ rs r = nI (ek_e S lv L (fr r) - fr r) ∧ rg r = g (fr r) ∧ ro r = ea_b (ek_op S lv L (fr r)) ∧ rk r = ea_b (ek_cl S lv L (fr r))
theorem el_xclass {post : Int32 → SX → Prop} {R : Nat} {fr : Nat → Nat} {rc0 rs0 rg0 ro0 rk0 : Nat → Int32} (hL : L ≤ 64) (hR : ek_R S lv L L R a_runLo a_runHi fr)
    (h : ∀ rc rs rg ro rk, el_K S lv a_group L R fr rc rs rg ro rk → ∃ n, wX_parse_39 post n 0 f_cap (nI L) f_count f_depth f_linkCount (nI R) f_openerCount f_nodes f_domain S a_kinds a_chars a_mate a_openStack a_cellKind a_group lv a_runLo a_runHi rc rs rg ro rk a_openers a_floors a_start a_width a_out a_nodeOf a_clash) :
    ∃ n, wX_parse_18 post n 0 f_cap (nI L) f_count f_depth f_linkCount (nI R) f_openerCount f_nodes f_domain S a_kinds a_chars a_mate a_openStack a_cellKind a_group lv a_runLo a_runHi rc0 rs0 rg0 ro0 rk0 a_openers a_floors a_start a_width a_out a_nodeOf a_clash := by
  have RL := hR.1
  have key : ∀ d r n rc rs rg ro rk, r + d = R → d < n → el_K S lv a_group L r fr rc rs rg ro rk → wX_parse_18 post n (nI r) f_cap (nI L) f_count f_depth f_linkCount (nI R) f_openerCount f_nodes f_domain S a_kinds a_chars a_mate a_openStack a_cellKind a_group lv a_runLo a_runHi rc rs rg ro rk a_openers a_floors a_start a_width a_out a_nodeOf a_clash := by
    intro d
    induction d with
    | zero =>
      intro r n rc rs rg ro rk h1 h2 h3
      obtain ⟨n, rfl⟩ : ∃ z, n = z + 1 := ⟨n - 1, by omega⟩
      have e : r = R := by omega
      subst e
      exact br_t (nI_le (Nat.le_refl _) (by omega)) (h rc rs rg ro rk h3)
    | succ d ih =>
      intro r n rc rs rg ro rk h1 h2 h3
      obtain ⟨n, rfl⟩ : ∃ z, n = z + 1 := ⟨n - 1, by omega⟩
      obtain ⟨b1, b2, b3, b4⟩ := hR.2.1 r (by omega)
      have q := ek_e_f b3
      rw [show min (ek_e S lv L (fr r)) L = ek_e S lv L (fr r) by omega] at b2
      refine br_f (nI_ge (by omega) (by omega)) (el_xcl (x := fr r) (e := ek_e S lv L (fr r)) hL (by omega) b1 b2 q.1 q.2.1 (nm_r (nI_1 r) (ih (r + 1) n _ _ _ _ _ (by omega) (by omega) (fun r' hr' => ?_))))
      by_cases e : r' = r
      · subst e
        rw [ea_us, ea_us, ea_us, ea_us, ea_us]
        exact ⟨rfl, rfl, rfl, rfl, rfl⟩
      · rw [ea_un e, ea_un e, ea_un e, ea_un e, ea_un e]
        exact h3 r' (by omega)
  exact ⟨_, key R 0 (R + 1) rc0 rs0 rg0 ro0 rk0 (by omega) (by omega) (fun r hr => by omega)⟩
end EM
end
section
/-! parse: the pass over closers as a pure trace; Y's match -/
abbrev en_T : Type := (Nat → Nat) × (Nat → Nat) × (Nat → Int32) × (Nat → Bool)
def en_ok (F : Nat → Nat → Bool) (st : en_T) (k c : Nat) : Bool := F k c && decide (st.1 k < st.2.1 k) && !st.2.2.2 k
def en_fo (F : Nat → Nat → Bool) (st : en_T) (c : Nat) : Nat → Option Nat
  | 0 => none
  | k + 1 => if en_ok F st k c = true then some k else en_fo F st c k
def en_u (st : en_T) (o c : Nat) : Nat := if 2 ≤ st.2.1 o - st.1 o ∧ 2 ≤ st.2.1 c - st.1 c then 2 else 1
def en_out (out : Nat → Int32) (a b u : Nat) : Nat → Int32 := upd (upd (upd (upd out (a + u - 1) (-1)) (b + u - 1) (-1)) a (nI u)) b (nI (u + 4))
def en_pr (st : en_T) (o c : Nat) : en_T :=
  (fun x => if x = c then st.1 c + en_u st o c else st.1 x, fun x => if x = o then st.2.1 o - en_u st o c else st.2.1 x,
   en_out st.2.2.1 (st.2.1 o - en_u st o c) (st.1 c) (en_u st o c), fun x => if o < x ∧ x < c then true else st.2.2.2 x)
def en_cs (F : Nat → Nat → Bool) (c : Nat) : Nat → en_T → en_T
  | 0, st => st
  | f + 1, st => if st.1 c < st.2.1 c then (match en_fo F st c c with
    | none => st
    | some o => en_cs F c f (en_pr st o c)) else st
def en_YS (F : Nat → Nat → Bool) (Cl : Nat → Bool) (st0 : en_T) : Nat → en_T
  | 0 => st0
  | c + 1 => if Cl c = true then en_cs F c 64 (en_YS F Cl st0 c) else en_YS F Cl st0 c
section EN
variable {F : Nat → Nat → Bool} {st : en_T} {c o f L : Nat}
theorem en_cs_0 (h : ¬ st.1 c < st.2.1 c) : en_cs F c f st = st := by
  cases f with
  | zero => rfl
  | succ f => exact if_neg h
theorem en_cs_n (h : en_fo F st c c = none) : en_cs F c f st = st := by
  cases f with
  | zero => rfl
  | succ f =>
    show (if st.1 c < st.2.1 c then _ else _) = _
    rw [h]
    by_cases z : st.1 c < st.2.1 c
    · rw [if_pos z]
    · rw [if_neg z]
theorem en_cs_s (h1 : st.1 c < st.2.1 c) (h : en_fo F st c c = some o) : en_cs F c (f + 1) st = en_cs F c f (en_pr st o c) := by
  show (if st.1 c < st.2.1 c then _ else _) = _
  rw [if_pos h1, h]
theorem en_fo_s {k : Nat} (h : en_fo F st c k = some o) : o < k ∧ en_ok F st o c = true ∧ ∀ t, o < t → t < k → en_ok F st t c = false := by
  induction k with
  | zero => exact absurd h (by intro z; cases z)
  | succ k ih =>
    unfold en_fo at h
    by_cases z : en_ok F st k c = true
    · rw [if_pos z] at h
      have e : k = o := by injection h
      subst e
      exact ⟨by omega, z, fun t h1 h2 => by omega⟩
    · rw [if_neg z] at h
      obtain ⟨a, b, d⟩ := ih h
      refine ⟨by omega, b, fun t h1 h2 => ?_⟩
      by_cases e : t = k
      · subst e
        cases y : en_ok F st t c
        · rfl
        · exact absurd y z
      · exact d t h1 (by omega)
theorem en_fo_n {k : Nat} (h : en_fo F st c k = none) : ∀ t, t < k → en_ok F st t c = false := by
  induction k with
  | zero => intro t ht; omega
  | succ k ih =>
    unfold en_fo at h
    by_cases z : en_ok F st k c = true
    · rw [if_pos z] at h; exact absurd h (by intro z; cases z)
    · rw [if_neg z] at h
      intro t ht
      by_cases e : t = k
      · subst e
        cases y : en_ok F st t c
        · rfl
        · exact absurd y z
      · exact ih h t (by omega)
theorem en_ok_i {k : Nat} (h : en_ok F st k c = true) : F k c = true ∧ st.1 k < st.2.1 k ∧ st.2.2.2 k = false := by
  unfold en_ok at h
  rw [Bool.and_eq_true, Bool.and_eq_true] at h
  obtain ⟨⟨h1, h2⟩, h3⟩ := h
  refine ⟨h1, of_decide_eq_true h2, ?_⟩
  cases z : st.2.2.2 k
  · rfl
  · rw [z] at h3; exact absurd h3 (by decide)
theorem en_u_12 : en_u st o c = 1 ∨ en_u st o c = 2 := by
  unfold en_u
  by_cases z : 2 ≤ st.2.1 o - st.1 o ∧ 2 ≤ st.2.1 c - st.1 c
  · rw [if_pos z]; exact Or.inr rfl
  · rw [if_neg z]; exact Or.inl rfl
theorem en_u_le (h1 : st.1 o < st.2.1 o) (h2 : st.1 c < st.2.1 c) : 1 ≤ en_u st o c ∧ en_u st o c ≤ 2 ∧ st.1 o + en_u st o c ≤ st.2.1 o ∧ st.1 c + en_u st o c ≤ st.2.1 c := by
  unfold en_u
  by_cases z : 2 ≤ st.2.1 o - st.1 o ∧ 2 ≤ st.2.1 c - st.1 c
  · rw [if_pos z]; omega
  · rw [if_neg z]; omega
/-- free cells lie in their run -/
def en_W (L : Nat) (e : Nat → Nat) (st : en_T) : Prop := ∀ x, x < L → x ≤ st.1 x ∧ st.1 x ≤ st.2.1 x ∧ st.2.1 x ≤ e x
theorem en_W_pr {e : Nat → Nat} (h : en_W L e st) (hoc : o < c) (hc : c < L) (h1 : st.1 o < st.2.1 o) (h2 : st.1 c < st.2.1 c) : en_W L e (en_pr st o c) := by
  intro x hx
  have u := en_u_le h1 h2
  have a := h x hx
  show x ≤ (if x = c then _ else _) ∧ (if x = c then _ else _) ≤ (if x = o then _ else _) ∧ (if x = o then _ else _) ≤ e x
  by_cases e1 : x = c
  · subst e1
    rw [if_pos rfl, if_neg (by omega)]; omega
  · rw [if_neg e1]
    by_cases e2 : x = o
    · subst e2; rw [if_pos rfl]; omega
    · rw [if_neg e2]; exact a
/-- what holds of the state while closer c is at work -/
def en_V (L : Nat) (e : Nat → Nat) (c : Nat) (st : en_T) : Prop := en_W L e st ∧ ∀ x, c ≤ x → x < L → st.2.2.2 x = false
theorem en_V_pr {e : Nat → Nat} (h : en_V L e c st) (hc : c < L) (h2 : st.1 c < st.2.1 c) (ho : en_fo F st c c = some o) : en_V L e c (en_pr st o c) := by
  have q := en_fo_s ho
  refine ⟨en_W_pr h.1 q.1 hc (en_ok_i q.2.1).2.1 h2, fun x h3 h4 => ?_⟩
  show (if o < x ∧ x < c then true else st.2.2.2 x) = false
  rw [if_neg (by omega)]
  exact h.2 x h3 h4
theorem en_V_cs {e : Nat → Nat} (hc : c < L) : ∀ f st, en_V L e c st → en_V L e c (en_cs F c f st) := by
  intro f
  induction f with
  | zero => intro st h; exact h
  | succ f ih =>
    intro st h
    by_cases z : st.1 c < st.2.1 c
    · cases y : en_fo F st c c with
      | none => rw [en_cs_n y]; exact h
      | some o => rw [en_cs_s z y]; exact ih _ (en_V_pr h hc z y)
    · rw [en_cs_0 z]; exact h
theorem en_V_YS {e : Nat → Nat} {Cl : Nat → Bool} {st0 : en_T} (h : en_V L e 0 st0) : ∀ c, c ≤ L → en_V L e c (en_YS F Cl st0 c) := by
  intro c
  induction c with
  | zero => intro _; exact h
  | succ c ih =>
    intro hc
    have q := ih (by omega)
    have w : en_V L e c (en_YS F Cl st0 (c + 1)) := by
      show en_V L e c (if Cl c = true then en_cs F c 64 (en_YS F Cl st0 c) else en_YS F Cl st0 c)
      by_cases z : Cl c = true
      · rw [if_pos z]; exact en_V_cs (by omega) 64 _ q
      · rw [if_neg z]; exact q
    exact ⟨w.1, fun x h1 h2 => w.2 x (by omega) h2⟩
end EN
/-- the static part of pairs -/
def en_three (a b : Nat) : Bool := decide ((a + b) % 3 = 0) && !(decide (a % 3 = 0) && decide (b % 3 = 0))
noncomputable def en_ln (S lv : Nat → Int32) (L x : Nat) : Nat := ek_e S lv L x - x
noncomputable def en_F (S lv g : Nat → Int32) (L k c : Nat) : Bool :=
  ek_op S lv L k && decide (S k = S c) && decide (g k = g c) && !(en_three (en_ln S lv L k) (en_ln S lv L c) && (ek_cl S lv L k || ek_op S lv L c))
theorem en_fl1 {a b : Bool} : (ea_fl a b &&& 1) = 0 ↔ a = false := by cases a <;> cases b <;> decide
theorem en_fl2 {a b : Bool} : (ea_fl a b &&& 2) = 0 ↔ b = false := by cases a <;> cases b <;> decide
theorem en_rem {a : Nat} (h : a < 2 ^ 31) : nI a - nI a / 3 * 3 = nI (a % 3) := pk_rem (d := 3) h (by decide) (by decide)
theorem en_z3 {a : Nat} : nI (a % 3) = 0 ↔ a % 3 = 0 := ea_eq0 (by omega)
section EO
variable {g_limit g_count : Int32} {b_kinds b_chars b_pos b_till b_mark b_out b_lo b_hi b_dropped : Nat → Int32} {L : Nat} {S W lv g ln fl : Nat → Int32}
/-- what Y knows of its runs -/
def eo_K (S lv : Nat → Int32) (L i : Nat) (ln fl : Nat → Int32) : Prop := ∀ x, x < i → ln x = nI (en_ln S lv L x) ∧ fl x = ea_fl (ek_op S lv L x) (ek_cl S lv L x)
theorem eo_ypairs {post : Int32 → Prop} {st : en_T} {k c : Nat} (hL : L ≤ 64) (hk : k < L) (hc : c < L) (hK : eo_K S lv L L ln fl)
    (h1 : b_lo k = nI (st.1 k)) (h2 : b_hi k = nI (st.2.1 k)) (h3 : b_dropped k = ea_b (st.2.2.2 k)) (hb1 : st.1 k < 2 ^ 31) (hb2 : st.2.1 k < 2 ^ 31)
    (h : post (ea_b (en_ok (en_F S lv g L) st k c))) : wpY_pairs post (g_limit, (nI L), g_count, (nI L), S, b_kinds, b_chars, W, b_pos, b_till, b_mark, b_out, g, fl, ln, b_lo, b_hi, lv, b_dropped) (nI k) (nI c) := by
  have ek : (nI k).toNatClampNeg = k := nI_clamp (by omega)
  have ec : (nI c).toNatClampNeg = c := nI_clamp (by omega)
  have wk : vp_in (nI k) 64 := vp_in_nI (by omega) (by omega)
  have wc : vp_in (nI c) 64 := vp_in_nI (by omega) (by omega)
  obtain ⟨k1, k2⟩ := hK k hk
  obtain ⟨c1, c2⟩ := hK c hc
  have lk : en_ln S lv L k ≤ 64 := by have := ek_e_le (S := S) (lv := lv) hk; unfold en_ln; omega
  have lc : en_ln S lv L c ≤ 64 := by have := ek_e_le (S := S) (lv := lv) hc; unfold en_ln; omega
  -- the last tests
  have p77 : ∀ z : Bool, z = (en_three (en_ln S lv L k) (en_ln S lv L c) && (ek_cl S lv L k || ek_op S lv L c)) → wY_pairs_77 post (nI k) (nI c) (ea_b z) g_limit (nI L) g_count (nI L) S b_kinds b_chars W b_pos b_till b_mark b_out g fl ln b_lo b_hi lv b_dropped := by
    intro z hz
    unfold en_ok en_F at h
    rw [← hz] at h
    unfold wY_pairs_77
    rw [ek, ec, h1, h2, h3, k2]
    refine ⟨wk, wk, pk_le (st.2.1 k) (st.1 k) (fun a => ?_) (fun a => ⟨wk, ea_br (fun b => ⟨wk, br_c (fun d => ?_) (fun d => ⟨wk, wc, br_c (fun x => ⟨wk, wc, br_c (fun y => ea_br (fun w => ?_) (fun w => ?_)) (fun y => ?_)⟩) (fun x => ?_)⟩)⟩) (fun b => ?_)⟩)⟩
    · rw [decide_eq_false (by omega : ¬ st.1 k < st.2.1 k), Bool.and_false] at h; exact h
    · rw [en_fl1.mp d] at h; exact h
    · rw [decide_eq_true a, decide_eq_true x, decide_eq_true y, b, w] at h
      rw [en_fl1] at d
      cases q : ek_op S lv L k
      · exact absurd q d
      · rw [q] at h; exact h
    · rw [w] at h
      simp only [Bool.not_true, Bool.and_false, Bool.false_and] at h
      exact h
    · rw [decide_eq_false y] at h
      simp only [Bool.and_false, Bool.false_and] at h
      exact h
    · rw [decide_eq_false x] at h
      simp only [Bool.and_false, Bool.false_and] at h
      exact h
    · rw [b, Bool.not_true, Bool.and_false] at h; exact h
  have p45 : ∀ z : Bool, z = en_three (en_ln S lv L k) (en_ln S lv L c) → wY_pairs_45 post (nI k) (nI c) (ea_b z) g_limit (nI L) g_count (nI L) S b_kinds b_chars W b_pos b_till b_mark b_out g fl ln b_lo b_hi lv b_dropped := by
    intro z hz
    unfold wY_pairs_45
    rw [ek, ec, k2, c2]
    refine ea_br (fun a => p77 false (by rw [← hz, a]; rfl)) (fun a => ⟨wk, br_c (fun b => ⟨wc, br_c (fun d => p77 false (by rw [← hz, a, en_fl2.mp b, en_fl1.mp d]; rfl)) (fun d => p77 true ?_)⟩) (fun b => p77 true ?_)⟩)
    · rw [en_fl1] at d
      cases q : ek_op S lv L c
      · exact absurd q d
      · rw [← hz, a]
        cases ek_cl S lv L k <;> rfl
    · rw [en_fl2] at b
      cases q : ek_cl S lv L k
      · exact absurd q b
      · rw [← hz, a]; rfl
  unfold wpY_pairs
  dsimp only
  rw [ek, ec, k1, c1, nI_add, en_rem (by omega), en_rem (by omega), en_rem (by omega)]
  have t3 : ¬ (3 : Int32) = 0 := by decide
  have en3 : en_three (en_ln S lv L k) (en_ln S lv L c) = (decide ((en_ln S lv L k + en_ln S lv L c) % 3 = 0) && !(decide (en_ln S lv L k % 3 = 0) && decide (en_ln S lv L c % 3 = 0))) := rfl
  refine ⟨wk, wc, t3, br_c (fun a => ⟨wk, t3, br_c (fun b => ⟨wc, t3, br_c (fun d => p45 false ?_) (fun d => p45 true ?_)⟩) (fun b => p45 true ?_)⟩) (fun a => p45 false ?_)⟩
  · rw [en3, decide_eq_true (en_z3.mp a), decide_eq_true (en_z3.mp b), decide_eq_true (en_z3.mp d)]; rfl
  · rw [en3, decide_eq_true (en_z3.mp a), decide_eq_true (en_z3.mp b), decide_eq_false (fun z => d (en_z3.mpr z))]; rfl
  · rw [en3, decide_eq_true (en_z3.mp a), decide_eq_false (fun z => b (en_z3.mpr z))]; rfl
  · rw [en3, decide_eq_false (fun z => a (en_z3.mpr z))]; rfl
def eo_V (L : Nat) (st : en_T) (bl bh bd : Nat → Int32) : Prop := ∀ x, x < L → bl x = nI (st.1 x) ∧ bh x = nI (st.2.1 x) ∧ bd x = ea_b (st.2.2.2 x)
abbrev eo_J : Type := Int32 → (Nat → Int32) → (Nat → Int32) → (Nat → Int32) → (Nat → Int32) → (Nat → Int32) → (Nat → Int32) → (Nat → Int32) → (Nat → Int32) → (Nat → Int32) → (Nat → Int32) → (Nat → Int32) → (Nat → Int32) → (Nat → Int32) → (Nat → Int32) → (Nat → Int32) → Prop
theorem eo_ydrop {post : SY → Prop} {J185 J195 : eo_J} {st : en_T} {o c t : Nat} (hL : L ≤ 64) (hoc : o < c) (hc : c < L) {bd0 : Nat → Int32} (hd : ∀ x, x < L → bd0 x = ea_b (st.2.2.2 x))
    (h : ∀ bd, (∀ x, x < L → bd x = ea_b (if o < x ∧ x < c then true else st.2.2.2 x)) → J195 (nI (t + 1)) S b_kinds b_chars W b_pos b_till b_mark b_out g fl ln b_lo b_hi lv bd) :
    ∃ m, wY_match_404 post J185 J195 (nI c) (nI t) g_limit (nI L) g_count (nI L) m (nI (o + 1)) S b_kinds b_chars W b_pos b_till b_mark b_out g fl ln b_lo b_hi lv bd0 := by
  have key : ∀ d k m bd, k + d = c → d < m → o < k → (∀ x, x < L → bd x = ea_b (if o < x ∧ x < k then true else st.2.2.2 x)) → wY_match_404 post J185 J195 (nI c) (nI t) g_limit (nI L) g_count (nI L) m (nI k) S b_kinds b_chars W b_pos b_till b_mark b_out g fl ln b_lo b_hi lv bd := by
    intro d
    induction d with
    | zero =>
      intro k m bd h1 h2 h3 h4
      obtain ⟨m, rfl⟩ : ∃ z, m = z + 1 := ⟨m - 1, by omega⟩
      have e : k = c := by omega
      subst e
      exact br_t (nI_le (Nat.le_refl _) (by omega)) (nm_r (nI_1 t) (h bd h4))
    | succ d ih =>
      intro k m bd h1 h2 h3 h4
      obtain ⟨m, rfl⟩ : ∃ z, m = z + 1 := ⟨m - 1, by omega⟩
      refine br_f (nI_ge (by omega) (by omega)) ⟨vp_in_nI (by omega) (by omega), nm_r (e' := upd bd k 1) (by rw [nI_clamp (by omega : k < 2 ^ 31), ea_vb1]) (nm_r (nI_1 k) (ih (k + 1) m _ (by omega) (by omega) (by omega) (fun x hx => ?_)))⟩
      by_cases e : x = k
      · subst e; rw [ea_us, if_pos (by omega)]; rfl
      · rw [ea_un e, h4 x hx]
        by_cases z : o < x ∧ x < k
        · rw [if_pos z, if_pos (by omega)]
        · rw [if_neg z, if_neg (by omega)]
  exact ⟨_, key (c - (o + 1)) (o + 1) (c - (o + 1) + 1) bd0 (by omega) (by omega) (by omega) (fun x hx => by rw [if_neg (by omega)]; exact hd x hx)⟩
theorem eo_ypair {post : SY → Prop} {J185 J195 : eo_J} {st : en_T} {o c t : Nat} {e : Nat → Nat} (hL : L ≤ 64) (he : ∀ x, x < L → e x ≤ L) (hoc : o < c) (hc : c < L) (hw : en_W L e st) (ho : st.1 o < st.2.1 o) (hcc : st.1 c < st.2.1 c) (hv : eo_V L st b_lo b_hi b_dropped)
    (h : ∀ bl bh bd, eo_V L (en_pr st o c) bl bh bd → J195 (nI (t + 1)) S b_kinds b_chars W b_pos b_till b_mark ((en_pr st o c).2.2.1) g fl ln bl bh lv bd) :
    wY_match_313 post J185 J195 (nI c) (nI t) (nI o) (nI (en_u st o c)) g_limit (nI L) g_count (nI L) S b_kinds b_chars W b_pos b_till b_mark st.2.2.1 g fl ln b_lo b_hi lv b_dropped := by
  have u := en_u_le ho hcc
  have wo := hw o (by omega)
  have wc := hw c hc
  have eo := he o (by omega)
  have ec := he c hc
  have co : (nI o).toNatClampNeg = o := nI_clamp (by omega)
  have cc : (nI c).toNatClampNeg = c := nI_clamp (by omega)
  have vo : vp_in (nI o) 64 := vp_in_nI (by omega) (by omega)
  have vc : vp_in (nI c) 64 := vp_in_nI (by omega) (by omega)
  obtain ⟨o1, o2, o3⟩ := hv o (by omega)
  obtain ⟨c1, c2, c3⟩ := hv c hc
  unfold wY_match_313
  rw [co, cc, o2]
  refine ⟨vo, vo, nm_r (e' := upd b_hi o (nI (st.2.1 o - en_u st o c))) (by rw [pk_sub (by omega)]) ?_⟩
  rw [ea_us, c1, nI_add, nI_add, ea_s (by omega), ea_s (by omega)]
  rw [nI_clamp (by omega : st.2.1 o - en_u st o c + en_u st o c - 1 < 2 ^ 31), nI_clamp (by omega : st.1 c + en_u st o c - 1 < 2 ^ 31), nI_clamp (by omega : st.2.1 o - en_u st o c < 2 ^ 31), nI_clamp (by omega : st.1 c < 2 ^ 31)]
  refine ⟨vo, vp_in_nI (by omega) (by omega), nm_e ⟨vc, vp_in_nI (by omega) (by omega), nm_e ⟨vo, vp_in_nI (by omega) (by omega), nm_e ⟨vc, vp_in_nI (by omega) (by omega), nm_r (e' := (en_pr st o c).2.2.1) (by rw [ea_4]; rfl) ⟨vc, vc, nm_e (nm_r (nI_1 o) ?_)⟩⟩⟩⟩⟩
  refine eo_ydrop (st := st) hL hoc hc (fun x hx => (hv x hx).2.2) (fun bd hbd => h _ _ bd (fun x hx => ⟨?_, ?_, hbd x hx⟩))
  · show _ = nI (if x = c then _ else _)
    by_cases e1 : x = c
    · subst e1; rw [ea_us, if_pos rfl]
    · rw [ea_un e1, if_neg e1]; exact (hv x hx).1
  · show _ = nI (if x = o then _ else _)
    by_cases e1 : x = o
    · subst e1; rw [ea_us, if_pos rfl]
    · rw [ea_un e1, if_neg e1]; exact (hv x hx).2.1
theorem eo_yfind {post : SY → Prop} {J185 J195 : eo_J} {st : en_T} {c t : Nat} {e : Nat → Nat} (hL : L ≤ 64) (he : ∀ x, x < L → e x ≤ L) (hc : c < L) (hw : en_W L e st) (hK : eo_K S lv L L ln fl) (hv : eo_V L st b_lo b_hi b_dropped)
    (h0 : en_fo (en_F S lv g L) st c c = none → J185 (nI (c + 1)) S b_kinds b_chars W b_pos b_till b_mark st.2.2.1 g fl ln b_lo b_hi lv b_dropped)
    (h1 : ∀ o, en_fo (en_F S lv g L) st c c = some o → wY_match_313 post J185 J195 (nI c) (nI t) (nI o) (nI (en_u st o c)) g_limit (nI L) g_count (nI L) S b_kinds b_chars W b_pos b_till b_mark st.2.2.1 g fl ln b_lo b_hi lv b_dropped) :
    ∃ m, wY_match_241 post J185 J195 (nI c) (nI t) g_limit (nI L) g_count (nI L) S b_kinds b_chars W b_pos b_till b_mark st.2.2.1 g fl ln b_lo b_hi lv b_dropped m (-1) 0 := by
  have key : ∀ d k m x, k + d = c → d < m → (x = match en_fo (en_F S lv g L) st c k with | none => -1 | some o => nI o) → wY_match_241 post J185 J195 (nI c) (nI t) g_limit (nI L) g_count (nI L) S b_kinds b_chars W b_pos b_till b_mark st.2.2.1 g fl ln b_lo b_hi lv b_dropped m x (nI k) := by
    intro d
    induction d with
    | zero =>
      intro k m x h2 h3 h4
      obtain ⟨m, rfl⟩ : ∃ z, m = z + 1 := ⟨m - 1, by omega⟩
      have e : k = c := by omega
      subst e
      refine br_t (nI_le (Nat.le_refl _) (by omega)) ?_
      cases y : en_fo (en_F S lv g L) st k k with
      | none =>
        rw [y] at h4
        subst h4
        exact br_t rfl (nm_r (nI_1 k) (h0 y))
      | some o =>
        rw [y] at h4
        subst h4
        have q := en_fo_s y
        have w := h1 o y
        have wo := hw o (by omega)
        have wc := hw k hc
        have eo := he o (by omega)
        have ec := he k hc
        have vo : vp_in (nI o) 64 := vp_in_nI (by omega) (by omega)
        have vc : vp_in (nI k) 64 := vp_in_nI (by omega) (by omega)
        obtain ⟨o1, o2, o3⟩ := hv o (by omega)
        obtain ⟨c1, c2, c3⟩ := hv k hc
        refine br_f (ea_ne1 (by omega)) ⟨vo, vo, ?_⟩
        rw [nI_clamp (by omega : o < 2 ^ 31), nI_clamp (by omega : k < 2 ^ 31), o1, o2, c1, c2, pk_sub (by omega), pk_sub (by omega)]
        refine pk_lt (st.2.1 o - st.1 o) 2 (fun a => ?_) (fun a => ⟨vc, vc, pk_lt (st.2.1 k - st.1 k) 2 (fun b => ?_) (fun b => ?_)⟩)
        · unfold en_u at w
          rw [if_neg (by omega)] at w
          exact w
        · unfold en_u at w
          rw [if_neg (by omega)] at w
          exact w
        · unfold en_u at w
          rw [if_pos (by omega)] at w
          exact w
    | succ d ih =>
      intro k m x h2 h3 h4
      obtain ⟨m, rfl⟩ : ∃ z, m = z + 1 := ⟨m - 1, by omega⟩
      have wk := hw k (by omega)
      have ek := he k (by omega)
      obtain ⟨k1, k2, k3⟩ := hv k (by omega)
      refine br_f (nI_ge (by omega) (by omega)) (eo_ypairs hL (by omega) hc hK k1 k2 k3 (by omega) (by omega) (ea_br (fun z => nm_r (nI_1 k) (ih (k + 1) m x (by omega) (by omega) ?_)) (fun z => nm_r (nI_1 k) (ih (k + 1) m (nI k) (by omega) (by omega) ?_))))
      · rw [h4]
        show _ = match (if en_ok (en_F S lv g L) st k c = true then some k else en_fo (en_F S lv g L) st c k) with | none => -1 | some o => nI o
        rw [z]
        rfl
      · show _ = match (if en_ok (en_F S lv g L) st k c = true then some k else en_fo (en_F S lv g L) st c k) with | none => -1 | some o => nI o
        rw [z]
        rfl
  exact ⟨_, key c 0 (c + 1) (-1) (by omega) (by omega) rfl⟩
theorem eo_yturns {post : SY → Prop} {J185 : eo_J} {c : Nat} {e : Nat → Nat} (hL : L ≤ 64) (he : ∀ x, x < L → e x ≤ L) (hc : c < L) (hK : eo_K S lv L L ln fl) :
    ∀ (f t m : Nat) (st : en_T) (bl bh bd : Nat → Int32), t + f = 64 → f < m → en_V L e c st → eo_V L st bl bh bd →
    (∀ bl' bh' bd', eo_V L (if ek_cl S lv L c = true then en_cs (en_F S lv g L) c f st else st) bl' bh' bd' → J185 (nI (c + 1)) S b_kinds b_chars W b_pos b_till b_mark ((if ek_cl S lv L c = true then en_cs (en_F S lv g L) c f st else st).2.2.1) g fl ln bl' bh' lv bd') →
    wY_match_195 post J185 (nI c) g_limit (nI L) g_count (nI L) m (nI t) S b_kinds b_chars W b_pos b_till b_mark st.2.2.1 g fl ln bl bh lv bd := by
  intro f
  induction f with
  | zero =>
    intro t m st bl bh bd h1 h2 h3 h4 h5
    obtain ⟨m, rfl⟩ : ∃ z, m = z + 1 := ⟨m - 1, by omega⟩
    have q := h5 bl bh bd (by
      by_cases z : ek_cl S lv L c = true
      · rw [if_pos z]; exact h4
      · rw [if_neg z]; exact h4)
    have e0 : (if ek_cl S lv L c = true then en_cs (en_F S lv g L) c 0 st else st) = st := by
      by_cases z : ek_cl S lv L c = true
      · rw [if_pos z]; rfl
      · rw [if_neg z]
    rw [e0] at q
    exact br_t (nI_le (a := 64) (by omega) (by omega)) (nm_r (nI_1 c) q)
  | succ f ih =>
    intro t m st bl bh bd h1 h2 h3 h4 h5
    obtain ⟨m, rfl⟩ : ∃ z, m = z + 1 := ⟨m - 1, by omega⟩
    have wc := h3.1 c hc
    have ec := he c hc
    have cc : (nI c).toNatClampNeg = c := nI_clamp (by omega)
    have vc : vp_in (nI c) 64 := vp_in_nI (by omega) (by omega)
    obtain ⟨c1, c2, c3⟩ := h4 c hc
    rw [h3.2 c (Nat.le_refl _) hc] at c3
    refine br_f (nI_ge (b := 64) (by omega) (by omega)) ⟨vc, ?_⟩
    rw [cc, c3, c1, c2, (hK c hc).2]
    have stop : (if ek_cl S lv L c = true then en_cs (en_F S lv g L) c (f + 1) st else st) = st → J185 (nI (c + 1)) S b_kinds b_chars W b_pos b_till b_mark st.2.2.1 g fl ln bl bh lv bd := by
      intro z
      rw [z] at h5
      exact h5 bl bh bd h4
    refine br_t rfl ⟨vc, vc, pk_le (st.2.1 c) (st.1 c) (fun a => nm_r (nI_1 c) (stop ?_)) (fun a => ⟨vc, br_c (fun b => nm_r (nI_1 c) (stop ?_)) (fun b => ?_)⟩)⟩
    · by_cases z : ek_cl S lv L c = true
      · rw [if_pos z]; exact en_cs_0 (by omega)
      · rw [if_neg z]
    · rw [en_fl2.mp b]; rfl
    · have cl : ek_cl S lv L c = true := by
        rw [en_fl2] at b
        cases q : ek_cl S lv L c
        · exact absurd q b
        · rfl
      refine eo_yfind hL he hc h3.1 hK h4 (fun y => stop ?_) (fun o y => ?_)
      · rw [if_pos cl]; exact en_cs_n y
      · have q := en_fo_s y
        have ho := (en_ok_i q.2.1).2.1
        refine eo_ypair hL he q.1 hc h3.1 ho a h4 (fun bl' bh' bd' hv => ih (t + 1) m _ bl' bh' bd' (by omega) (by omega) (en_V_pr h3 hc a y) hv (fun bl2 bh2 bd2 hv2 => ?_))
        have e2 : (if ek_cl S lv L c = true then en_cs (en_F S lv g L) c (f + 1) st else st) = (if ek_cl S lv L c = true then en_cs (en_F S lv g L) c f (en_pr st o c) else en_pr st o c) := by
          rw [if_pos cl, if_pos cl]; exact en_cs_s a y
        rw [e2] at h5
        exact h5 bl2 bh2 bd2 hv2
theorem eo_ymatch2 {post : SY → Prop} {st0 : en_T} {e : Nat → Nat} {bl0 bh0 bd0 : Nat → Int32} (hL : L ≤ 64) (he : ∀ x, x < L → e x ≤ L) (hK : eo_K S lv L L ln fl) (h0 : en_V L e 0 st0) (hv0 : eo_V L st0 bl0 bh0 bd0)
    (h : ∀ bl bh bd, post (g_limit, (nI L), g_count, (nI L), S, b_kinds, b_chars, W, b_pos, b_till, b_mark, ((en_YS (en_F S lv g L) (ek_cl S lv L) st0 L).2.2.1), g, fl, ln, bl, bh, lv, bd)) :
    ∃ m, wY_match_185 post g_limit (nI L) g_count (nI L) m 0 S b_kinds b_chars W b_pos b_till b_mark st0.2.2.1 g fl ln bl0 bh0 lv bd0 := by
  have key : ∀ d c m bl bh bd, c + d = L → d < m → eo_V L (en_YS (en_F S lv g L) (ek_cl S lv L) st0 c) bl bh bd → wY_match_185 post g_limit (nI L) g_count (nI L) m (nI c) S b_kinds b_chars W b_pos b_till b_mark ((en_YS (en_F S lv g L) (ek_cl S lv L) st0 c).2.2.1) g fl ln bl bh lv bd := by
    intro d
    induction d with
    | zero =>
      intro c m bl bh bd h1 h2 h3
      obtain ⟨m, rfl⟩ : ∃ z, m = z + 1 := ⟨m - 1, by omega⟩
      have e : c = L := by omega
      subst e
      exact br_t (nI_le (Nat.le_refl _) (by omega)) (h bl bh bd)
    | succ d ih =>
      intro c m bl bh bd h1 h2 h3
      obtain ⟨m, rfl⟩ : ∃ z, m = z + 1 := ⟨m - 1, by omega⟩
      refine br_f (nI_ge (by omega) (by omega)) ⟨65, eo_yturns (e := e) hL he (by omega) hK 64 0 65 _ bl bh bd (by omega) (by omega) (en_V_YS h0 c (by omega)) h3 (fun bl' bh' bd' hv => ?_)⟩
      exact ih (c + 1) m bl' bh' bd' (by omega) (by omega) hv
  exact ⟨_, key L 0 (L + 1) bl0 bh0 bd0 (by omega) (by omega) hv0⟩
end EO
end
section
/-! parse: Y's runs by cell -/
theorem ep_uu {f : Nat → Int32} {i : Nat} {a b : Int32} : upd (upd f i a) i b = upd f i b := by
  funext x
  by_cases e : x = i
  · subst e; rw [ea_us, ea_us]
  · rw [ea_un e, ea_un e, ea_un e]
theorem ep_ok32 : ea_ok 32 := ⟨by decide, by decide⟩
section EP
variable {g_limit g_count : Int32} {b_kinds b_chars b_pos b_till b_mark b_out b_dropped : Nat → Int32} {L : Nat} {S W lv g : Nat → Int32}
theorem ep_y146 {post : SY → Prop} {J : eo_J} {i : Nat} {ln fl bl bh : Nat → Int32} (hL : L ≤ 64) (hi : i < L) (hS : ∀ x, x < L → ea_ok (S x)) (hW : ∀ x, x < L → W x = S x) (hb : bh i = nI (ek_e S lv L i))
    (h : J (nI (i + 1)) S b_kinds b_chars W b_pos b_till b_mark b_out g (upd fl i (ea_fl (ek_op S lv L i) (ek_cl S lv L i))) (upd ln i (nI (en_ln S lv L i))) bl bh lv b_dropped) :
    wY_match_146 post J (nI i) g_limit (nI L) g_count (nI L) S b_kinds b_chars W b_pos b_till b_mark b_out g fl ln bl bh lv b_dropped := by
  have ci : (nI i).toNatClampNeg = i := nI_clamp (by omega)
  have vi : vp_in (nI i) 64 := vp_in_nI (by omega) (by omega)
  have el := ek_e_le (S := S) (lv := lv) hi
  unfold wY_match_146
  rw [ci, hb]
  refine ⟨vi, vi, nm_r (e' := upd ln i (nI (en_ln S lv L i))) (by rw [pk_sub (by omega)]; rfl) ⟨vi, ea_yfl (b := ek_bef S i) (a := ek_aft S lv L i) (m := S i) ?_ ?_ ?_ ?_ ?_ ⟨vi, nm_e (nm_r (nI_1 i) h)⟩⟩⟩
  · unfold ek_bef
    by_cases z : i = 0
    · rw [if_pos z]; exact ep_ok32
    · rw [if_neg z]; exact hS _ (by omega)
  · unfold ek_aft
    by_cases z : ek_e S lv L i < L
    · rw [if_pos z]; exact hS _ z
    · rw [if_neg z]; exact ep_ok32
  · intro q hq
    unfold ek_bef at hq
    by_cases z : i = 0
    · rw [if_pos z] at hq
      subst z
      exact ea_yat3 hq
    · rw [if_neg z] at hq
      rw [ea_s (by omega : 0 < i)]
      exact ea_yat (by omega) (by omega) (by rw [hW _ (by omega)]; exact hq)
  · intro q hq
    unfold ek_aft at hq
    by_cases z : ek_e S lv L i < L
    · rw [if_pos z] at hq
      exact ea_yat (by omega) z (by rw [hW _ z]; exact hq)
    · rw [if_neg z] at hq
      exact ea_yat2 (by omega) (by omega) (by omega) hq
  · intro q hq
    exact ea_yat (by omega) hi (by rw [hW _ hi]; exact hq)
theorem ep_y78 {post : SY → Prop} {J : eo_J} {i : Nat} {ln fl bl bh : Nat → Int32} {z0 : Int32} (hL : L ≤ 64) (hi : i < L) (hS : ∀ x, x < L → ea_ok (S x)) (hW : ∀ x, x < L → W x = S x)
    (hz : (ek_fs S lv L i ∧ z0 = 1) ∨ (¬ ek_fs S lv L i ∧ z0 = 0))
    (h : J (nI (i + 1)) S b_kinds b_chars W b_pos b_till b_mark b_out g (upd fl i (ea_fl (ek_op S lv L i) (ek_cl S lv L i))) (upd ln i (nI (en_ln S lv L i))) (upd bl i (nI i)) (upd bh i (nI (ek_e S lv L i))) lv b_dropped) :
    wY_match_78 post J (nI i) z0 g_limit (nI L) g_count (nI L) S b_kinds b_chars W b_pos b_till b_mark b_out g fl ln bl bh lv b_dropped := by
  have ci : (nI i).toNatClampNeg = i := nI_clamp (by omega)
  have vi : vp_in (nI i) 64 := vp_in_nI (by omega) (by omega)
  have h146 := ep_y146 (post := post) (b_kinds := b_kinds) (b_chars := b_chars) (b_pos := b_pos) (b_till := b_till) (b_mark := b_mark) (b_out := b_out) (b_dropped := b_dropped) (g_limit := g_limit) (g_count := g_count) (ln := ln) (fl := fl) (bl := upd bl i (nI i)) (bh := upd bh i (nI (ek_e S lv L i))) hL hi hS hW ea_us h
  unfold wY_match_78
  rw [ci]
  refine ⟨vi, nm_e ⟨vi, nm_e ?_⟩⟩
  rcases hz with ⟨hf, z⟩ | ⟨hf, z⟩
  · subst z
    have q := ek_e_f hf
    have key : ∀ d k m, k + d = ek_e S lv L i → d < m → i ≤ k → wY_match_95 post J (nI i) 1 g_limit (nI L) g_count (nI L) m (nI k) S b_kinds b_chars W b_pos b_till b_mark b_out g fl ln (upd bl i (nI i)) (upd bh i (nI k)) lv b_dropped := by
      intro d
      induction d with
      | zero =>
        intro k m h1 h2 h3
        obtain ⟨m, rfl⟩ : ∃ z, m = z + 1 := ⟨m - 1, by omega⟩
        have e : k = ek_e S lv L i := by omega
        subst e
        refine br_f (by decide) (pk_le L (ek_e S lv L i) (fun a => h146) (fun a => ⟨vp_in_nI (by omega) (by omega), ?_⟩))
        rw [nI_clamp (by omega : ek_e S lv L i < 2 ^ 31), ci]
        exact br_c (fun b => h146) (fun b => ⟨vp_in_nI (by omega) (by omega), vi, br_c (fun d => absurd ⟨b, d⟩ (q.2.2.2 a)) (fun d => h146)⟩)
      | succ d ih =>
        intro k m h1 h2 h3
        obtain ⟨m, rfl⟩ : ∃ z, m = z + 1 := ⟨m - 1, by omega⟩
        have c := q.2.2.1 k h3 (by omega)
        refine br_f (by decide) (br_f (nI_ge (by omega) (by omega)) ⟨vp_in_nI (by omega) (by omega), ?_⟩)
        rw [nI_clamp (by omega : k < 2 ^ 31), ci]
        exact br_f c.1 ⟨vp_in_nI (by omega) (by omega), vi, br_t c.2 ⟨vi, nm_r (e' := upd bh i (nI (k + 1))) (by rw [ep_uu, nI_1]) (nm_r (nI_1 k) (ih (k + 1) m (by omega) (by omega) (by omega)))⟩⟩
    exact ⟨_, key (ek_e S lv L i - i) i (ek_e S lv L i - i + 1) (by omega) (by omega) (by omega)⟩
  · subst z
    rw [ek_e_n hf] at h146
    exact ⟨1, br_t rfl h146⟩
theorem ep_yruns {post : SY → Prop} {ln0 fl0 bl0 bh0 : Nat → Int32} (hL : L ≤ 64) (hS : ∀ x, x < L → ea_ok (S x)) (hW : ∀ x, x < L → W x = S x)
    (h : ∀ ln fl bl bh, eo_K S lv L L ln fl → (∀ x, x < L → bl x = nI x ∧ bh x = nI (ek_e S lv L x)) → ∃ m, wY_match_185 post g_limit (nI L) g_count (nI L) m 0 S b_kinds b_chars W b_pos b_till b_mark b_out g fl ln bl bh lv b_dropped) :
    wpY_match post (g_limit, (nI L), g_count, (nI L), S, b_kinds, b_chars, W, b_pos, b_till, b_mark, b_out, g, fl0, ln0, bl0, bh0, lv, b_dropped) := by
  have key : ∀ d i m ln fl bl bh, i + d = L → d < m → eo_K S lv L i ln fl → (∀ x, x < i → bl x = nI x ∧ bh x = nI (ek_e S lv L x)) → wY_match_2 post g_limit (nI L) g_count (nI L) m (nI i) S b_kinds b_chars W b_pos b_till b_mark b_out g fl ln bl bh lv b_dropped := by
    intro d
    induction d with
    | zero =>
      intro i m ln fl bl bh h1 h2 h3 h4
      obtain ⟨m, rfl⟩ : ∃ z, m = z + 1 := ⟨m - 1, by omega⟩
      have e : i = L := by omega
      subst e
      exact br_t (nI_le (Nat.le_refl _) (by omega)) (h ln fl bl bh h3 h4)
    | succ d ih =>
      intro i m ln fl bl bh h1 h2 h3 h4
      obtain ⟨m, rfl⟩ : ∃ z, m = z + 1 := ⟨m - 1, by omega⟩
      have ci : (nI i).toNatClampNeg = i := nI_clamp (by omega)
      have vi : vp_in (nI i) 64 := vp_in_nI (by omega) (by omega)
      have q := ih (i + 1) m (upd ln i (nI (en_ln S lv L i))) (upd fl i (ea_fl (ek_op S lv L i) (ek_cl S lv L i))) (upd bl i (nI i)) (upd bh i (nI (ek_e S lv L i))) (by omega) (by omega) (fun x hx => by
        by_cases e : x = i
        · subst e; rw [ea_us, ea_us]; exact ⟨rfl, rfl⟩
        · rw [ea_un e, ea_un e]; exact h3 x (by omega)) (fun x hx => by
        by_cases e : x = i
        · subst e; rw [ea_us, ea_us]; exact ⟨rfl, rfl⟩
        · rw [ea_un e, ea_un e]; exact h4 x (by omega))
      have m77 : ¬ ek_fs S lv L i → wY_match_77 post (wY_match_2 post g_limit (nI L) g_count (nI L) m) (nI i) g_limit (nI L) g_count (nI L) S b_kinds b_chars W b_pos b_till b_mark b_out g fl ln bl bh lv b_dropped := fun hf =>
        ep_y78 hL (by omega) hS hW (Or.inr ⟨hf, rfl⟩) q
      have m73 : ek_fs S lv L i → wY_match_73 post (wY_match_2 post g_limit (nI L) g_count (nI L) m) (nI i) g_limit (nI L) g_count (nI L) S b_kinds b_chars W b_pos b_till b_mark b_out g fl ln bl bh lv b_dropped := fun hf =>
        ep_y78 hL (by omega) hS hW (Or.inl ⟨hf, rfl⟩) q
      have m41 : ek_st S lv L i → wY_match_41 post (wY_match_2 post g_limit (nI L) g_count (nI L) m) (nI i) g_limit (nI L) g_count (nI L) S b_kinds b_chars W b_pos b_till b_mark b_out g fl ln bl bh lv b_dropped := by
        intro hs
        by_cases z : i = 0
        · subst z
          exact br_t (by decide) (m73 ⟨hs, fun j => by have := j.1; omega⟩)
        · refine br_f (nI_nle (by omega) (by omega)) ?_
          rw [ea_s (by omega : 0 < i), ci, nI_clamp (by omega : i - 1 < 2 ^ 31)]
          exact ⟨vp_in_nI (by omega) (by omega), br_c (fun y => m73 ⟨hs, fun j => j.2.1 y⟩) (fun y => ⟨vp_in_nI (by omega) (by omega), vi, br_c (fun x => m77 (fun hf => hf.2 ⟨by omega, y, x⟩)) (fun x => m73 ⟨hs, fun j => x j.2.2⟩)⟩)⟩
      refine br_f (nI_ge (by omega) (by omega)) ⟨vi, ?_⟩
      rw [ci]
      refine br_c (fun z => m77 (fun hf => hf.1.2.1 z)) (fun z => ⟨vi, br_c (fun y => m41 ⟨by omega, z, Or.inl y⟩) (fun y => ⟨vi, br_c (fun x => m41 ⟨by omega, z, Or.inr x⟩) (fun x => m77 (fun hf => ?_))⟩)⟩)
      rcases hf.1.2.2 with q | q
      · exact y q
      · exact x q
  exact ⟨_, key L 0 (L + 1) ln0 fl0 bl0 bh0 (by omega) (by omega) (fun x hx => by omega) (fun x hx => by omega)⟩
end EP
end
section
/-! parse: facts of the pure trace: frames, groups -/
section ES
variable {S lv g : Nat → Int32} {L : Nat} {st : en_T} {o c k x : Nat}
noncomputable def es_0 (S lv : Nat → Int32) (L : Nat) (ck : Nat → Int32) : en_T := (fun x => x, fun x => ek_e S lv L x, ck, fun _ => false)
theorem es_V0 {ck : Nat → Int32} : en_V L (ek_e S lv L) 0 (es_0 S lv L ck) :=
  ⟨fun x hx => by
    have := ek_e_le (S := S) (lv := lv) hx
    show x ≤ x ∧ x ≤ ek_e S lv L x ∧ ek_e S lv L x ≤ ek_e S lv L x
    omega, fun x _ _ => rfl⟩
theorem es_fs (h : en_W L (ek_e S lv L) st) (hx : x < L) (h1 : st.1 x < st.2.1 x) : ek_fs S lv L x := by
  apply Classical.byContradiction
  intro z
  have := h x hx
  rw [ek_e_n z] at this
  omega
theorem es_out {f : Nat → Int32} {a b u : Nat} (h1 : x ≠ a + u - 1) (h2 : x ≠ b + u - 1) (h3 : x ≠ a) (h4 : x ≠ b) : en_out f a b u x = f x := by
  unfold en_out
  rw [ea_un h4, ea_un h3, ea_un h2, ea_un h1]
theorem es_out_c {f f' : Nat → Int32} {a b u : Nat} (h : f x = f' x) : en_out f a b u x = en_out f' a b u x := by
  unfold en_out
  by_cases h4 : x = b
  · subst h4; rw [ea_us, ea_us]
  · rw [ea_un h4, ea_un h4]
    by_cases h3 : x = a
    · subst h3; rw [ea_us, ea_us]
    · rw [ea_un h3, ea_un h3]
      by_cases h2 : x = b + u - 1
      · subst h2; rw [ea_us, ea_us]
      · rw [ea_un h2, ea_un h2]
        by_cases h1 : x = a + u - 1
        · subst h1; rw [ea_us, ea_us]
        · rw [ea_un h1, ea_un h1]; exact h
/-- cell x lies in the run that begins at k -/
def es_in (S lv : Nat → Int32) (L k x : Nat) : Prop := k ≤ x ∧ x < ek_e S lv L k
theorem es_in_1 (h : ek_fs S lv L k) (h' : ek_fs S lv L o) (h1 : es_in S lv L k x) (h2 : es_in S lv L o x) : k = o := by
  rcases Nat.lt_trichotomy k o with w | w | w
  · have := ek_dis h h' w
    have := h1.2
    have := h2.1
    omega
  · exact w
  · have := ek_dis h' h w
    have := h2.2
    have := h1.1
    omega
theorem es_pr_out (h : en_W L (ek_e S lv L) st) (hc : c < L) (hoc : o < c) (h1 : st.1 o < st.2.1 o) (h2 : st.1 c < st.2.1 c) (n1 : ¬ es_in S lv L o x) (n2 : ¬ es_in S lv L c x) : (en_pr st o c).2.2.1 x = st.2.2.1 x := by
  have u := en_u_le h1 h2
  have wo := h o (by omega)
  have wc := h c hc
  unfold es_in at n1 n2
  exact es_out (by omega) (by omega) (by omega) (by omega)
/-- the two states agree on the run at k -/
def es_Eq (S lv : Nat → Int32) (L : Nat) (st st' : en_T) (k : Nat) : Prop := st.1 k = st'.1 k ∧ st.2.1 k = st'.2.1 k ∧ ∀ x, es_in S lv L k x → st.2.2.1 x = st'.2.2.1 x
theorem es_Eq_r {k : Nat} : es_Eq S lv L st st k := ⟨rfl, rfl, fun _ _ => rfl⟩
theorem es_F_g (h : en_F S lv g L o c = true) : ek_op S lv L o = true ∧ S o = S c ∧ g o = g c := by
  unfold en_F at h
  rw [Bool.and_eq_true, Bool.and_eq_true, Bool.and_eq_true] at h
  exact ⟨h.1.1.1, of_decide_eq_true h.1.1.2, of_decide_eq_true h.1.2⟩
theorem es_cs_f (hc : c < L) (hk : ek_fs S lv L k) (hg : ¬ g k = g c) : ∀ f st, en_V L (ek_e S lv L) c st → es_Eq S lv L (en_cs (en_F S lv g L) c f st) st k := by
  intro f
  induction f with
  | zero => intro st _; exact es_Eq_r
  | succ f ih =>
    intro st hv
    by_cases z : st.1 c < st.2.1 c
    · cases y : en_fo (en_F S lv g L) st c c with
      | none => rw [en_cs_n y]; exact es_Eq_r
      | some o =>
        rw [en_cs_s z y]
        have q := en_fo_s y
        have w := en_ok_i q.2.1
        have go := es_F_g w.1
        have i := ih _ (en_V_pr hv hc z y)
        have fo : ek_fs S lv L o := es_fs hv.1 (by omega) w.2.1
        have fc : ek_fs S lv L c := es_fs hv.1 hc z
        have ko : k ≠ o := fun e => hg (by rw [e]; exact go.2.2)
        have kc : k ≠ c := fun e => hg (by rw [e])
        refine ⟨i.1.trans ?_, i.2.1.trans ?_, fun x hx => (i.2.2 x hx).trans ?_⟩
        · show (if k = c then _ else _) = _
          rw [if_neg kc]
        · show (if k = o then _ else _) = _
          rw [if_neg ko]
        · exact es_pr_out hv.1 hc q.1 w.2.1 z (fun n => ko (es_in_1 hk fo hx n)) (fun n => kc (es_in_1 hk fc hx n))
    · rw [en_cs_0 z]; exact es_Eq_r
theorem es_cs_d (hc : c < L) (hd : ∀ o, o < k → k < c → ¬ g o = g c) : ∀ f st, (en_cs (en_F S lv g L) c f st).2.2.2 k = st.2.2.2 k := by
  intro f
  induction f with
  | zero => intro st; rfl
  | succ f ih =>
    intro st
    by_cases z : st.1 c < st.2.1 c
    · cases y : en_fo (en_F S lv g L) st c c with
      | none => rw [en_cs_n y]
      | some o =>
        rw [en_cs_s z y, ih]
        have q := en_fo_s y
        have w := en_ok_i q.2.1
        have go := es_F_g w.1
        show (if o < k ∧ k < c then true else st.2.2.2 k) = _
        rw [if_neg]
        intro ⟨a, b⟩
        exact hd o a b go.2.2
    · rw [en_cs_0 z]
/-- cells outside all runs stay -/
theorem es_cs_x (hc : c < L) (hx : ∀ k, ek_fs S lv L k → ¬ es_in S lv L k x) : ∀ f st, en_V L (ek_e S lv L) c st → (en_cs (en_F S lv g L) c f st).2.2.1 x = st.2.2.1 x := by
  intro f
  induction f with
  | zero => intro st _; rfl
  | succ f ih =>
    intro st hv
    by_cases z : st.1 c < st.2.1 c
    · cases y : en_fo (en_F S lv g L) st c c with
      | none => rw [en_cs_n y]
      | some o =>
        rw [en_cs_s z y]
        have q := en_fo_s y
        have w := en_ok_i q.2.1
        have fo : ek_fs S lv L o := es_fs hv.1 (by omega) w.2.1
        have fc : ek_fs S lv L c := es_fs hv.1 hc z
        rw [ih _ (en_V_pr hv hc z y)]
        exact es_pr_out hv.1 hc q.1 w.2.1 z (hx o fo) (hx c fc)
    · rw [en_cs_0 z]
noncomputable def es_Y (S lv g : Nat → Int32) (L : Nat) (ck : Nat → Int32) (c : Nat) : en_T := en_YS (en_F S lv g L) (ek_cl S lv L) (es_0 S lv L ck) c
theorem es_Y_V {ck : Nat → Int32} (hc : c ≤ L) : en_V L (ek_e S lv L) c (es_Y S lv g L ck c) := en_V_YS es_V0 c hc
theorem es_Y_s {ck : Nat → Int32} : es_Y S lv g L ck (c + 1) = if ek_cl S lv L c = true then en_cs (en_F S lv g L) c 64 (es_Y S lv g L ck c) else es_Y S lv g L ck c := rfl
theorem es_Y_x {ck : Nat → Int32} (hx : ∀ k, ek_fs S lv L k → ¬ es_in S lv L k x) : ∀ c, c ≤ L → (es_Y S lv g L ck c).2.2.1 x = ck x := by
  intro c
  induction c with
  | zero => intro _; rfl
  | succ c ih =>
    intro hc
    rw [es_Y_s]
    by_cases z : ek_cl S lv L c = true
    · rw [if_pos z, es_cs_x (by omega) hx 64 _ (es_Y_V (by omega))]; exact ih (by omega)
    · rw [if_neg z]; exact ih (by omega)
/-- cells where no run begins do nothing -/
theorem es_Y_n {ck : Nat → Int32} (hc : c < L) (hn : ¬ ek_fs S lv L c) : es_Y S lv g L ck (c + 1) = es_Y S lv g L ck c := by
  rw [es_Y_s]
  by_cases z : ek_cl S lv L c = true
  · rw [if_pos z]
    refine en_cs_0 (fun y => hn (es_fs (es_Y_V (by omega) : en_V L (ek_e S lv L) c (es_Y S lv g L ck c)).1 hc y))
  · rw [if_neg z]
theorem es_Y_r {ck : Nat → Int32} {a : Nat} : ∀ d, a + d ≤ L → (∀ x, a ≤ x → x < a + d → ¬ ek_fs S lv L x) → es_Y S lv g L ck (a + d) = es_Y S lv g L ck a := by
  intro d
  induction d with
  | zero => intro _ _; rfl
  | succ d ih =>
    intro h1 h2
    show es_Y S lv g L ck (a + d + 1) = _
    rw [es_Y_n (by omega) (h2 _ (by omega) (by omega))]
    exact ih (by omega) (fun x h3 h4 => h2 x h3 (by omega))
end ES
/-- groups by number -/
def et_N (S lv g : Nat → Int32) (L lc : Nat) (gx : Nat → Int32) (ga : Nat → Nat) : Prop :=
  (∀ x, x < L → gx x = nI (ga x) ∧ ga x ≤ lc) ∧ (∀ x y, x < L → y < L → (ga x = ga y ↔ g x = g y)) ∧
  (∀ o k c d, o < k → k < c → c < d → d < L → g o = g c → g k = g d → g o = g k)
theorem et_ex {S lv g gx : Nat → Int32} {L lc : Nat} {rk : Nat → Nat} (hL : L ≤ 64) (G : ei_G (eh_Lk S lv L) L gx lc rk) (H : ei_GY (eh_Lk S lv L) L g) : ∃ ga, et_N S lv g L lc gx ga := by
  obtain ⟨g1, g2, g3, g4⟩ := G
  obtain ⟨h1, h2⟩ := H
  -- each cell is in one link or in none
  have cs : ∀ x, x < L → ∃ n, gx x = nI n ∧ n ≤ lc ∧ ((∃ a b, eh_Lk S lv L a b ∧ a < x ∧ x < b ∧ n = rk a ∧ g x = nI a) ∨ ((¬ ∃ a b, eh_Lk S lv L a b ∧ a < x ∧ x < b) ∧ n = 0 ∧ g x = -1)) := by
    intro x hx
    by_cases z : ∃ a b, eh_Lk S lv L a b ∧ a < x ∧ x < b
    · obtain ⟨a, b, l, x1, x2⟩ := z
      exact ⟨rk a, g1 a b x l x1 x2, (g3 a b l).2, Or.inl ⟨a, b, l, x1, x2, rfl, h1 a b x l x1 x2⟩⟩
    · exact ⟨0, g2 x hx z, by omega, Or.inr ⟨z, rfl, h2 x hx z⟩⟩
  have pick : ∃ ga : Nat → Nat, ∀ x, x < L → gx x = nI (ga x) ∧ ga x ≤ lc ∧ ((∃ a b, eh_Lk S lv L a b ∧ a < x ∧ x < b ∧ ga x = rk a ∧ g x = nI a) ∨ ((¬ ∃ a b, eh_Lk S lv L a b ∧ a < x ∧ x < b) ∧ ga x = 0 ∧ g x = -1)) := by
    have : ∀ x, ∃ n, x < L → gx x = nI n ∧ n ≤ lc ∧ ((∃ a b, eh_Lk S lv L a b ∧ a < x ∧ x < b ∧ n = rk a ∧ g x = nI a) ∨ ((¬ ∃ a b, eh_Lk S lv L a b ∧ a < x ∧ x < b) ∧ n = 0 ∧ g x = -1)) := fun x => by
      by_cases z : x < L
      · obtain ⟨n, hn⟩ := cs x z
        exact ⟨n, fun _ => hn⟩
      · exact ⟨0, fun y => absurd y z⟩
    exact ⟨fun x => Classical.choose (this x), fun x hx => Classical.choose_spec (this x) hx⟩
  obtain ⟨ga, hg⟩ := pick
  have al : ∀ a b, eh_Lk S lv L a b → a < 2 ^ 31 := fun a b l => by have := l.1; have := l.2.1; omega
  refine ⟨ga, fun x hx => ⟨(hg x hx).1, (hg x hx).2.1⟩, fun x y hx hy => ?_, fun o k c d w1 w2 w3 w4 e1 e2 => ?_⟩
  · rcases (hg x hx).2.2 with ⟨a, b, l, x1, x2, x3, x4⟩ | ⟨x1, x2, x3⟩
    · rcases (hg y hy).2.2 with ⟨a', b', l', y1, y2, y3, y4⟩ | ⟨y1, y2, y3⟩
      · rw [x3, x4, y3, y4]
        constructor
        · intro e; rw [g4 a b a' b' l l' e]
        · intro e; rw [ea_im e (al _ _ l) (al _ _ l')]
      · rw [x3, x4, y2, y3]
        have := g3 a b l
        constructor
        · intro e; omega
        · intro e; exact absurd e (ea_ne1 (al _ _ l))
    · rcases (hg y hy).2.2 with ⟨a', b', l', y1, y2, y3, y4⟩ | ⟨y1, y2, y3⟩
      · rw [x2, x3, y3, y4]
        have := g3 a' b' l'
        constructor
        · intro e; omega
        · intro e; exact absurd e.symm (ea_ne1 (al _ _ l'))
      · rw [x2, x3, y2, y3]
        exact ⟨fun _ => rfl, fun _ => rfl⟩
  · rcases (hg o (by omega)).2.2 with ⟨a, b, l, x1, x2, x3, x4⟩ | ⟨x1, x2, x3⟩
    · rcases (hg c (by omega)).2.2 with ⟨a', b', l', y1, y2, y3, y4⟩ | ⟨y1, y2, y3⟩
      · rw [x4, y4] at e1
        have e := ea_im e1 (al _ _ l) (al _ _ l')
        subst e
        have := eh_fun l l'
        subst this
        rw [x4, h1 a b k l (by omega) (by omega)]
      · rw [x4, y3] at e1
        exact absurd e1 (ea_ne1 (al _ _ l))
    · rcases (hg c (by omega)).2.2 with ⟨a', b', l', y1, y2, y3, y4⟩ | ⟨y1, y2, y3⟩
      · rw [x3, y4] at e1
        exact absurd e1.symm (ea_ne1 (al _ _ l'))
      · rcases (hg k (by omega)).2.2 with ⟨a, b, l, k1, k2, k3, k4⟩ | ⟨k1, k2, k3⟩
        · exfalso
          rcases (hg d (by omega)).2.2 with ⟨a', b', l', d1, d2, d3, d4⟩ | ⟨d1, d2, d3⟩
          · rw [k4, d4] at e2
            have e := ea_im e2 (al _ _ l) (al _ _ l')
            subst e
            have := eh_fun l l'
            subst this
            exact y1 ⟨a, b, l, by omega, by omega⟩
          · rw [k4, d3] at e2
            exact absurd e2 (ea_ne1 (al _ _ l))
        · rw [x3, k3]
end
section
/-! parse: X's barred, findOpener, pair -/
noncomputable def eu_bar (S lv : Nat → Int32) (L k c : Nat) : Bool := en_three (en_ln S lv L k) (en_ln S lv L c) && (ek_cl S lv L k || ek_op S lv L c)
noncomputable def eu_sf (S lv : Nat → Int32) (L k c : Nat) : Bool := decide (S k = S c) && !eu_bar S lv L k c
theorem eu_F {S lv g : Nat → Int32} {L k c : Nat} (h1 : ek_op S lv L k = true) (h2 : g k = g c) : en_F S lv g L k c = eu_sf S lv L k c := by
  unfold en_F eu_sf eu_bar
  rw [h1, decide_eq_true h2, Bool.true_and, Bool.and_true]
theorem eu_three {a b : Nat} : en_three a b = (decide ((a + b) % 3 = 0) && !decide (b % 3 = 0)) := by
  unfold en_three
  by_cases h1 : (a + b) % 3 = 0
  · rw [decide_eq_true h1]
    by_cases h2 : b % 3 = 0
    · rw [decide_eq_true h2, decide_eq_true (by omega : a % 3 = 0)]; rfl
    · rw [decide_eq_false h2, Bool.and_false]
  · rw [decide_eq_false h1]; rfl
theorem eu_out {f : Nat → Int32} {a b u : Nat} (hu : u = 1 ∨ u = 2) : upd (upd (ee_fill (ee_fill f a (a + u) (-1)) b (b + u) (-1)) a (nI u)) b (nI (u + 4)) = en_out f a b u := by
  funext x
  unfold en_out
  by_cases h4 : x = b
  · subst h4; rw [ea_us, ea_us]
  · rw [ea_un h4, ea_un h4]
    by_cases h3 : x = a
    · subst h3; rw [ea_us, ea_us]
    · rw [ea_un h3, ea_un h3]
      by_cases h2 : x = b + u - 1
      · subst h2; rw [ea_us, ee_fill_in (by omega) (by omega)]
      · rw [ea_un h2, ee_fill_out (by omega)]
        by_cases h1 : x = a + u - 1
        · subst h1; rw [ea_us, ee_fill_in (by omega) (by omega)]
        · rw [ea_un h1, ee_fill_out (by omega)]
section EU
variable {f_cap f_count f_depth f_linkCount f_runCount f_nodes f_domain : Int32} {a_source a_kinds a_chars a_mate a_openStack a_cellKind a_group a_live a_runLo a_runHi a_runChar a_runSize a_runGroup a_runOpens a_runCloses a_openers a_floors a_start a_width a_out a_nodeOf a_clash : Nat → Int32} {L R : Nat} {fr : Nat → Nat} {gx : Nat → Int32}
theorem eu_xbar {post : Int32 → Prop} {q r : Nat} {f_openerCount : Int32} (hL : L ≤ 64) (hR : R ≤ L) (hfr : ∀ r, r < R → fr r < L) (hK : el_K a_source a_live gx L R fr a_runChar a_runSize a_runGroup a_runOpens a_runCloses) (hq : q < R) (hr : r < R)
    (h : post (ea_b (eu_bar a_source a_live L (fr q) (fr r)))) : wpX_barred post (f_cap, (nI L), f_count, f_depth, f_linkCount, f_runCount, f_openerCount, f_nodes, f_domain, a_source, a_kinds, a_chars, a_mate, a_openStack, a_cellKind, a_group, a_live, a_runLo, a_runHi, a_runChar, a_runSize, a_runGroup, a_runOpens, a_runCloses, a_openers, a_floors, a_start, a_width, a_out, a_nodeOf, a_clash) (nI q) (nI r) := by
  have cq : (nI q).toNatClampNeg = q := nI_clamp (by omega)
  have cr : (nI r).toNatClampNeg = r := nI_clamp (by omega)
  have vq : vp_in (nI q) 64 := vp_in_nI (by omega) (by omega)
  have vr : vp_in (nI r) 64 := vp_in_nI (by omega) (by omega)
  obtain ⟨q1, q2, q3, q4, q5⟩ := hK q hq
  obtain ⟨r1, r2, r3, r4, r5⟩ := hK r hr
  have t3 : ¬ (3 : Int32) = 0 := by decide
  have lq := ek_e_le (S := a_source) (lv := a_live) (hfr q hq)
  have lr := ek_e_le (S := a_source) (lv := a_live) (hfr r hr)
  unfold eu_bar at h
  rw [eu_three] at h
  have b20 : (ek_cl a_source a_live L (fr q) || ek_op a_source a_live L (fr r)) = true → wX_barred_20 post (nI q) (nI r) f_cap (nI L) f_count f_depth f_linkCount f_runCount f_openerCount f_nodes f_domain a_source a_kinds a_chars a_mate a_openStack a_cellKind a_group a_live a_runLo a_runHi a_runChar a_runSize a_runGroup a_runOpens a_runCloses a_openers a_floors a_start a_width a_out a_nodeOf a_clash := by
    intro z
    rw [z, Bool.and_true] at h
    unfold en_ln at h
    unfold wX_barred_20
    rw [cq, cr, q2, r2, nI_add, en_rem (by omega), en_rem (by omega)]
    refine ⟨vq, vr, t3, br_c (fun a => ⟨vr, t3, br_c (fun b => ?_) (fun b => ?_)⟩) (fun a => ?_)⟩
    · rw [decide_eq_true (en_z3.mp b), Bool.not_true, Bool.and_false] at h; exact h
    · rw [decide_eq_true (en_z3.mp a), decide_eq_false (fun w => b (en_z3.mpr w))] at h; exact h
    · rw [decide_eq_false (fun w => a (en_z3.mpr w)), Bool.false_and] at h; exact h
  unfold wpX_barred
  dsimp only
  rw [cq, cr, q5, r4]
  refine ⟨vq, ea_br (fun a => ⟨vr, ea_br (fun b => ?_) (fun b => b20 (by rw [b, Bool.or_true]))⟩) (fun a => b20 (by rw [a]; rfl))⟩
  rw [a, b, Bool.or_self, Bool.and_false] at h
  exact h
theorem eu_xfo {post : Int32 → Prop} {oc r v : Nat} {sq : Nat → Nat} (hL : L ≤ 64) (hR : R ≤ L) (hfr : ∀ r, r < R → fr r < L) (hK : el_K a_source a_live gx L R fr a_runChar a_runSize a_runGroup a_runOpens a_runCloses) (hr : r < R) (hoc : oc ≤ 64) (hv : v ≤ 64)
    (s1 : ∀ p, p < oc → a_openers p = nI (sq p) ∧ sq p < R) (s2 : ∀ p p', p < p' → p' < oc → sq p < sq p')
    (h0 : (∀ p, p < oc → v ≤ sq p → eu_sf a_source a_live L (fr (sq p)) (fr r) = false) → post (-1))
    (h1 : ∀ p, p < oc → v ≤ sq p → eu_sf a_source a_live L (fr (sq p)) (fr r) = true → (∀ p', p < p' → p' < oc → eu_sf a_source a_live L (fr (sq p')) (fr r) = false) → post (nI p)) :
    wpX_findOpener post (f_cap, (nI L), f_count, f_depth, f_linkCount, f_runCount, (nI oc), f_nodes, f_domain, a_source, a_kinds, a_chars, a_mate, a_openStack, a_cellKind, a_group, a_live, a_runLo, a_runHi, a_runChar, a_runSize, a_runGroup, a_runOpens, a_runCloses, a_openers, a_floors, a_start, a_width, a_out, a_nodeOf, a_clash) (nI r) (nI v) := by
  have cr : (nI r).toNatClampNeg = r := nI_clamp (by omega)
  have vr : vp_in (nI r) 64 := vp_in_nI (by omega) (by omega)
  have key : ∀ k n, k < n → k ≤ oc → (∀ p, k ≤ p → p < oc → eu_sf a_source a_live L (fr (sq p)) (fr r) = false) → wX_findOpener_7 post (nI r) (nI v) f_cap (nI L) f_count f_depth f_linkCount f_runCount (nI oc) f_nodes f_domain a_source a_kinds a_chars a_mate a_openStack a_cellKind a_group a_live a_runLo a_runHi a_runChar a_runSize a_runGroup a_runOpens a_runCloses a_openers a_floors a_start a_width a_out a_nodeOf a_clash n (nI k - 1) := by
    intro k
    induction k with
    | zero =>
      intro n hn hk hf
      obtain ⟨n, rfl⟩ : ∃ z, n = z + 1 := ⟨n - 1, by omega⟩
      exact br_t (by decide) (h0 (fun p h2 _ => hf p (by omega) h2))
    | succ k ih =>
      intro n hn hk hf
      obtain ⟨n, rfl⟩ : ∃ z, n = z + 1 := ⟨n - 1, by omega⟩
      obtain ⟨a1, a2⟩ := s1 k (by omega)
      obtain ⟨q1, q2, q3, q4, q5⟩ := hK (sq k) a2
      obtain ⟨r1, r2, r3, r4, r5⟩ := hK r hr
      have nx : nI k + (-1) = nI k - 1 := by grind
      have cont : eu_sf a_source a_live L (fr (sq k)) (fr r) = false → wX_findOpener_7 post (nI r) (nI v) f_cap (nI L) f_count f_depth f_linkCount f_runCount (nI oc) f_nodes f_domain a_source a_kinds a_chars a_mate a_openStack a_cellKind a_group a_live a_runLo a_runHi a_runChar a_runSize a_runGroup a_runOpens a_runCloses a_openers a_floors a_start a_width a_out a_nodeOf a_clash n (nI k - 1) := fun z =>
        ih n (by omega) (by omega) (fun p h2 h3 => by
          by_cases e : p = k
          · subst e; exact z
          · exact hf p (by omega) h3)
      rw [nI_pred k]
      refine br_f (nI_pos (by omega)) ⟨vp_in_nI (by omega) (by omega), ?_⟩
      rw [nI_clamp (by omega : k < 2 ^ 31), a1]
      refine pk_lt (sq k) v (fun a => h0 (fun p h2 h3 => ?_)) (fun a => ⟨vp_in_nI (by omega) (by omega), nm_e ⟨vp_in_nI (by omega) (by omega), vr, ?_⟩⟩)
      · by_cases e : p ≤ k
        · exfalso
          by_cases e2 : p = k
          · subst e2; omega
          · have := s2 p k (by omega) (by omega)
            omega
        · exact hf p (by omega) h2
      · rw [nI_clamp (by omega : sq k < 2 ^ 31), cr, q1, r1]
        refine br_c (fun b => eu_xbar hL hR hfr hK a2 hr (ea_br (fun d => h1 k (by omega) a ?_ (fun p' h2 h3 => hf p' (by omega) h3)) (fun d => nm_r nx (cont ?_)))) (fun b => nm_r nx (cont ?_))
        · unfold eu_sf; rw [decide_eq_true b, d]; rfl
        · unfold eu_sf; rw [d, Bool.not_true, Bool.and_false]
        · unfold eu_sf; rw [decide_eq_false b, Bool.false_and]
  exact nm_e ⟨_, key oc (oc + 1) (by omega) (Nat.le_refl _) (fun p h2 h3 => by omega)⟩
theorem eu_xpair {post : SX → Prop} {p r o lo hi lc hc u : Nat} {f_openerCount : Int32} (hL : L ≤ 64) (hp : p < 64) (hr : r < 64) (ho : o < 64) (hne : o ≠ r) (h1 : a_openers p = nI o) (h2 : a_runLo o = nI lo) (h3 : a_runHi o = nI hi) (h4 : a_runLo r = nI lc) (h5 : a_runHi r = nI hc)
    (l1 : lo < hi) (l2 : hi ≤ L) (l3 : lc < hc) (l4 : hc ≤ L) (hu : u = if 2 ≤ hi - lo ∧ 2 ≤ hc - lc then 2 else 1)
    (h : post (f_cap, (nI L), f_count, f_depth, f_linkCount, f_runCount, (nI (if lo < hi - u then p + 1 else p)), f_nodes, f_domain, a_source, a_kinds, a_chars, a_mate, a_openStack, (en_out a_cellKind (hi - u) lc u), a_group, a_live, (upd a_runLo r (nI (lc + u))), (upd a_runHi o (nI (hi - u))), a_runChar, a_runSize, a_runGroup, a_runOpens, a_runCloses, a_openers, a_floors, a_start, a_width, a_out, a_nodeOf, a_clash)) :
    wpX_pair post (f_cap, (nI L), f_count, f_depth, f_linkCount, f_runCount, f_openerCount, f_nodes, f_domain, a_source, a_kinds, a_chars, a_mate, a_openStack, a_cellKind, a_group, a_live, a_runLo, a_runHi, a_runChar, a_runSize, a_runGroup, a_runOpens, a_runCloses, a_openers, a_floors, a_start, a_width, a_out, a_nodeOf, a_clash) (nI p) (nI r) := by
  have cp : (nI p).toNatClampNeg = p := nI_clamp (by omega)
  have cr : (nI r).toNatClampNeg = r := nI_clamp (by omega)
  have co : (nI o).toNatClampNeg = o := nI_clamp (by omega)
  have vp : vp_in (nI p) 64 := vp_in_nI (by omega) (by omega)
  have vr : vp_in (nI r) 64 := vp_in_nI (by omega) (by omega)
  have vo : vp_in (nI o) 64 := vp_in_nI (by omega) (by omega)
  have main : ∀ (x4 : Int32), ((u = 1 ∧ x4 = 0) ∨ (u = 2 ∧ x4 = 1)) → lo + u ≤ hi → lc + u ≤ hc → wX_pair_58 post (nI p) (nI r) (nI o) x4 (nI u) f_cap (nI L) f_count f_depth f_linkCount f_runCount f_openerCount f_nodes f_domain a_source a_kinds a_chars a_mate a_openStack a_cellKind a_group a_live a_runLo a_runHi a_runChar a_runSize a_runGroup a_runOpens a_runCloses a_openers a_floors a_start a_width a_out a_nodeOf a_clash := by
    intro x4 hx b1 b2
    have u12 : u = 1 ∨ u = 2 := by
      rcases hx with ⟨z, _⟩ | ⟨z, _⟩
      · exact Or.inl z
      · exact Or.inr z
    unfold wX_pair_58
    rw [cr, co, h3, h4]
    refine ⟨vr, nm_e ⟨vo, vo, nm_r (e' := upd a_runHi o (nI (hi - u))) (by rw [pk_sub (by omega)]) ⟨vr, vr, nm_r (e' := upd a_runLo r (nI (lc + u))) (by rw [nI_add]) ⟨vo, nm_r (e' := nI (hi - u)) ea_us ?_⟩⟩⟩⟩
    rw [nI_add (hi - u) u, nI_add lc u]
    refine ef_xhide (by omega) (by omega) hL ?_
    refine ef_xhide (by omega) (by omega) hL ?_
    dsimp only
    have fin : ∀ (z : Int32), z = nI (u + 4) → wX_pair_154 post (nI p) (nI o) z (nI lc) f_cap (nI L) f_count f_depth f_linkCount f_runCount f_openerCount f_nodes f_domain a_source a_kinds a_chars a_mate a_openStack (upd (ee_fill (ee_fill a_cellKind (hi - u) (hi - u + u) (-1)) lc (lc + u) (-1)) (hi - u) (nI u)) a_group a_live (upd a_runLo r (nI (lc + u))) (upd a_runHi o (nI (hi - u))) a_runChar a_runSize a_runGroup a_runOpens a_runCloses a_openers a_floors a_start a_width a_out a_nodeOf a_clash := by
      intro z hz
      subst hz
      unfold wX_pair_154
      rw [co, nI_clamp (by omega : lc < 2 ^ 31), ea_us, ea_un hne, h2]
      refine ⟨vp_in_nI (by omega) (by omega), nm_r (eu_out u12) ⟨vo, vo, pk_le (hi - u) lo (fun a => ?_) (fun a => nm_r (nI_1 p) ?_)⟩⟩
      · rw [if_neg (by omega)] at h; exact h
      · rw [if_pos (by omega)] at h; exact h
    have fin2 : ∀ (z : Int32), z = nI u → wX_pair_136 post (nI p) (nI o) x4 (nI lc) z (nI (hi - u)) f_cap (nI L) f_count f_depth f_linkCount f_runCount f_openerCount f_nodes f_domain a_source a_kinds a_chars a_mate a_openStack (ee_fill (ee_fill a_cellKind (hi - u) (hi - u + u) (-1)) lc (lc + u) (-1)) a_group a_live (upd a_runLo r (nI (lc + u))) (upd a_runHi o (nI (hi - u))) a_runChar a_runSize a_runGroup a_runOpens a_runCloses a_openers a_floors a_start a_width a_out a_nodeOf a_clash := by
      intro z hz
      subst hz
      refine ⟨vp_in_nI (by omega) (by omega), nm_r (e' := upd (ee_fill (ee_fill a_cellKind (hi - u) (hi - u + u) (-1)) lc (lc + u) (-1)) (hi - u) (nI u)) (by rw [nI_clamp (by omega : hi - u < 2 ^ 31)]) ?_⟩
      rcases hx with ⟨a, b⟩ | ⟨a, b⟩
      · exact br_t b (fin 5 (by rw [a]; rfl))
      · exact br_f (by rw [b]; decide) (fin 6 (by rw [a]; rfl))
    rcases hx with ⟨a, b⟩ | ⟨a, b⟩
    · exact br_t b (fin2 1 (by rw [a]; rfl))
    · exact br_f (by rw [b]; decide) (fin2 2 (by rw [a]; rfl))
  refine ⟨vp, nm_r (e' := nI o) (by rw [cp]; exact h1) ⟨vo, vo, ?_⟩⟩
  rw [co, cr, h2, h3, h4, h5, pk_sub (by omega), pk_sub (by omega)]
  have one : ¬ (2 ≤ hi - lo ∧ 2 ≤ hc - lc) → wX_pair_45 post (nI p) (nI r) (nI o) f_cap (nI L) f_count f_depth f_linkCount f_runCount f_openerCount f_nodes f_domain a_source a_kinds a_chars a_mate a_openStack a_cellKind a_group a_live a_runLo a_runHi a_runChar a_runSize a_runGroup a_runOpens a_runCloses a_openers a_floors a_start a_width a_out a_nodeOf a_clash := by
    intro z
    rw [if_neg z] at hu
    have q := main 0 (Or.inl ⟨hu, rfl⟩) (by omega) (by omega)
    rw [hu] at q
    exact br_t rfl q
  refine pk_lt (hi - lo) 2 (fun a => one (by omega)) (fun a => ⟨vr, vr, pk_lt (hc - lc) 2 (fun b => one (by omega)) (fun b => ?_)⟩)
  rw [if_pos (by omega)] at hu
  have q := main 1 (Or.inr ⟨hu, rfl⟩) (by omega) (by omega)
  rw [hu] at q
  exact br_f (by decide) q
end EU
end
section
/-! parse: X's match by groups, against the trace -/
noncomputable def ev_sort (S lv : Nat → Int32) (L x : Nat) : Nat := (if S x = 42 then 0 else 6) + (if ek_op S lv L x = true then 3 else 0) + en_ln S lv L x % 3
theorem ev_sort_lt {S lv : Nat → Int32} {L x : Nat} : ev_sort S lv L x < 12 := by
  unfold ev_sort
  have : en_ln S lv L x % 3 < 3 := Nat.mod_lt _ (by omega)
  by_cases a : S x = 42 <;> by_cases b : ek_op S lv L x = true <;> simp only [a, b, if_true, if_false] <;> simp <;> omega
theorem ev_three {a b b' : Nat} (h : b % 3 = b' % 3) : en_three a b = en_three a b' := by
  rw [eu_three, eu_three, h]
  have : ((a + b) % 3 = 0) = ((a + b') % 3 = 0) := propext (by omega)
  have e : decide ((a + b) % 3 = 0) = decide ((a + b') % 3 = 0) := by
    by_cases z : (a + b) % 3 = 0
    · rw [decide_eq_true z, decide_eq_true (by omega)]
    · rw [decide_eq_false z, decide_eq_false (by omega)]
  rw [e]
theorem ev_sf {S lv : Nat → Int32} {L k c c' : Nat} (h1 : ek_fs S lv L c) (h2 : ek_fs S lv L c') (h : ev_sort S lv L c = ev_sort S lv L c') : eu_sf S lv L k c = eu_sf S lv L k c' := by
  unfold ev_sort at h
  have m1 : en_ln S lv L c % 3 < 3 := Nat.mod_lt _ (by omega)
  have m2 : en_ln S lv L c' % 3 < 3 := Nat.mod_lt _ (by omega)
  have key : S c = S c' ∧ ek_op S lv L c = ek_op S lv L c' ∧ en_ln S lv L c % 3 = en_ln S lv L c' % 3 := by
    have p : S c = S c' ∧ (if ek_op S lv L c = true then 3 else 0) + en_ln S lv L c % 3 = (if ek_op S lv L c' = true then 3 else 0) + en_ln S lv L c' % 3 := by
      have b1 : (if ek_op S lv L c = true then 3 else 0) ≤ 3 := by split <;> omega
      have b2 : (if ek_op S lv L c' = true then 3 else 0) ≤ 3 := by split <;> omega
      by_cases a : S c = 42
      · rw [if_pos a] at h
        by_cases b : S c' = 42
        · rw [if_pos b] at h; exact ⟨by rw [a, b], by omega⟩
        · rw [if_neg b] at h; omega
      · rw [if_neg a] at h
        by_cases b : S c' = 42
        · rw [if_pos b] at h; omega
        · rw [if_neg b] at h
          refine ⟨?_, by omega⟩
          rcases h1.1.2.2 with z | z
          · exact absurd z a
          · rcases h2.1.2.2 with y | y
            · exact absurd y b
            · rw [z, y]
    refine ⟨p.1, ?_⟩
    have p2 := p.2
    cases a : ek_op S lv L c <;> cases b : ek_op S lv L c' <;> rw [a, b] at p2 <;> simp at p2
    · exact ⟨rfl, p2⟩
    · omega
    · omega
    · exact ⟨rfl, p2⟩
  unfold eu_sf eu_bar
  rw [key.1, key.2.1, ev_three key.2.2]
/-- run q as X has it, against a state of the trace -/
def ev_view (S lv : Nat → Int32) (L : Nat) (fr : Nat → Nat) (ck rl rh : Nat → Int32) (q : Nat) (st : en_T) : Prop :=
  rl q = nI (st.1 (fr q)) ∧ rh q = nI (st.2.1 (fr q)) ∧ ∀ x, es_in S lv L (fr q) x → ck x = st.2.2.1 x
/-- the runs that the trace knows are X's -/
def ev_C (S lv : Nat → Int32) (L R : Nat) (fr : Nat → Nat) : Prop :=
  R ≤ L ∧ (∀ r, r < R → ek_fs S lv L (fr r)) ∧ (∀ r r', r < r' → r' < R → fr r < fr r') ∧ (∀ x, ek_fs S lv L x → ∃ r, r < R ∧ fr r = x)
def ev_M (S lv g : Nat → Int32) (L R : Nat) (fr ga : Nat → Nat) (ck2 : Nat → Int32) (G : Nat) (st : en_T) (ck rl rh : Nat → Int32) : Prop :=
  (∀ q, q < R → (ga (fr q) < G → ev_view S lv L fr ck rl rh q (es_Y S lv g L ck2 L)) ∧ (ga (fr q) = G → ev_view S lv L fr ck rl rh q st) ∧ (G < ga (fr q) → ev_view S lv L fr ck rl rh q (es_0 S lv L ck2))) ∧
  (∀ x, (∀ k, ek_fs S lv L k → ¬ es_in S lv L k x) → ck x = ck2 x)
def ev_act (S lv : Nat → Int32) (L : Nat) (fr ga : Nat → Nat) (G : Nat) (st : en_T) (q : Nat) : Prop :=
  ga (fr q) = G ∧ ek_op S lv L (fr q) = true ∧ st.1 (fr q) < st.2.1 (fr q) ∧ st.2.2.2 (fr q) = false
def ev_S (S lv : Nat → Int32) (L R : Nat) (fr ga : Nat → Nat) (G r : Nat) (st : en_T) (oc : Nat) (sq : Nat → Nat) (ops fl : Nat → Int32) : Prop :=
  oc ≤ r ∧ (∀ p, p < oc → ops p = nI (sq p) ∧ sq p < r ∧ ev_act S lv L fr ga G st (sq p)) ∧ (∀ p p', p < p' → p' < oc → sq p < sq p') ∧
  (∀ q, q < r → ev_act S lv L fr ga G st q → ∃ p, p < oc ∧ sq p = q) ∧
  (∀ s, s < 12 → ∃ v, fl s = nI v ∧ v ≤ r ∧ ∀ p, p < oc → sq p < v → ∀ c, c < R → ev_sort S lv L (fr c) = s → eu_sf S lv L (fr (sq p)) (fr c) = false)
section EV
variable {S lv g ck2 : Nat → Int32} {L R G : Nat} {fr ga : Nat → Nat} {st : en_T} {lc : Nat} {gx : Nat → Int32}
theorem ev_inj (hC : ev_C S lv L R fr) {q q' : Nat} (h1 : q < R) (h2 : q' < R) (h : fr q = fr q') : q = q' := by
  rcases Nat.lt_trichotomy q q' with w | w | w
  · have := hC.2.2.1 q q' w h2; omega
  · exact w
  · have := hC.2.2.1 q' q w h1; omega
theorem ev_ord (hC : ev_C S lv L R fr) {q q' : Nat} (h1 : q < R) (h2 : q' < R) (h : fr q < fr q') : q < q' := by
  rcases Nat.lt_trichotomy q q' with w | w | w
  · exact w
  · subst w; omega
  · have := hC.2.2.1 q' q w h1; omega
theorem ev_L (hC : ev_C S lv L R fr) {q : Nat} (h1 : q < R) : fr q < L := (hC.2.1 q h1).1.1
/-- an opener that the trace would take is on X's stack -/
theorem ev_on {ops fl : Nat → Int32} {r oc o : Nat} {sq : Nat → Nat} (hC : ev_C S lv L R fr) (hN : et_N S lv g L lc gx ga) (hr : r < R) (hG : ga (fr r) = G) (hV : en_V L (ek_e S lv L) (fr r) st) (hS : ev_S S lv L R fr ga G r st oc sq ops fl)
    (ho : o < fr r) (hok : en_ok (en_F S lv g L) st o (fr r) = true) : ∃ p, p < oc ∧ fr (sq p) = o ∧ eu_sf S lv L o (fr r) = true := by
  have rl := ev_L hC hr
  have w := en_ok_i hok
  have go := es_F_g w.1
  have fo : ek_fs S lv L o := es_fs hV.1 (by omega) w.2.1
  obtain ⟨q, q1, q2⟩ := hC.2.2.2 o fo
  have act : ev_act S lv L fr ga G st q := ⟨by rw [q2, ← hG]; exact (hN.2.1 o (fr r) (by omega) rl).mpr go.2.2, by rw [q2]; exact go.1, by rw [q2]; exact w.2.1, by rw [q2]; exact w.2.2⟩
  obtain ⟨p, p1, p2⟩ := hS.2.2.2.1 q (ev_ord hC q1 hr (by omega)) act
  refine ⟨p, p1, by rw [p2]; exact q2, ?_⟩
  rw [← eu_F go.1 go.2.2]; exact w.1
theorem ev_off {ops fl : Nat → Int32} {r oc p : Nat} {sq : Nat → Nat} (hC : ev_C S lv L R fr) (hN : et_N S lv g L lc gx ga) (hr : r < R) (hG : ga (fr r) = G) (hS : ev_S S lv L R fr ga G r st oc sq ops fl)
    (hp : p < oc) (hsf : eu_sf S lv L (fr (sq p)) (fr r) = true) : fr (sq p) < fr r ∧ en_ok (en_F S lv g L) st (fr (sq p)) (fr r) = true := by
  obtain ⟨a1, a2, a3, a4, a5, a6⟩ := hS.2.1 p hp
  have rl := ev_L hC hr
  have lt := hC.2.2.1 (sq p) r a2 hr
  refine ⟨lt, ?_⟩
  unfold en_ok
  rw [eu_F a4 ((hN.2.1 _ _ (by omega) rl).mp (by rw [a3, hG])), hsf, decide_eq_true a5, a6]
  rfl
theorem ev_M_pr {ck rl rh : Nat → Int32} {r q : Nat} (hC : ev_C S lv L R fr) (hr : r < R) (hG : ga (fr r) = G) (hq : q < r) (hqG : ga (fr q) = G) (hV : en_V L (ek_e S lv L) (fr r) st) (l1 : st.1 (fr q) < st.2.1 (fr q)) (l2 : st.1 (fr r) < st.2.1 (fr r))
    (hM : ev_M S lv g L R fr ga ck2 G st ck rl rh) : ev_M S lv g L R fr ga ck2 G (en_pr st (fr q) (fr r)) (en_out ck (st.2.1 (fr q) - en_u st (fr q) (fr r)) (st.1 (fr r)) (en_u st (fr q) (fr r))) (upd rl r (nI (st.1 (fr r) + en_u st (fr q) (fr r)))) (upd rh q (nI (st.2.1 (fr q) - en_u st (fr q) (fr r)))) := by
  have rL := ev_L hC hr
  have lt := hC.2.2.1 q r hq hr
  have u := en_u_le l1 l2
  have wo := hV.1 (fr q) (by omega)
  have wc := hV.1 (fr r) rL
  have keep : ∀ x, ¬ es_in S lv L (fr q) x → ¬ es_in S lv L (fr r) x → en_out ck (st.2.1 (fr q) - en_u st (fr q) (fr r)) (st.1 (fr r)) (en_u st (fr q) (fr r)) x = ck x := by
    intro x n1 n2
    unfold es_in at n1 n2
    exact es_out (by omega) (by omega) (by omega) (by omega)
  have other : ∀ q', q' < R → ga (fr q') ≠ G → ∀ s, ev_view S lv L fr ck rl rh q' s → ev_view S lv L fr (en_out ck (st.2.1 (fr q) - en_u st (fr q) (fr r)) (st.1 (fr r)) (en_u st (fr q) (fr r))) (upd rl r (nI (st.1 (fr r) + en_u st (fr q) (fr r)))) (upd rh q (nI (st.2.1 (fr q) - en_u st (fr q) (fr r)))) q' s := by
    intro q' h1 h2 s hv
    have n1 : q' ≠ r := fun e => h2 (by rw [e]; exact hG)
    have n2 : q' ≠ q := fun e => h2 (by rw [e]; exact hqG)
    refine ⟨by rw [ea_un n1]; exact hv.1, by rw [ea_un n2]; exact hv.2.1, fun x hx => ?_⟩
    rw [keep x (fun z => n2 (ev_inj hC h1 (by omega) (es_in_1 (hC.2.1 _ h1) (hC.2.1 _ (by omega)) hx z))) (fun z => n1 (ev_inj hC h1 hr (es_in_1 (hC.2.1 _ h1) (hC.2.1 _ hr) hx z)))]
    exact hv.2.2 x hx
  refine ⟨fun q' h1 => ⟨fun h2 => other q' h1 (by omega) _ ((hM.1 q' h1).1 h2), fun h2 => ?_, fun h2 => other q' h1 (by omega) _ ((hM.1 q' h1).2.2 h2)⟩, fun x hx => ?_⟩
  · have hv := (hM.1 q' h1).2.1 h2
    refine ⟨?_, ?_, fun x hx => es_out_c (hv.2.2 x hx)⟩
    · show _ = nI (if fr q' = fr r then _ else _)
      by_cases e : q' = r
      · subst e; rw [ea_us, if_pos rfl]
      · rw [ea_un e, if_neg (fun z => e (ev_inj hC h1 hr z))]; exact hv.1
    · show _ = nI (if fr q' = fr q then _ else _)
      by_cases e : q' = q
      · subst e; rw [ea_us, if_pos rfl]
      · rw [ea_un e, if_neg (fun z => e (ev_inj hC h1 (by omega) z))]; exact hv.2.1
  · rw [keep x (hx _ (hC.2.1 q (by omega))) (hx _ (hC.2.1 r hr))]
    exact hM.2 x hx
theorem ev_S_pr {ops fl : Nat → Int32} {r p oc : Nat} {sq : Nat → Nat} (hC : ev_C S lv L R fr) (hr : r < R) (hG : ga (fr r) = G) (hS : ev_S S lv L R fr ga G r st oc sq ops fl) (hp : p < oc) (l2 : st.1 (fr r) < st.2.1 (fr r)) :
    ev_S S lv L R fr ga G r (en_pr st (fr (sq p)) (fr r)) (if st.1 (fr (sq p)) < st.2.1 (fr (sq p)) - en_u st (fr (sq p)) (fr r) then p + 1 else p) sq ops fl := by
  obtain ⟨s1, s2, s3, s4, s5⟩ := hS
  obtain ⟨b1, b2, b3, b4, b5, b6⟩ := s2 p hp
  have u := en_u_le b5 l2
  have lt := hC.2.2.1 (sq p) r b2 hr
  have ocp : (if st.1 (fr (sq p)) < st.2.1 (fr (sq p)) - en_u st (fr (sq p)) (fr r) then p + 1 else p) ≤ p + 1 := by split <;> omega
  -- fields of the new state
  have f1 : ∀ q, q < r → (en_pr st (fr (sq p)) (fr r)).1 (fr q) = st.1 (fr q) := fun q hq => by
    have := hC.2.2.1 q r hq hr
    show (if fr q = fr r then _ else _) = _
    rw [if_neg (by omega)]
  have f2 : ∀ q, q < R → q ≠ sq p → (en_pr st (fr (sq p)) (fr r)).2.1 (fr q) = st.2.1 (fr q) := fun q hq hne => by
    show (if fr q = fr (sq p) then _ else _) = _
    rw [if_neg (fun z => hne (ev_inj hC hq (by omega) z))]
  have f2' : (en_pr st (fr (sq p)) (fr r)).2.1 (fr (sq p)) = st.2.1 (fr (sq p)) - en_u st (fr (sq p)) (fr r) := by
    show (if fr (sq p) = fr (sq p) then _ else _) = _
    rw [if_pos rfl]
  have f3 : ∀ q, fr q ≤ fr (sq p) → (en_pr st (fr (sq p)) (fr r)).2.2.2 (fr q) = st.2.2.2 (fr q) := fun q hq => by
    show (if fr (sq p) < fr q ∧ fr q < fr r then _ else _) = _
    rw [if_neg (by omega)]
  refine ⟨by omega, fun p' hp' => ?_, fun p' p'' h1 h2 => s3 p' p'' h1 (by omega), fun q hq act => ?_, fun s hs => ?_⟩
  · obtain ⟨c1, c2, c3, c4, c5, c6⟩ := s2 p' (by omega)
    refine ⟨c1, c2, c3, c4, ?_, ?_⟩
    · rw [f1 _ c2]
      by_cases e : p' = p
      · subst e
        rw [f2']
        by_cases z : st.1 (fr (sq p')) < st.2.1 (fr (sq p')) - en_u st (fr (sq p')) (fr r)
        · exact z
        · rw [if_neg z] at hp'; omega
      · have := s3 p' p (by omega) hp
        rw [f2 _ (by omega) (by omega)]; exact c5
    · by_cases e : p' = p
      · subst e; rw [f3 _ (Nat.le_refl _)]; exact c6
      · have := s3 p' p (by omega) hp
        have := hC.2.2.1 (sq p') (sq p) this (by omega)
        rw [f3 _ (by omega)]; exact c6
  · obtain ⟨c3, c4, c5, c6⟩ := act
    have nd : ¬ (fr (sq p) < fr q) := fun z => by
      have lt2 := hC.2.2.1 q r hq hr
      have : (en_pr st (fr (sq p)) (fr r)).2.2.2 (fr q) = true := by
        show (if fr (sq p) < fr q ∧ fr q < fr r then true else _) = _
        rw [if_pos ⟨z, lt2⟩]
      rw [this] at c6
      exact absurd c6 (by decide)
    rw [f3 q (by omega)] at c6
    rw [f1 q hq] at c5
    by_cases e : q = sq p
    · subst e
      rw [f2'] at c5
      refine ⟨p, ?_, rfl⟩
      rw [if_pos c5]; omega
    · rw [f2 q (by omega) e] at c5
      obtain ⟨p', d1, d2⟩ := s4 q hq ⟨c3, c4, c5, c6⟩
      refine ⟨p', ?_, d2⟩
      have : p' < p := by
        apply Decidable.byContradiction
        intro z
        by_cases e2 : p' = p
        · rw [e2] at d2; exact e d2.symm
        · have h1 := s3 p p' (by omega) d1
          have := hC.2.2.1 (sq p) q (by omega) (by omega)
          omega
      split <;> omega
  · obtain ⟨v, v1, v2, v3⟩ := s5 s hs
    exact ⟨v, v1, v2, fun p' h1 h2 c h3 h4 => v3 p' (by omega) h2 c h3 h4⟩
end EV
section EW
variable {f_cap f_count f_depth f_linkCount f_runCount f_nodes f_domain : Int32} {a_source a_kinds a_chars a_mate a_openStack a_group a_live a_runChar a_runSize a_runGroup a_runOpens a_runCloses a_start a_width a_out a_nodeOf a_clash : Nat → Int32} {L R G lc : Nat} {fr ga : Nat → Nat} {g ck2 gx : Nat → Int32}
theorem ew_close {post : SX → Prop} {r s : Nat} {ops : Nat → Int32} (hL : L ≤ 64) (hC : ev_C a_source a_live L R fr) (hN : et_N a_source a_live g L lc gx ga) (hK : el_K a_source a_live gx L R fr a_runChar a_runSize a_runGroup a_runOpens a_runCloses) (hr : r < R) (hG : ga (fr r) = G) (hs : s = ev_sort a_source a_live L (fr r)) :
    ∀ (f ρ n : Nat) (st : en_T) (ck rl rh fl : Nat → Int32) (oc : Nat) (sq : Nat → Nat), en_V L (ek_e a_source a_live L) (fr r) st → st.2.1 (fr r) - st.1 (fr r) ≤ f → st.2.1 (fr r) - st.1 (fr r) ≤ ρ → ρ ≤ 64 → ρ < n →
    ev_M a_source a_live g L R fr ga ck2 G st ck rl rh → ev_S a_source a_live L R fr ga G r st oc sq ops fl →
    (∀ ck' rl' rh' fl' oc' sq', ev_M a_source a_live g L R fr ga ck2 G (en_cs (en_F a_source a_live g L) (fr r) f st) ck' rl' rh' → ev_S a_source a_live L R fr ga G r (en_cs (en_F a_source a_live g L) (fr r) f st) oc' sq' ops fl' → post (f_cap, (nI L), f_count, f_depth, f_linkCount, f_runCount, (nI oc'), f_nodes, f_domain, a_source, a_kinds, a_chars, a_mate, a_openStack, ck', a_group, a_live, rl', rh', a_runChar, a_runSize, a_runGroup, a_runOpens, a_runCloses, ops, fl', a_start, a_width, a_out, a_nodeOf, a_clash)) →
    wX_closeWith_49 post (nI r) (nI s) n (nI ρ) f_cap (nI L) f_count f_depth f_linkCount f_runCount (nI oc) f_nodes f_domain a_source a_kinds a_chars a_mate a_openStack ck a_group a_live rl rh a_runChar a_runSize a_runGroup a_runOpens a_runCloses ops fl a_start a_width a_out a_nodeOf a_clash := by
  have rL := ev_L hC hr
  have RL := hC.1
  have s12 : s < 12 := by rw [hs]; exact ev_sort_lt
  have cr : (nI r).toNatClampNeg = r := nI_clamp (by omega)
  have vr : vp_in (nI r) 64 := vp_in_nI (by omega) (by omega)
  have cs : (nI s).toNatClampNeg = s := nI_clamp (by omega)
  have vs : vp_in (nI s) 12 := vp_in_nI (by omega) (by omega)
  intro f
  induction f with
  | zero =>
    intro ρ n st ck rl rh fl oc sq hV b1 b2 b3 b4 hM hS h
    obtain ⟨n, rfl⟩ : ∃ z, n = z + 1 := ⟨n - 1, by omega⟩
    have vw := (hM.1 r hr).2.1 hG
    have wc := hV.1 (fr r) rL
    have ec := ek_e_le (S := a_source) (lv := a_live) rL
    have q := h ck rl rh fl oc sq hM hS
    by_cases z : ρ = 0
    · subst z; exact br_t (by decide) q
    · refine br_f (nI_nle (by omega) (by omega)) ⟨vr, vr, ?_⟩
      rw [cr, vw.1, vw.2.1]
      exact br_t (nI_le (by omega) (by omega)) q
  | succ f ih =>
    intro ρ n st ck rl rh fl oc sq hV b1 b2 b3 b4 hM hS h
    obtain ⟨n, rfl⟩ : ∃ z, n = z + 1 := ⟨n - 1, by omega⟩
    have vw := (hM.1 r hr).2.1 hG
    have wc := hV.1 (fr r) rL
    have ec := ek_e_le (S := a_source) (lv := a_live) rL
    by_cases z : ρ = 0
    · have e0 : en_cs (en_F a_source a_live g L) (fr r) (f + 1) st = st := en_cs_0 (by omega)
      rw [e0] at h
      subst z; exact br_t (by decide) (h ck rl rh fl oc sq hM hS)
    · refine br_f (nI_nle (by omega) (by omega)) ⟨vr, vr, ?_⟩
      rw [cr, vw.1, vw.2.1]
      refine pk_le (st.2.1 (fr r)) (st.1 (fr r)) (fun a => ?_) (fun a => ⟨vs, ?_⟩)
      · have e0 : en_cs (en_F a_source a_live g L) (fr r) (f + 1) st = st := en_cs_0 (by omega)
        rw [e0] at h
        exact h ck rl rh fl oc sq hM hS
      · obtain ⟨v, v1, v2, v3⟩ := hS.2.2.2.2 s s12
        rw [cs, v1]
        have ocr := hS.1
        refine eu_xfo (R := R) (fr := fr) (gx := gx) (sq := sq) hL RL (fun q hq => ev_L hC hq) hK hr (by omega) (by omega) (fun p hp => ⟨(hS.2.1 p hp).1, by have := (hS.2.1 p hp).2.1; omega⟩) hS.2.2.1 (fun hn => ?_) (fun p hp hv hsf hmax => ?_)
        · -- no opener
          have none : en_fo (en_F a_source a_live g L) st (fr r) (fr r) = none := by
            cases y : en_fo (en_F a_source a_live g L) st (fr r) (fr r) with
            | none => rfl
            | some o =>
              exfalso
              have q := en_fo_s y
              obtain ⟨p, p1, p2, p3⟩ := ev_on hC hN hr hG hV hS q.1 q.2.1
              rw [← p2] at p3
              by_cases w : v ≤ sq p
              · rw [hn p p1 w] at p3; exact absurd p3 (by decide)
              · rw [v3 p p1 (by omega) r hr hs.symm] at p3; exact absurd p3 (by decide)
          have allf : ∀ p, p < oc → eu_sf a_source a_live L (fr (sq p)) (fr r) = false := fun p hp => by
            by_cases w : v ≤ sq p
            · exact hn p hp w
            · exact v3 p hp (by omega) r hr hs.symm
          rw [en_cs_n none] at h
          refine br_f (by decide) ⟨vs, nm_e ?_⟩
          refine h ck rl rh (upd fl s (nI r)) oc sq hM ⟨hS.1, hS.2.1, hS.2.2.1, hS.2.2.2.1, fun s' hs' => ?_⟩
          by_cases e : s' = s
          · subst e
            refine ⟨r, ea_us, Nat.le_refl _, fun p hp _ c' hc' he => ?_⟩
            rw [ev_sf (hC.2.1 c' hc') (hC.2.1 r hr) (he.trans hs)]
            exact allf p hp
          · rw [ea_un e]; exact hS.2.2.2.2 s' hs'
        · -- the opener at place p
          have ok := ev_off hC hN hr hG hS hp hsf
          have some : en_fo (en_F a_source a_live g L) st (fr r) (fr r) = some (fr (sq p)) := by
            cases y : en_fo (en_F a_source a_live g L) st (fr r) (fr r) with
            | none =>
              have := en_fo_n y _ ok.1
              rw [ok.2] at this
              exact absurd this (by decide)
            | some o =>
              have q := en_fo_s y
              have : o = fr (sq p) := by
                rcases Nat.lt_trichotomy o (fr (sq p)) with w | w | w
                · have := q.2.2 _ w ok.1
                  rw [ok.2] at this
                  exact absurd this (by decide)
                · exact w
                · obtain ⟨p', p1, p2, p3⟩ := ev_on hC hN hr hG hV hS q.1 q.2.1
                  have sp := (hS.2.1 p hp).2.1
                  have sp' := (hS.2.1 p' p1).2.1
                  have lt := ev_ord hC (q := sq p) (q' := sq p') (by omega) (by omega) (by omega)
                  have pp : p < p' := by
                    apply Decidable.byContradiction
                    intro n
                    by_cases e : p' = p
                    · subst e; omega
                    · have := hS.2.2.1 p' p (by omega) hp; omega
                  rw [← p2, hmax p' pp p1] at p3
                  exact absurd p3 (by decide)
              rw [this]
          obtain ⟨o1, o2, o3, o4, o5, o6⟩ := hS.2.1 p hp
          have vo := (hM.1 (sq p) (by omega)).2.1 o3
          have oL := ev_L hC (q := sq p) (by omega)
          have wo := hV.1 (fr (sq p)) oL
          have eo := ek_e_le (S := a_source) (lv := a_live) oL
          have u := en_u_le o5 a
          refine br_t (ea_0le (by omega)) (eu_xpair (o := sq p) (u := en_u st (fr (sq p)) (fr r)) hL (by omega) (by omega) (by omega) (by omega) o1 vo.1 vo.2.1 vw.1 vw.2.1 o5 (by omega) a (by omega) rfl ?_)
          refine nm_r (ea_m (by omega)) (ih (ρ - 1) n (en_pr st (fr (sq p)) (fr r)) _ _ _ fl _ sq (en_V_pr hV rL a some) ?_ ?_ (by omega) (by omega) (ev_M_pr hC hr hG o2 o3 hV o5 a hM) (ev_S_pr hC hr hG hS hp a) ?_)
          · show (if fr r = fr (sq p) then _ else _) - (if fr r = fr r then _ else _) ≤ f
            rw [if_neg (by have := ok.1; omega), if_pos rfl]; omega
          · show (if fr r = fr (sq p) then _ else _) - (if fr r = fr r then _ else _) ≤ ρ - 1
            rw [if_neg (by have := ok.1; omega), if_pos rfl]; omega
          · rw [en_cs_s a some] at h
            exact h
end EW
end
section
/-! parse: X's groups -/
def ex_cc (L R : Nat) (fr : Nat → Nat) (r : Nat) : Nat := if r < R then fr r else L
section EX
variable {S lv g ck2 : Nat → Int32} {L R G : Nat} {fr ga : Nat → Nat} {lc : Nat} {gx : Nat → Int32}
theorem ex_next (hC : ev_C S lv L R fr) {r : Nat} (hr : r < R) : es_Y S lv g L ck2 (ex_cc L R fr (r + 1)) = es_Y S lv g L ck2 (fr r + 1) := by
  have rL := ev_L hC hr
  have b : fr r + 1 ≤ ex_cc L R fr (r + 1) ∧ ex_cc L R fr (r + 1) ≤ L := by
    unfold ex_cc
    by_cases z : r + 1 < R
    · rw [if_pos z]
      have := hC.2.2.1 r (r + 1) (by omega) z
      have := ev_L hC z
      omega
    · rw [if_neg z]; omega
  have e := es_Y_r (S := S) (lv := lv) (g := g) (L := L) (ck := ck2) (a := fr r + 1) (ex_cc L R fr (r + 1) - (fr r + 1)) (by omega) (fun x h1 h2 hf => by
    obtain ⟨q, q1, q2⟩ := hC.2.2.2 x hf
    have lt := ev_ord hC hr q1 (by omega)
    have h3 : x < ex_cc L R fr (r + 1) := by omega
    unfold ex_cc at h3
    by_cases z : r + 1 < R
    · rw [if_pos z] at h3
      have := ev_ord hC q1 z (by omega)
      omega
    · omega)
  rw [show fr r + 1 + (ex_cc L R fr (r + 1) - (fr r + 1)) = ex_cc L R fr (r + 1) by omega] at e
  exact e
theorem ex_first (hC : ev_C S lv L R fr) : es_Y S lv g L ck2 (ex_cc L R fr 0) = es_0 S lv L ck2 := by
  have e := es_Y_r (S := S) (lv := lv) (g := g) (L := L) (ck := ck2) (a := 0) (ex_cc L R fr 0) (by
    unfold ex_cc
    by_cases z : 0 < R
    · rw [if_pos z]; have := ev_L hC z; omega
    · rw [if_neg z]; omega) (fun x h1 h2 hf => by
    obtain ⟨q, q1, q2⟩ := hC.2.2.2 x hf
    unfold ex_cc at h2
    rw [if_pos (by omega)] at h2
    have := ev_ord hC q1 (by omega : 0 < R) (by omega)
    omega)
  rw [Nat.zero_add] at e
  exact e
/-- a run of another group -/
theorem ex_M_o {ck rl rh : Nat → Int32} {r : Nat} (hC : ev_C S lv L R fr) (hN : et_N S lv g L lc gx ga) (hr : r < R) (hG : ga (fr r) ≠ G) (hM : ev_M S lv g L R fr ga ck2 G (es_Y S lv g L ck2 (fr r)) ck rl rh) :
    ev_M S lv g L R fr ga ck2 G (es_Y S lv g L ck2 (fr r + 1)) ck rl rh := by
  have rL := ev_L hC hr
  refine ⟨fun q hq => ⟨(hM.1 q hq).1, fun h2 => ?_, (hM.1 q hq).2.2⟩, hM.2⟩
  have hv := (hM.1 q hq).2.1 h2
  rw [es_Y_s]
  by_cases z : ek_cl S lv L (fr r) = true
  · rw [if_pos z]
    have e := es_cs_f (g := g) rL (hC.2.1 q hq) (fun w => hG (by rw [← h2]; exact ((hN.2.1 _ _ (ev_L hC hq) rL).mpr w).symm)) 64 (es_Y S lv g L ck2 (fr r)) (es_Y_V (by omega))
    exact ⟨by rw [e.1]; exact hv.1, by rw [e.2.1]; exact hv.2.1, fun x hx => by rw [e.2.2 x hx]; exact hv.2.2 x hx⟩
  · rw [if_neg z]; exact hv
theorem ex_S_o {ops fl : Nat → Int32} {r oc : Nat} {sq : Nat → Nat} (hC : ev_C S lv L R fr) (hN : et_N S lv g L lc gx ga) (hr : r < R) (hG : ga (fr r) ≠ G) (hd : ∃ r', r + 1 ≤ r' ∧ r' < R ∧ ga (fr r') = G) (hS : ev_S S lv L R fr ga G r (es_Y S lv g L ck2 (fr r)) oc sq ops fl) :
    ev_S S lv L R fr ga G (r + 1) (es_Y S lv g L ck2 (fr r + 1)) oc sq ops fl := by
  have rL := ev_L hC hr
  obtain ⟨r', d1, d2, d3⟩ := hd
  have lt' := hC.2.2.1 r r' (by omega) d2
  have same : ∀ q, q < r → ga (fr q) = G → (es_Y S lv g L ck2 (fr r + 1)).1 (fr q) = (es_Y S lv g L ck2 (fr r)).1 (fr q) ∧ (es_Y S lv g L ck2 (fr r + 1)).2.1 (fr q) = (es_Y S lv g L ck2 (fr r)).2.1 (fr q) ∧ (es_Y S lv g L ck2 (fr r + 1)).2.2.2 (fr q) = (es_Y S lv g L ck2 (fr r)).2.2.2 (fr q) := by
    intro q hq hg
    rw [es_Y_s]
    by_cases z : ek_cl S lv L (fr r) = true
    · rw [if_pos z]
      have ng : ¬ g (fr q) = g (fr r) := fun w => hG (by rw [← hg]; exact ((hN.2.1 _ _ (ev_L hC (by omega)) rL).mpr w).symm)
      have e := es_cs_f (g := g) rL (hC.2.1 q (by omega)) ng 64 (es_Y S lv g L ck2 (fr r)) (es_Y_V (by omega))
      refine ⟨e.1, e.2.1, es_cs_d rL (fun o w1 w2 w3 => ?_) 64 _⟩
      have e1 := hN.2.2 o (fr q) (fr r) (fr r') w1 w2 lt' (ev_L hC d2) w3 ((hN.2.1 _ _ (ev_L hC (by omega)) (ev_L hC d2)).mp (by rw [hg, d3]))
      exact ng (by rw [← e1]; exact w3)
    · rw [if_neg z]; exact ⟨rfl, rfl, rfl⟩
  obtain ⟨s1, s2, s3, s4, s5⟩ := hS
  refine ⟨by omega, fun p hp => ?_, s3, fun q hq act => ?_, fun s hs => ?_⟩
  · obtain ⟨c1, c2, c3, c4, c5, c6⟩ := s2 p hp
    have e := same _ c2 c3
    exact ⟨c1, by omega, c3, c4, by rw [e.1, e.2.1]; exact c5, by rw [e.2.2]; exact c6⟩
  · obtain ⟨c3, c4, c5, c6⟩ := act
    have qr : q ≠ r := fun z => hG (by rw [← z]; exact c3)
    have e := same q (by omega) c3
    exact s4 q (by omega) ⟨c3, c4, by rw [← e.1, ← e.2.1]; exact c5, by rw [← e.2.2]; exact c6⟩
  · obtain ⟨v, v1, v2, v3⟩ := s5 s hs
    exact ⟨v, v1, by omega, v3⟩
/-- push or not -/
theorem ex_S_push {st : en_T} {ops fl : Nat → Int32} {r oc : Nat} {sq : Nat → Nat} (hr : r < R) (hG : ga (fr r) = G) (h1 : ek_op S lv L (fr r) = true) (h2 : st.1 (fr r) < st.2.1 (fr r)) (h3 : st.2.2.2 (fr r) = false) (hS : ev_S S lv L R fr ga G r st oc sq ops fl) :
    ev_S S lv L R fr ga G (r + 1) st (oc + 1) (fun p => if p = oc then r else sq p) (upd ops oc (nI r)) fl := by
  obtain ⟨s1, s2, s3, s4, s5⟩ := hS
  refine ⟨by omega, fun p hp => ?_, fun p p' w1 w2 => ?_, fun q hq act => ?_, fun s hs => ?_⟩
  · dsimp only
    by_cases e : p = oc
    · subst e; rw [if_pos rfl, ea_us]; exact ⟨rfl, by omega, hG, h1, h2, h3⟩
    · rw [if_neg e, ea_un e]
      have := s2 p (by omega)
      exact ⟨this.1, by omega, this.2.2⟩
  · dsimp only
    rw [if_neg (by omega : ¬ p = oc)]
    by_cases e : p' = oc
    · rw [if_pos e]; exact (s2 p (by omega)).2.1
    · rw [if_neg e]; exact s3 p p' w1 (by omega)
  · dsimp only
    by_cases e : q = r
    · subst e; exact ⟨oc, by omega, if_pos rfl⟩
    · obtain ⟨p, p1, p2⟩ := s4 q (by omega) act
      exact ⟨p, by omega, by rw [if_neg (by omega)]; exact p2⟩
  · obtain ⟨v, v1, v2, v3⟩ := s5 s hs
    refine ⟨v, v1, by omega, fun p hp hlt c hc he => ?_⟩
    dsimp only at hlt ⊢
    by_cases e : p = oc
    · rw [if_pos e] at hlt; omega
    · rw [if_neg e] at hlt ⊢
      exact v3 p (by omega) hlt c hc he
theorem ex_S_not {st : en_T} {ops fl : Nat → Int32} {r oc : Nat} {sq : Nat → Nat} (hn : ¬ ev_act S lv L fr ga G st r) (hS : ev_S S lv L R fr ga G r st oc sq ops fl) :
    ev_S S lv L R fr ga G (r + 1) st oc sq ops fl := by
  obtain ⟨s1, s2, s3, s4, s5⟩ := hS
  refine ⟨by omega, fun p hp => ?_, s3, fun q hq act => ?_, fun s hs => ?_⟩
  · have := s2 p hp
    exact ⟨this.1, by omega, this.2.2⟩
  · by_cases e : q = r
    · subst e; exact absurd act hn
    · exact s4 q (by omega) act
  · obtain ⟨v, v1, v2, v3⟩ := s5 s hs
    exact ⟨v, v1, by omega, v3⟩
end EX
section EY
variable {f_cap f_count f_depth f_nodes f_domain : Int32} {a_source a_kinds a_chars a_mate a_openStack a_group a_live a_runChar a_runSize a_runGroup a_runOpens a_runCloses a_start a_width a_out a_nodeOf a_clash : Nat → Int32} {L R G lc : Nat} {fr ga : Nat → Nat} {g ck2 gx : Nat → Int32}
theorem ey_close {post : SX → Prop} {r : Nat} {ops : Nat → Int32} {st : en_T} {ck rl rh fl : Nat → Int32} {oc : Nat} {sq : Nat → Nat} {f_runCount f_linkCount : Int32} (hL : L ≤ 64) (hC : ev_C a_source a_live L R fr) (hN : et_N a_source a_live g L lc gx ga) (hK : el_K a_source a_live gx L R fr a_runChar a_runSize a_runGroup a_runOpens a_runCloses) (hr : r < R) (hG : ga (fr r) = G)
    (hV : en_V L (ek_e a_source a_live L) (fr r) st) (hM : ev_M a_source a_live g L R fr ga ck2 G st ck rl rh) (hS : ev_S a_source a_live L R fr ga G r st oc sq ops fl)
    (h : ∀ ck' rl' rh' fl' oc' sq', ev_M a_source a_live g L R fr ga ck2 G (en_cs (en_F a_source a_live g L) (fr r) 64 st) ck' rl' rh' → ev_S a_source a_live L R fr ga G r (en_cs (en_F a_source a_live g L) (fr r) 64 st) oc' sq' ops fl' → post (f_cap, (nI L), f_count, f_depth, f_linkCount, f_runCount, (nI oc'), f_nodes, f_domain, a_source, a_kinds, a_chars, a_mate, a_openStack, ck', a_group, a_live, rl', rh', a_runChar, a_runSize, a_runGroup, a_runOpens, a_runCloses, ops, fl', a_start, a_width, a_out, a_nodeOf, a_clash)) :
    wpX_closeWith post (f_cap, (nI L), f_count, f_depth, f_linkCount, f_runCount, (nI oc), f_nodes, f_domain, a_source, a_kinds, a_chars, a_mate, a_openStack, ck, a_group, a_live, rl, rh, a_runChar, a_runSize, a_runGroup, a_runOpens, a_runCloses, ops, fl, a_start, a_width, a_out, a_nodeOf, a_clash) (nI r) := by
  have rL := ev_L hC hr
  have RL := hC.1
  have cr : (nI r).toNatClampNeg = r := nI_clamp (by omega)
  have vr : vp_in (nI r) 64 := vp_in_nI (by omega) (by omega)
  have wc := hV.1 (fr r) rL
  have ec := ek_e_le (S := a_source) (lv := a_live) rL
  obtain ⟨r1, r2, r3, r4, r5⟩ := hK r hr
  have c31 : ∀ (z1 z0 : Nat), z1 = (if a_source (fr r) = 42 then 0 else 6) → z0 = (if ek_op a_source a_live L (fr r) = true then 3 else 0) → wX_closeWith_31 post (nI r) (nI z0) (nI z1) f_cap (nI L) f_count f_depth f_linkCount f_runCount (nI oc) f_nodes f_domain a_source a_kinds a_chars a_mate a_openStack ck a_group a_live rl rh a_runChar a_runSize a_runGroup a_runOpens a_runCloses ops fl a_start a_width a_out a_nodeOf a_clash := by
    intro z1 z0 e1 e0
    have b1 : z1 ≤ 6 := by rw [e1]; split <;> omega
    have b0 : z0 ≤ 3 := by rw [e0]; split <;> omega
    unfold wX_closeWith_31
    rw [cr, r2, en_rem (by omega), nI_add, nI_add]
    refine ⟨vr, by decide, nm_e ⟨vr, nm_e ⟨ek_e a_source a_live L (fr r) - fr r + 1, ?_⟩⟩⟩
    exact ew_close hL hC hN hK hr hG (by unfold ev_sort en_ln; rw [e1, e0]) 64 _ _ st ck rl rh fl oc sq hV (by omega) (by omega) (by omega) (by omega) hM hS h
  refine ⟨vr, ?_⟩
  rw [cr, r1]
  have c17 : ∀ (z1 : Nat), z1 = (if a_source (fr r) = 42 then 0 else 6) → wX_closeWith_17 post (nI r) (nI z1) f_cap (nI L) f_count f_depth f_linkCount f_runCount (nI oc) f_nodes f_domain a_source a_kinds a_chars a_mate a_openStack ck a_group a_live rl rh a_runChar a_runSize a_runGroup a_runOpens a_runCloses ops fl a_start a_width a_out a_nodeOf a_clash := by
    intro z1 e1
    unfold wX_closeWith_17
    rw [cr, r4]
    exact ⟨vr, ea_br (fun a => c31 z1 0 e1 (by rw [a]; rfl)) (fun a => c31 z1 3 e1 (by rw [a]; rfl))⟩
  exact br_c (fun a => c17 0 (by rw [if_pos a])) (fun a => c17 6 (by rw [if_neg a]))
theorem ey_mg {post : SX → Prop} {f_linkCount : Int32} (hL : L ≤ 64) (hC : ev_C a_source a_live L R fr) (hN : et_N a_source a_live g L lc gx ga) (hK : el_K a_source a_live gx L R fr a_runChar a_runSize a_runGroup a_runOpens a_runCloses) (hGl : G ≤ 64) (hlc : lc ≤ 64)
    (h : ∀ ck' rl' rh' ops' fl' oc', ev_M a_source a_live g L R fr ga ck2 G (es_Y a_source a_live g L ck2 L) ck' rl' rh' → post (f_cap, (nI L), f_count, f_depth, f_linkCount, (nI R), oc', f_nodes, f_domain, a_source, a_kinds, a_chars, a_mate, a_openStack, ck', a_group, a_live, rl', rh', a_runChar, a_runSize, a_runGroup, a_runOpens, a_runCloses, ops', fl', a_start, a_width, a_out, a_nodeOf, a_clash)) :
    ∀ (d r n : Nat) (ck rl rh ops fl : Nat → Int32) (oc : Int32), r + d = R → d < n → ev_M a_source a_live g L R fr ga ck2 G (es_Y a_source a_live g L ck2 (ex_cc L R fr r)) ck rl rh →
    ((∃ r', r ≤ r' ∧ r' < R ∧ ga (fr r') = G) → ∃ oc' sq, oc = nI oc' ∧ ev_S a_source a_live L R fr ga G r (es_Y a_source a_live g L ck2 (ex_cc L R fr r)) oc' sq ops fl) →
    wX_matchGroup_28 post (nI G) n (nI r) f_cap (nI L) f_count f_depth f_linkCount (nI R) oc f_nodes f_domain a_source a_kinds a_chars a_mate a_openStack ck a_group a_live rl rh a_runChar a_runSize a_runGroup a_runOpens a_runCloses ops fl a_start a_width a_out a_nodeOf a_clash := by
  have RL := hC.1
  intro d
  induction d with
  | zero =>
    intro r n ck rl rh ops fl oc h1 h2 hM hS
    obtain ⟨n, rfl⟩ : ∃ z, n = z + 1 := ⟨n - 1, by omega⟩
    have e : ex_cc L R fr r = L := by unfold ex_cc; rw [if_neg (by omega)]
    rw [e] at hM
    exact br_t (nI_le (by omega) (by omega)) (h ck rl rh ops fl oc hM)
  | succ d ih =>
    intro r n ck rl rh ops fl oc h1 h2 hM hS
    obtain ⟨n, rfl⟩ : ∃ z, n = z + 1 := ⟨n - 1, by omega⟩
    have hr : r < R := by omega
    have rL := ev_L hC hr
    have e : ex_cc L R fr r = fr r := by unfold ex_cc; rw [if_pos hr]
    rw [e] at hM hS
    have nx := ex_next (g := g) (ck2 := ck2) hC hr
    have cr : (nI r).toNatClampNeg = r := nI_clamp (by omega)
    have vr : vp_in (nI r) 64 := vp_in_nI (by omega) (by omega)
    obtain ⟨r1, r2, r3, r4, r5⟩ := hK r hr
    obtain ⟨n1, n2⟩ := hN.1 (fr r) rL
    refine br_f (nI_ge (by omega) (by omega)) ⟨vr, ?_⟩
    rw [cr, r3, n1]
    refine pk_eq (ga (fr r)) G (fun hG => ?_) (fun hG => ?_)
    · -- a run of this group
      obtain ⟨oc', sq, eoc, hS'⟩ := hS ⟨r, Nat.le_refl _, hr, hG⟩
      subst eoc
      have hV : en_V L (ek_e a_source a_live L) (fr r) (es_Y a_source a_live g L ck2 (fr r)) := es_Y_V (by omega)
      have m63 : ∀ (st : en_T) (ck rl rh fl : Nat → Int32) (oc : Nat) (sq : Nat → Nat), es_Y a_source a_live g L ck2 (fr r + 1) = st → en_V L (ek_e a_source a_live L) (fr r) st → ev_M a_source a_live g L R fr ga ck2 G st ck rl rh → ev_S a_source a_live L R fr ga G r st oc sq ops fl →
          wX_matchGroup_63 post (wX_matchGroup_28 post (nI G) n) (nI G) (nI r) f_cap (nI L) f_count f_depth f_linkCount (nI R) (nI oc) f_nodes f_domain a_source a_kinds a_chars a_mate a_openStack ck a_group a_live rl rh a_runChar a_runSize a_runGroup a_runOpens a_runCloses ops fl a_start a_width a_out a_nodeOf a_clash := by
        intro st ck rl rh fl oc sq est hV hM hS
        have vw := (hM.1 r hr).2.1 hG
        have wc := hV.1 (fr r) rL
        have ec := ek_e_le (S := a_source) (lv := a_live) rL
        have ocr := hS.1
        unfold wX_matchGroup_63
        rw [cr, r4, vw.1, vw.2.1]
        refine ⟨vr, ea_br (fun a => nm_r (nI_1 r) (ih (r + 1) n _ _ _ _ _ _ (by omega) (by omega) (by rw [nx, est]; exact hM) (fun _ => ⟨oc, sq, rfl, ?_⟩))) (fun a => ⟨vr, vr, pk_le (st.2.1 (fr r)) (st.1 (fr r)) (fun b => nm_r (nI_1 r) (ih (r + 1) n _ _ _ _ _ _ (by omega) (by omega) (by rw [nx, est]; exact hM) (fun _ => ⟨oc, sq, rfl, ?_⟩))) (fun b => ⟨vp_in_nI (by omega) (by omega), nm_r (e' := upd ops oc (nI r)) (by rw [nI_clamp (by omega : oc < 2 ^ 31)]) (nm_r (nI_1 oc) (nm_r (nI_1 r) (ih (r + 1) n _ _ _ _ _ _ (by omega) (by omega) (by rw [nx, est]; exact hM) (fun _ => ⟨oc + 1, fun p => if p = oc then r else sq p, rfl, ?_⟩))))⟩)⟩)⟩
        · rw [nx, est]
          exact ex_S_not (fun act => by rw [act.2.1] at a; exact absurd a (by decide)) hS
        · rw [nx, est]
          exact ex_S_not (fun act => by have := act.2.2.1; omega) hS
        · rw [nx, est]
          exact ex_S_push hr hG a b (hV.2 _ (Nat.le_refl _) rL) hS
      refine ⟨vr, ?_⟩
      rw [r5]
      refine ea_br (fun a => m63 (es_Y a_source a_live g L ck2 (fr r)) ck rl rh fl oc' sq (by rw [es_Y_s, a]; rfl) hV hM hS') (fun a => ey_close hL hC hN hK hr hG hV hM hS' (fun ck' rl' rh' fl' oc2 sq2 hM2 hS2 => ?_))
      exact m63 _ ck' rl' rh' fl' oc2 sq2 (by rw [es_Y_s, a]; rfl) (en_V_cs rL 64 _ hV) hM2 hS2
    · -- another group
      refine nm_r (nI_1 r) (ih (r + 1) n ck rl rh ops fl oc (by omega) (by omega) (by rw [nx]; exact ex_M_o hC hN hr hG hM) (fun hd => ?_))
      obtain ⟨r', d1, d2, d3⟩ := hd
      obtain ⟨oc', sq, eoc, hS⟩ := hS ⟨r', by omega, d2, d3⟩
      exact ⟨oc', sq, eoc, by rw [nx]; exact ex_S_o hC hN hr hG ⟨r', d1, d2, d3⟩ hS⟩
theorem ey_group {post : SX → Prop} {ck rl rh ops fl : Nat → Int32} {f_linkCount oc : Int32} (hL : L ≤ 64) (hC : ev_C a_source a_live L R fr) (hN : et_N a_source a_live g L lc gx ga) (hK : el_K a_source a_live gx L R fr a_runChar a_runSize a_runGroup a_runOpens a_runCloses) (hGl : G ≤ 64) (hlc : lc ≤ 64)
    (hM : ev_M a_source a_live g L R fr ga ck2 G (es_0 a_source a_live L ck2) ck rl rh)
    (h : ∀ ck' rl' rh' ops' fl' oc', ev_M a_source a_live g L R fr ga ck2 G (es_Y a_source a_live g L ck2 L) ck' rl' rh' → post (f_cap, (nI L), f_count, f_depth, f_linkCount, (nI R), oc', f_nodes, f_domain, a_source, a_kinds, a_chars, a_mate, a_openStack, ck', a_group, a_live, rl', rh', a_runChar, a_runSize, a_runGroup, a_runOpens, a_runCloses, ops', fl', a_start, a_width, a_out, a_nodeOf, a_clash)) :
    wpX_matchGroup post (f_cap, (nI L), f_count, f_depth, f_linkCount, (nI R), oc, f_nodes, f_domain, a_source, a_kinds, a_chars, a_mate, a_openStack, ck, a_group, a_live, rl, rh, a_runChar, a_runSize, a_runGroup, a_runOpens, a_runCloses, ops, fl, a_start, a_width, a_out, a_nodeOf, a_clash) (nI G) := by
  have key : ∀ d s n, s + d = 12 → d < n → wX_matchGroup_2 post (nI G) f_cap (nI L) f_count f_depth f_linkCount (nI R) oc f_nodes f_domain n (nI s) a_source a_kinds a_chars a_mate a_openStack ck a_group a_live rl rh a_runChar a_runSize a_runGroup a_runOpens a_runCloses ops (ee_fill fl 0 s 0) a_start a_width a_out a_nodeOf a_clash := by
    intro d
    induction d with
    | zero =>
      intro s n h1 h2
      obtain ⟨n, rfl⟩ : ∃ z, n = z + 1 := ⟨n - 1, by omega⟩
      have e : s = 12 := by omega
      subst e
      refine br_t (nI_le (a := 12) (Nat.le_refl _) (by omega)) ⟨R + 1, ey_mg hL hC hN hK hGl hlc h R 0 (R + 1) ck rl rh ops _ 0 (by omega) (by omega) (by rw [ex_first hC]; exact hM) (fun _ => ⟨0, fun _ => 0, rfl, ?_⟩)⟩
      exact ⟨by omega, fun p hp => by omega, fun p p' h1 h2 => by omega, fun q hq => by omega, fun s hs => ⟨0, ee_fill_in (by omega) hs, by omega, fun p hp => by omega⟩⟩
    | succ d ih =>
      intro s n h1 h2
      obtain ⟨n, rfl⟩ : ∃ z, n = z + 1 := ⟨n - 1, by omega⟩
      exact br_f (nI_ge (b := 12) (by omega) (by omega)) ⟨vp_in_nI (by omega) (by omega), nm_r (e' := ee_fill fl 0 (s + 1) 0) (by rw [nI_clamp (by omega : s < 2 ^ 31)]; exact ee_fill_s (by omega)) (nm_r (nI_1 s) (ih (s + 1) n (by omega) (by omega)))⟩
  have q := key 12 0 13 (by omega) (by omega)
  rw [ee_fill_0] at q
  exact ⟨_, q⟩
/-- all groups: the cells are the trace's -/
theorem ey_groups {post : Int32 → SX → Prop} {rl rh ops fl : Nat → Int32} {oc : Int32} (hL : L ≤ 64) (hC : ev_C a_source a_live L R fr) (hN : et_N a_source a_live g L lc gx ga) (hK : el_K a_source a_live gx L R fr a_runChar a_runSize a_runGroup a_runOpens a_runCloses) (hlc : lc ≤ L)
    (hM : ev_M a_source a_live g L R fr ga ck2 0 (es_0 a_source a_live L ck2) ck2 rl rh)
    (h : ∀ n rl' rh' ops' fl' oc', wX_parse_39 post (n + 1) (nI (lc + 1)) f_cap (nI L) f_count f_depth (nI lc) (nI R) oc' f_nodes f_domain a_source a_kinds a_chars a_mate a_openStack ((es_Y a_source a_live g L ck2 L).2.2.1) a_group a_live rl' rh' a_runChar a_runSize a_runGroup a_runOpens a_runCloses ops' fl' a_start a_width a_out a_nodeOf a_clash) :
    ∃ n, wX_parse_39 post n 0 f_cap (nI L) f_count f_depth (nI lc) (nI R) oc f_nodes f_domain a_source a_kinds a_chars a_mate a_openStack ck2 a_group a_live rl rh a_runChar a_runSize a_runGroup a_runOpens a_runCloses ops fl a_start a_width a_out a_nodeOf a_clash := by
  have key : ∀ d G n ck rl rh ops fl oc, G + d = lc + 1 → d < n → ev_M a_source a_live g L R fr ga ck2 G (es_0 a_source a_live L ck2) ck rl rh → wX_parse_39 post n (nI G) f_cap (nI L) f_count f_depth (nI lc) (nI R) oc f_nodes f_domain a_source a_kinds a_chars a_mate a_openStack ck a_group a_live rl rh a_runChar a_runSize a_runGroup a_runOpens a_runCloses ops fl a_start a_width a_out a_nodeOf a_clash := by
    intro d
    induction d with
    | zero =>
      intro G n ck rl rh ops fl oc h1 h2 hM
      obtain ⟨n, rfl⟩ : ∃ z, n = z + 1 := ⟨n - 1, by omega⟩
      have e : G = lc + 1 := by omega
      subst e
      have ec : ck = (es_Y a_source a_live g L ck2 L).2.2.1 := by
        funext x
        by_cases z : ∃ k, ek_fs a_source a_live L k ∧ es_in a_source a_live L k x
        · obtain ⟨k, k1, k2⟩ := z
          obtain ⟨q, q1, q2⟩ := hC.2.2.2 k k1
          have kl := k1.1.1
          have := (hN.1 k kl).2
          exact ((hM.1 q q1).1 (by rw [q2]; omega)).2.2 x (by rw [q2]; exact k2)
        · rw [hM.2 x (fun k h1 h2 => z ⟨k, h1, h2⟩)]
          exact (es_Y_x (fun k h1 h2 => z ⟨k, h1, h2⟩) L (Nat.le_refl _)).symm
      rw [ec]
      exact h n rl rh ops fl oc
    | succ d ih =>
      intro G n ck rl rh ops fl oc h1 h2 hM
      obtain ⟨n, rfl⟩ : ∃ z, n = z + 1 := ⟨n - 1, by omega⟩
      refine br_f (nI_nlt (by omega) (by omega)) (ey_group hL hC hN hK (by omega) (by omega) hM (fun ck' rl' rh' ops' fl' oc' hM' => nm_r (nI_1 G) (ih (G + 1) n ck' rl' rh' ops' fl' oc' (by omega) (by omega) ?_)))
      refine ⟨fun q hq => ⟨fun h3 => ?_, fun h3 => (hM'.1 q hq).2.2 (by omega), fun h3 => (hM'.1 q hq).2.2 (by omega)⟩, hM'.2⟩
      by_cases z : ga (fr q) = G
      · exact (hM'.1 q hq).2.1 z
      · exact (hM'.1 q hq).1 (by omega)
  exact ⟨_, key (lc + 1) 0 (lc + 2) ck2 rl rh ops fl oc (by omega) (by omega) hM⟩
end EY
end
section
/-! parse: the cells' nodes are nested -/
def ez_ch (S : Nat → Int32) (L : Nat) (k : Int32) (x : Nat) : Int32 := if k = 0 then S x else if k = 8 ∧ x + 2 < L then S (x + 2) else 0
def ez_R (S : Nat → Int32) (L : Nat) (out : Nat → Int32) : Prop := ∀ x, x < L → out x = -1 ∨ eb_Kc (out x) (ez_ch S L (out x) x)
def ez_Lv (out : Nat → Int32) (x y : Nat) : Prop := eb_dp out x = eb_dp out y ∧ ∀ t, x ≤ t → t ≤ y → eb_dp out x ≤ eb_dp out t
theorem ez_ch17 {S : Nat → Int32} {L x : Nat} {k : Int32} (h : k = 1 ∨ k = 2 ∨ k = 3 ∨ k = 4 ∨ k = 5 ∨ k = 6 ∨ k = 7) : eb_Kc k (ez_ch S L k x) := by
  have e : ez_ch S L k x = 0 := by
    unfold ez_ch
    rw [if_neg (by rcases h with z | z | z | z | z | z | z <;> subst z <;> decide), if_neg (fun w => by
      have := w.1
      rcases h with z | z | z | z | z | z | z <;> subst z <;> exact absurd this (by decide))]
  rw [e]
  exact Or.inr (Or.inl ⟨h, rfl⟩)
theorem ez_ch0 {S : Nat → Int32} {L x : Nat} (h : ea_ok (S x)) : eb_Kc 0 (ez_ch S L 0 x) := by
  unfold ez_ch
  rw [if_pos rfl]
  exact Or.inl ⟨rfl, h⟩
section EZ
variable {S lv ck g : Nat → Int32} {L : Nat}
/-- the start -/
theorem ez_R0 (hS : ∀ x, x < L → ea_ok (S x)) (I : ef_Inv S L L L ck lv) : ez_R S L (eh_lk (eh_Lk S lv L) ck) := by
  intro x hx
  by_cases h1 : ∃ j, eh_Lk S lv L x j
  · refine Or.inr ?_
    have e : eh_lk (eh_Lk S lv L) ck x = 4 := by unfold eh_lk; rw [eh_bt h1]; rfl
    rw [e]; exact ez_ch17 (by decide)
  · by_cases h2 : ∃ i, eh_Lk S lv L i x
    · refine Or.inr ?_
      have e : eh_lk (eh_Lk S lv L) ck x = 8 := by unfold eh_lk; rw [eh_bf h1, eh_bt h2]; rfl
      rw [e]
      obtain ⟨i, l⟩ := h2
      have := l.2.1
      unfold ez_ch
      rw [if_neg (by decide), if_pos ⟨rfl, by omega⟩]
      exact Or.inr (Or.inr ⟨rfl, l.2.2.2.2.2.2.2.2.1⟩)
    · by_cases h3 : ∃ i j, eh_Lk S lv L i j ∧ j < x ∧ x ≤ j + 3
      · refine Or.inl ?_
        unfold eh_lk; rw [eh_bf h1, eh_bf h2, eh_bt h3]; rfl
      · rw [eh_lk_n h1 h2 h3]
        rcases I.2.2.2.2.2.2.2.1 x hx with z | z | z | z
        · exact Or.inl z
        · rw [z]; exact Or.inr (ez_ch0 (hS x hx))
        · rw [z]; exact Or.inr (ez_ch17 (by decide))
        · rw [z]; exact Or.inr (ez_ch17 (by decide))
theorem ez_st0 (I : ef_Inv S L L L ck lv) {x : Nat} (h : ek_st S lv L x) : eh_lk (eh_Lk S lv L) ck x = 0 := by
  rw [eh_lk_n]
  · exact (eh_lv (p := 0) I h.1 h.2.1).2.1
  · intro ⟨j, l⟩
    have := l.2.2.2.1
    rcases h.2.2 with z | z <;> rw [z] at this <;> exact absurd this (by decide)
  · intro ⟨i, l⟩
    have := l.2.2.2.2.2.1
    rcases h.2.2 with z | z <;> rw [z] at this <;> exact absurd this (by decide)
  · intro ⟨i, j, l, w1, w2⟩
    have e : x = j + 1 ∨ x = j + 2 ∨ x = j + 3 := by omega
    have sx : S x = 40 ∨ ea_al (S x) = true ∨ S x = 41 := by
      rcases e with z | z | z
      · rw [z]; exact Or.inl l.2.2.2.2.2.2.2.1
      · rw [z]; exact Or.inr (Or.inl l.2.2.2.2.2.2.2.2.1)
      · rw [z]; exact Or.inr (Or.inr l.2.2.2.2.2.2.2.2.2)
    rcases h.2.2 with z | z <;> rw [z] at sx <;> exact absurd sx (by decide)
theorem ez_dp0 (I : ef_Inv S L L L ck lv) : ee_CP (eh_lk (eh_Lk S lv L) ck) L ∧ (∀ t, eb_dp (eh_lk (eh_Lk S lv L) ck) t = eb_dp ck t + (if eh_b (eh_cv (eh_Lk S lv L) t) = true then 1 else 0)) := by
  have e : eh_P S lv L L = eh_Lk S lv L := by
    funext a b
    exact propext eh_P_L
  have := eh_cp I L
  rw [e] at this
  exact this
theorem ez_L0 (I : ef_Inv S L L L ck lv) : eb_dp (eh_lk (eh_Lk S lv L) ck) L = 0 := by
  rw [(ez_dp0 I).2, I.2.2.2.2.2.1, eh_bf]
  · rfl
  · intro ⟨a, b, l, w1, w2⟩
    have := l.2.1
    omega
theorem ez_Lv0 (hL : L ≤ 64) (I : ef_Inv S L L L ck lv) (H : ei_GY (eh_Lk S lv L) L g) {x y : Nat} (hx : ek_st S lv L x) (hy : ek_st S lv L y) (hg : g x = g y) : ez_Lv (eh_lk (eh_Lk S lv L) ck) x y := by
  have dp := (ez_dp0 I).2
  have dx := (eh_lv (p := 0) I hx.1 hx.2.1).2.2
  have dy := (eh_lv (p := 0) I hy.1 hy.2.1).2.2
  have nb : ∀ z, ek_st S lv L z → ∀ a b, eh_Lk S lv L a b → a < z → z ≤ b → z < b := fun z hz a b l w1 w2 => by
    apply Decidable.byContradiction
    intro w3
    have : z = b := by omega
    subst this
    have := l.2.2.2.2.2.1
    rcases hz.2.2 with q | q <;> rw [q] at this <;> exact absurd this (by decide)
  have al : ∀ a b, eh_Lk S lv L a b → a < 2 ^ 31 := fun a b l => by have := l.1; have := l.2.1; omega
  by_cases cx : eh_cv (eh_Lk S lv L) x
  · obtain ⟨a, b, l, x1, x2⟩ := cx
    have gx := H.1 a b x l x1 (nb x hx a b l x1 x2)
    have cy : eh_cv (eh_Lk S lv L) y := by
      apply Classical.byContradiction
      intro n
      have := H.2 y hy.1 (fun ⟨a', b', l', y1, y2⟩ => n ⟨a', b', l', y1, by omega⟩)
      rw [← hg, gx] at this
      exact absurd this (ea_ne1 (al _ _ l))
    obtain ⟨a', b', l', y1, y2⟩ := cy
    have gy := H.1 a' b' y l' y1 (nb y hy a' b' l' y1 y2)
    have e : a = a' := ea_im (by rw [← gx, ← gy]; exact hg) (al _ _ l) (al _ _ l')
    subst e
    have := eh_fun l l'
    subst this
    refine ⟨?_, fun t t1 t2 => ?_⟩
    · rw [dp, dp, dx, dy, eh_bt ⟨a, b, l, x1, x2⟩, eh_bt ⟨a, b, l, y1, y2⟩]
    · rw [dp x, dp t, dx, eh_bt ⟨a, b, l, x1, x2⟩, eh_bt (P := eh_cv (eh_Lk S lv L) t) ⟨a, b, l, by omega, by omega⟩, if_pos rfl]; omega
  · have gx := H.2 x hx.1 (fun ⟨a', b', l', y1, y2⟩ => cx ⟨a', b', l', y1, by omega⟩)
    have cy : ¬ eh_cv (eh_Lk S lv L) y := fun ⟨a', b', l', y1, y2⟩ => by
      have gy := H.1 a' b' y l' y1 (nb y hy a' b' l' y1 y2)
      rw [← hg, gx] at gy
      exact absurd gy.symm (ea_ne1 (al _ _ l'))
    refine ⟨?_, fun t t1 t2 => ?_⟩
    · rw [dp, dp, dx, dy, eh_bf cx, eh_bf cy]
    · rw [dp x, dx, eh_bf cx]
      exact Nat.zero_le _
/-- the trace's cells -/
def ez_I (S lv g : Nat → Int32) (L : Nat) (st : en_T) : Prop :=
  ee_CP st.2.2.1 L ∧ eb_dp st.2.2.1 L = 0 ∧ ez_R S L st.2.2.1 ∧ (∀ k x, k < L → st.1 k ≤ x → x < st.2.1 k → st.2.2.1 x = 0) ∧
  (∀ k k' x y, k < L → k' < L → st.2.2.2 k = false → st.2.2.2 k' = false → st.1 k ≤ x → x < st.2.1 k → st.1 k' ≤ y → y < st.2.1 k' → x < y → g k = g k' → ez_Lv st.2.2.1 x y)
theorem ez_I_pr {st : en_T} {o c : Nat} (hc : c < L) (hV : en_V L (ek_e S lv L) c st) (l2 : st.1 c < st.2.1 c) (ho : en_fo (en_F S lv g L) st c c = some o) (hI : ez_I S lv g L st) : ez_I S lv g L (en_pr st o c) := by
  have q := en_fo_s ho
  have w := en_ok_i q.2.1
  have go := es_F_g w.1
  have l1 := w.2.1
  have u := en_u_le l1 l2
  have u12 := en_u_12 (st := st) (o := o) (c := c)
  have fo : ek_fs S lv L o := es_fs hV.1 (by omega) l1
  have fc : ek_fs S lv L c := es_fs hV.1 hc l2
  have oc := ek_dis fo fc q.1
  have wo := hV.1 o (by omega)
  have wc := hV.1 c hc
  have ec := ek_e_f fc
  obtain ⟨i1, i2, i3, i4, i5⟩ := hI
  have lvl := i5 o c (st.2.1 o - en_u st o c) (st.1 c) (by omega) hc w.2.2 (hV.2 c (Nat.le_refl _) hc) (by omega) (by omega) (by omega) (by omega) (by omega) go.2.2
  -- names
  have na : ee_nt (st.2.2.1 (st.2.1 o - en_u st o c)) := by rw [i4 o _ (by omega) (by omega) (by omega)]; exact ee_nt0
  have nb : ee_nt (st.2.2.1 (st.1 c)) := by rw [i4 c _ hc (by omega) (by omega)]; exact ee_nt0
  have ha : (en_pr st o c).2.2.1 (st.2.1 o - en_u st o c) = nI (en_u st o c) := by
    show en_out _ _ _ _ _ = _
    unfold en_out
    rw [ea_un (by omega)]; exact ea_us
  have hb : (en_pr st o c).2.2.1 (st.1 c) = nI (en_u st o c) + 4 := by
    rw [ea_4]
    exact ea_us
  have cell : ∀ x, x ≠ st.2.1 o - en_u st o c → x ≠ st.1 c → (en_pr st o c).2.2.1 x = st.2.2.1 x ∨ (st.2.2.1 x = 0 ∧ (en_pr st o c).2.2.1 x = -1) := by
    intro x h1 h2
    show en_out _ _ _ _ _ = _ ∨ (_ ∧ en_out _ _ _ _ _ = _)
    unfold en_out
    rw [ea_un h2, ea_un h1]
    by_cases e1 : x = st.1 c + en_u st o c - 1
    · subst e1
      refine Or.inr ⟨i4 c _ hc (by omega) (by omega), ea_us⟩
    · rw [ea_un e1]
      by_cases e2 : x = st.2.1 o - en_u st o c + en_u st o c - 1
      · subst e2
        refine Or.inr ⟨i4 o _ (by omega) (by omega) (by omega), ea_us⟩
      · rw [ea_un e2]; exact Or.inl rfl
  have hs : ∀ x, x ≠ st.2.1 o - en_u st o c → x ≠ st.1 c → (en_pr st o c).2.2.1 x = st.2.2.1 x ∨ (ee_nt (st.2.2.1 x) ∧ ee_nt ((en_pr st o c).2.2.1 x)) := fun x h1 h2 => by
    rcases cell x h1 h2 with z | ⟨z1, z2⟩
    · exact Or.inl z
    · rw [z1, z2]; exact Or.inr ⟨ee_nt0, ee_nt1⟩
  have ku : eb_op (nI (en_u st o c)) = true := by
    rcases u12 with z | z <;> rw [z] <;> decide
  have dp := ee_ins_dp ku (by omega : st.2.1 o - en_u st o c < st.1 c) ha hb na nb hs (fun x _ h2 h3 => ee_CP_1 i1 (by omega) h3)
  have cp := ee_ins_CP ku (by omega : st.2.1 o - en_u st o c < st.1 c) ha hb na nb hs i1 (by omega) lvl.1 lvl.2
  -- fields of the new state
  have g1 : ∀ k x, (en_pr st o c).1 k ≤ x → st.1 k ≤ x ∧ (k = c → st.1 c + en_u st o c ≤ x) := fun k x h => by
    have h : (if k = c then st.1 c + en_u st o c else st.1 k) ≤ x := h
    by_cases e : k = c
    · rw [if_pos e] at h; subst e; exact ⟨by omega, fun _ => h⟩
    · rw [if_neg e] at h; exact ⟨h, fun z => absurd z e⟩
  have g2 : ∀ k x, x < (en_pr st o c).2.1 k → x < st.2.1 k ∧ (k = o → x < st.2.1 o - en_u st o c) := fun k x h => by
    have h : x < (if k = o then st.2.1 o - en_u st o c else st.2.1 k) := h
    by_cases e : k = o
    · rw [if_pos e] at h; subst e; exact ⟨by omega, fun _ => h⟩
    · rw [if_neg e] at h; exact ⟨h, fun z => absurd z e⟩
  have g3 : ∀ k, (en_pr st o c).2.2.2 k = false → st.2.2.2 k = false ∧ ¬ (o < k ∧ k < c) := fun k h => by
    have h : (if o < k ∧ k < c then true else st.2.2.2 k) = false := h
    by_cases e : o < k ∧ k < c
    · rw [if_pos e] at h; exact absurd h (by decide)
    · rw [if_neg e] at h; exact ⟨h, e⟩
  have away : ∀ k x, k < L → (en_pr st o c).2.2.2 k = false → (en_pr st o c).1 k ≤ x → x < (en_pr st o c).2.1 k → ¬ (st.2.1 o - en_u st o c < x ∧ x ≤ st.1 c) := by
    intro k x hk h3 h1 h2 hh
    have a1 := g1 k x h1
    have a2 := g2 k x h2
    have a3 := g3 k h3
    have wk := hV.1 k hk
    have fk : ek_fs S lv L k := es_fs hV.1 hk (by omega)
    rcases Nat.lt_trichotomy k o with z | z | z
    · have := ek_dis fk fo z; omega
    · have := a2.2 z; omega
    · rcases Nat.lt_trichotomy k c with y | y | y
      · exact a3.2 ⟨z, y⟩
      · have := a1.2 y; omega
      · have := ek_dis fc fk y; omega
  refine ⟨cp, ?_, fun x hx => ?_, fun k x hk h1 h2 => ?_, fun k k' x y hk hk' h1 h2 h3 h4 h5 h6 h7 h8 => ?_⟩
  · rw [dp, i2, if_neg (by omega)]
  · by_cases e1 : x = st.2.1 o - en_u st o c
    · rw [e1, ha]
      refine Or.inr (ez_ch17 ?_)
      rcases u12 with z | z <;> rw [z] <;> decide
    · by_cases e2 : x = st.1 c
      · rw [e2, hb]
        refine Or.inr (ez_ch17 ?_)
        rcases u12 with z | z <;> rw [z] <;> decide
      · rcases cell x e1 e2 with z | ⟨_, z⟩
        · rw [z]; exact i3 x hx
        · exact Or.inl z
  · have a1 := g1 k x h1
    have a2 := g2 k x h2
    have wk := hV.1 k hk
    have fk : ek_fs S lv L k := es_fs hV.1 hk (by omega)
    have old := i4 k x hk a1.1 a2.1
    have ne : ∀ z, es_in S lv L o z → z = x → k = o := fun z hz e => es_in_1 fk fo (x := x) ⟨by omega, by omega⟩ (by rw [← e]; exact hz)
    have ne2 : ∀ z, es_in S lv L c z → z = x → k = c := fun z hz e => es_in_1 fk fc (x := x) ⟨by omega, by omega⟩ (by rw [← e]; exact hz)
    show en_out _ _ _ _ _ = 0
    rw [es_out]
    · exact old
    · intro e
      have := ne _ ⟨by omega, by omega⟩ e.symm
      have := a2.2 this
      omega
    · intro e
      have := ne2 _ ⟨by omega, by omega⟩ e.symm
      have := a1.2 this
      omega
    · intro e
      have := ne _ ⟨by omega, by omega⟩ e.symm
      have := a2.2 this
      omega
    · intro e
      have := ne2 _ ⟨by omega, by omega⟩ e.symm
      have := a1.2 this
      omega
  · have a1 := g1 k x h3
    have a2 := g2 k x h4
    have b1 := g1 k' y h5
    have b2 := g2 k' y h6
    have old := i5 k k' x y hk hk' (g3 k h1).1 (g3 k' h2).1 a1.1 a2.1 b1.1 b2.1 h7 h8
    have nx := away k x hk h1 h3 h4
    have ny := away k' y hk' h2 h5 h6
    refine ⟨?_, fun t t1 t2 => ?_⟩
    · rw [dp, dp, if_neg nx, if_neg ny]; exact old.1
    · rw [dp x, dp t, if_neg nx]
      have := old.2 t t1 t2
      omega
theorem ez_I_cs {c : Nat} (hc : c < L) : ∀ f st, en_V L (ek_e S lv L) c st → ez_I S lv g L st → ez_I S lv g L (en_cs (en_F S lv g L) c f st) := by
  intro f
  induction f with
  | zero => intro st _ h; exact h
  | succ f ih =>
    intro st hV h
    by_cases z : st.1 c < st.2.1 c
    · cases y : en_fo (en_F S lv g L) st c c with
      | none => rw [en_cs_n y]; exact h
      | some o => rw [en_cs_s z y]; exact ih _ (en_V_pr hV hc z y) (ez_I_pr hc hV z y h)
    · rw [en_cs_0 z]; exact h
theorem ez_I_0 (hL : L ≤ 64) (hS : ∀ x, x < L → ea_ok (S x)) (I : ef_Inv S L L L ck lv) (H : ei_GY (eh_Lk S lv L) L g) : ez_I S lv g L (es_0 S lv L (eh_lk (eh_Lk S lv L) ck)) := by
  have st : ∀ k x, k < L → k ≤ x → x < ek_e S lv L k → ek_st S lv L x := fun k x hk h1 h2 => by
    have fk : ek_fs S lv L k := by
      apply Classical.byContradiction
      intro z
      rw [ek_e_n z] at h2
      omega
    exact ek_in fk h1 h2
  have gg : ∀ k x, k < L → k ≤ x → x < ek_e S lv L k → g x = g k := fun k x hk h1 h2 => by
    have fk : ek_fs S lv L k := by
      apply Classical.byContradiction
      intro z
      rw [ek_e_n z] at h2
      omega
    have ef := ek_e_f fk
    have nbr : ∀ t, k ≤ t → t ≤ x → ¬ S t = 91 ∧ ¬ S t = 93 := fun t t1 t2 => by
      have := (st k t hk t1 (by omega)).2.2
      rcases this with z | z <;> rw [z] <;> exact ⟨by decide, by decide⟩
    by_cases z : ∃ a b, eh_Lk S lv L a b ∧ a < k ∧ k < b
    · obtain ⟨a, b, l, z1, z2⟩ := z
      have : x < b := by
        apply Decidable.byContradiction
        intro w
        exact (nbr b (by omega) (by omega)).2 l.2.2.2.2.2.1
      rw [H.1 a b k l z1 z2, H.1 a b x l (by omega) this]
    · have z2 : ¬ ∃ a b, eh_Lk S lv L a b ∧ a < x ∧ x < b := fun ⟨a, b, l, y1, y2⟩ => by
        refine z ⟨a, b, l, ?_, by omega⟩
        apply Decidable.byContradiction
        intro w
        exact (nbr a (by omega) (by omega)).1 l.2.2.2.1
      rw [H.2 k hk z, H.2 x (by omega) z2]
  refine ⟨(ez_dp0 I).1, ez_L0 I, ez_R0 hS I, fun k x hk h1 h2 => ez_st0 I (st k x hk h1 h2), fun k k' x y hk hk' _ _ h3 h4 h5 h6 h7 h8 => ez_Lv0 hL I H (st k x hk h3 h4) (st k' y hk' h5 h6) ?_⟩
  rw [gg k x hk h3 h4, gg k' y hk' h5 h6]; exact h8
theorem ez_I_Y (hL : L ≤ 64) (hS : ∀ x, x < L → ea_ok (S x)) (I : ef_Inv S L L L ck lv) (H : ei_GY (eh_Lk S lv L) L g) : ∀ c, c ≤ L → ez_I S lv g L (es_Y S lv g L (eh_lk (eh_Lk S lv L) ck) c) := by
  intro c
  induction c with
  | zero => intro _; exact ez_I_0 hL hS I H
  | succ c ih =>
    intro hc
    rw [es_Y_s]
    by_cases z : ek_cl S lv L c = true
    · rw [if_pos z]; exact ez_I_cs (by omega) 64 _ (es_Y_V (by omega)) (ih (by omega))
    · rw [if_neg z]; exact ih (by omega)
end EZ
end
section
/-! parse: emission of the items on both sides -/
/-- items, less the row on an unclosed CODE (it is had at the end, when nothing is unclosed) -/
def fa_I6 (C D : Nat) (K H M O : Nat → Int32) : Prop :=
  D = eb_dp K C ∧
  (∀ i, i < C → eb_Kc (K i) (H i)) ∧
  (∀ i, i < C → eb_op (K i) = true → (M i = -1 ∧ eb_Op K C (eb_dp K i) i) ∨ (∃ j, M i = nI j ∧ eb_Pr K C i j)) ∧
  (∀ j, j < C → eb_cl (K j) = true → ∃ i, M j = nI i ∧ eb_Pr K C i j) ∧
  (∀ i, i < C → K i = 0 → M i = -1) ∧
  (∀ d, d < D → ∃ o, O d = nI o ∧ eb_Op K C d o)
theorem fa_I6_0 {K H M O : Nat → Int32} : fa_I6 0 0 K H M O :=
  ⟨rfl, fun i h => by omega, fun i h => by omega, fun i h => by omega, fun i h => by omega, fun i h => by omega⟩
theorem fa_I6_7 {C : Nat} {K H M O : Nat → Int32} (hC : C ≤ 64) (h : fa_I6 C 0 K H M O) : eb_Itm C 0 K H M O := by
  obtain ⟨a1, a2, a3, a4, a5, a6⟩ := h
  refine ⟨a1, a2, a3, a4, a5, a6, fun i hi h3 hm => ?_⟩
  rcases a3 i hi (by rw [h3]; decide) with ⟨b1, b2⟩ | ⟨j, b1, b2⟩
  · have := b2.2.2.2 C hi (Nat.le_refl _)
    omega
  · rw [b1] at hm
    have := b2.2.1
    exact absurd hm (ea_ne1 (by omega))
theorem fa_I6_t {C D : Nat} {K H M O : Nat → Int32} {c : Int32} (h : fa_I6 C D K H M O) (hc : ea_ok c) : fa_I6 (C + 1) D (upd K C 0) (upd H C c) (upd M C (-1)) O := by
  obtain ⟨a1, a2, a3, a4, a5, a6⟩ := h
  have e0 : (upd K C 0) C = 0 := ea_us
  have eD : eb_dp (upd K C 0) (C + 1) = D := by
    rw [eb_dp_n (by rw [e0]; decide) (by rw [e0]; decide), eb_dp_u (Nat.le_refl _)]; exact a1.symm
  refine ⟨eD.symm, ?_, ?_, ?_, ?_, ?_⟩
  · intro i hi
    by_cases e : i = C
    · subst e; rw [ea_us, ea_us]; exact Or.inl ⟨rfl, hc⟩
    · rw [ea_un e, ea_un e]; exact a2 i (by omega)
  · intro i hi ho
    by_cases e : i = C
    · subst e; rw [e0] at ho; exact absurd ho (by decide)
    · rw [ea_un e] at ho
      rw [ea_un e, eb_dp_u (by omega)]
      rcases a3 i (by omega) ho with ⟨b1, b2⟩ | ⟨j, b1, b2⟩
      · exact Or.inl ⟨b1, eb_Op_u b2 (by rw [eD, a1]; exact b2.2.2.2 C (by omega) (Nat.le_refl _))⟩
      · exact Or.inr ⟨j, b1, eb_Pr_u b2⟩
  · intro i hi ho
    by_cases e : i = C
    · subst e; rw [e0] at ho; exact absurd ho (by decide)
    · rw [ea_un e] at ho
      rw [ea_un e]
      obtain ⟨j, b1, b2⟩ := a4 i (by omega) ho
      exact ⟨j, b1, eb_Pr_u b2⟩
  · intro i hi ho
    by_cases e : i = C
    · subst e; exact ea_us
    · rw [ea_un e] at ho ⊢; exact a5 i (by omega) ho
  · intro d hd
    obtain ⟨o, b1, b2⟩ := a6 d hd
    exact ⟨o, b1, eb_Op_u b2 (by rw [eD]; exact hd)⟩
theorem fa_I6_o {C D : Nat} {K H M O : Nat → Int32} {k : Int32} (h : fa_I6 C D K H M O) (hk : eb_op k = true) : fa_I6 (C + 1) (D + 1) (upd K C k) (upd H C 0) (upd M C (-1)) (upd O D (nI C)) := by
  obtain ⟨a1, a2, a3, a4, a5, a6⟩ := h
  have e0 : (upd K C k) C = k := ea_us
  have eD : eb_dp (upd K C k) (C + 1) = D + 1 := by
    rw [eb_dp_o (by rw [e0]; exact hk), eb_dp_u (Nat.le_refl _), a1]
  have oC : eb_Op (upd K C k) (C + 1) D C := by
    refine ⟨by omega, by rw [e0]; exact hk, by rw [eb_dp_u (Nat.le_refl _)]; exact a1.symm, fun t h1 h2 => ?_⟩
    have : t = C + 1 := by omega
    subst this
    omega
  refine ⟨eD.symm, ?_, ?_, ?_, ?_, ?_⟩
  · intro i hi
    by_cases e : i = C
    · subst e; rw [ea_us, ea_us]
      rcases eb_op_4 hk with z | z | z | z <;> subst z <;> exact Or.inr (Or.inl ⟨by decide, rfl⟩)
    · rw [ea_un e, ea_un e]; exact a2 i (by omega)
  · intro i hi ho
    by_cases e : i = C
    · subst e
      rw [eb_dp_u (Nat.le_refl _), ← a1]
      exact Or.inl ⟨ea_us, oC⟩
    · rw [ea_un e] at ho
      rw [ea_un e, eb_dp_u (by omega)]
      rcases a3 i (by omega) ho with ⟨b1, b2⟩ | ⟨j, b1, b2⟩
      · refine Or.inl ⟨b1, eb_Op_u b2 ?_⟩
        have := b2.2.2.2 C (by omega) (Nat.le_refl _)
        omega
      · exact Or.inr ⟨j, b1, eb_Pr_u b2⟩
  · intro i hi ho
    by_cases e : i = C
    · subst e; rw [e0, eb_cl_of_op hk] at ho; exact absurd ho (by decide)
    · rw [ea_un e] at ho
      rw [ea_un e]
      obtain ⟨j, b1, b2⟩ := a4 i (by omega) ho
      exact ⟨j, b1, eb_Pr_u b2⟩
  · intro i hi ho
    by_cases e : i = C
    · subst e; exact ea_us
    · rw [ea_un e] at ho ⊢; exact a5 i (by omega) ho
  · intro d hd
    by_cases e : d = D
    · subst e
      exact ⟨C, ea_us, oC⟩
    · obtain ⟨o, b1, b2⟩ := a6 d (by omega)
      exact ⟨o, by rw [ea_un e]; exact b1, eb_Op_u b2 (by omega)⟩
theorem fa_I6_c {C D o : Nat} {K H M O : Nat → Int32} {ch : Int32} (h : fa_I6 C (D + 1) K H M O) (hC : C < 64) (ho : eb_Op K C D o) (hk : eb_Kc (K o + 4) ch) : fa_I6 (C + 1) D (upd K C (K o + 4)) (upd H C ch) (upd (upd (upd M C (-1)) o (nI C)) C (nI o)) O := by
  obtain ⟨a1, a2, a3, a4, a5, a6⟩ := h
  obtain ⟨o1, o2, o3, o4⟩ := ho
  have e0 : (upd K C (K o + 4)) C = K o + 4 := ea_us
  have ec : eb_cl (K o + 4) = true := eb_cl_op o2
  have eD : eb_dp (upd K C (K o + 4)) (C + 1) = D := by
    rw [eb_dp_c (by rw [e0]; exact ec), eb_dp_u (Nat.le_refl _), ← a1]; rfl
  have pC : eb_Pr (upd K C (K o + 4)) (C + 1) o C := by
    refine ⟨o1, by omega, by rw [ea_un (by omega)]; exact o2, by rw [e0, ea_un (by omega)], by rw [eb_dp_u (Nat.le_refl _), eb_dp_u (by omega), ← a1, o3], fun t h1 h2 => ?_⟩
    rw [eb_dp_u (by omega), eb_dp_u (by omega), o3]; exact o4 t h1 h2
  have mC : (upd (upd (upd M C (-1)) o (nI C)) C (nI o)) C = nI o := ea_us
  have mo : (upd (upd (upd M C (-1)) o (nI C)) C (nI o)) o = nI C := by rw [ea_un (by omega)]; exact ea_us
  have mi : ∀ i, i ≠ C → i ≠ o → (upd (upd (upd M C (-1)) o (nI C)) C (nI o)) i = M i := fun i h1 h2 => by
    rw [ea_un h1, ea_un h2, ea_un h1]
  have un : ∀ i, eb_Op K C (eb_dp K i) i → i ≠ o → eb_dp K i < D := by
    intro i hi hne
    have h1 := hi.2.2.2 C hi.1 (Nat.le_refl _)
    rw [← a1] at h1
    by_cases e : eb_dp K i = D
    · rw [e] at hi
      exact absurd (eb_Op_1 hi ⟨o1, o2, o3, o4⟩) hne
    · omega
  refine ⟨eD.symm, ?_, ?_, ?_, ?_, ?_⟩
  · intro i hi
    by_cases e : i = C
    · subst e; rw [ea_us, ea_us]; exact hk
    · rw [ea_un e, ea_un e]; exact a2 i (by omega)
  · intro i hi hop
    by_cases e : i = C
    · subst e; rw [e0, eb_op_cl ec] at hop; exact absurd hop (by decide)
    · rw [ea_un e] at hop
      by_cases eo : i = o
      · subst eo
        exact Or.inr ⟨C, mo, pC⟩
      · rw [mi i e eo, eb_dp_u (by omega)]
        rcases a3 i (by omega) hop with ⟨b1, b2⟩ | ⟨j, b1, b2⟩
        · exact Or.inl ⟨b1, eb_Op_u b2 (by rw [eD]; exact un i b2 eo)⟩
        · exact Or.inr ⟨j, b1, eb_Pr_u b2⟩
  · intro i hi hcl
    by_cases e : i = C
    · subst e
      exact ⟨o, mC, pC⟩
    · rw [ea_un e] at hcl
      have eo : i ≠ o := fun z => by
        subst z; rw [eb_cl_of_op o2] at hcl; exact absurd hcl (by decide)
      rw [mi i e eo]
      obtain ⟨j, b1, b2⟩ := a4 i (by omega) hcl
      exact ⟨j, b1, eb_Pr_u b2⟩
  · intro i hi h0
    by_cases e : i = C
    · subst e
      rw [e0] at h0
      rw [h0] at ec
      exact absurd ec (by decide)
    · rw [ea_un e] at h0
      have eo : i ≠ o := fun z => by
        subst z; rw [h0] at o2; exact absurd o2 (by decide)
      rw [mi i e eo]
      exact a5 i (by omega) h0
  · intro d hd
    obtain ⟨q, b1, b2⟩ := a6 d (by omega)
    exact ⟨q, b1, eb_Op_u b2 (by omega)⟩
theorem fa_nt_op {k h : Int32} (hk : eb_Kc k h) (h1 : eb_op k = false) (h2 : eb_cl k = false) : k = 0 := ec_nn h1 h2 ⟨h, hk⟩
section FA
variable {S ck : Nat → Int32} {L c : Nat}
/-- X's way to append at cell i -/
theorem fa_xstep {post : SX → Prop} {f_cap f_count f_depth f_linkCount f_runCount f_openerCount f_nodes f_domain : Int32} {a_kinds a_chars a_mate a_openStack a_group a_live a_runLo a_runHi a_runChar a_runSize a_runGroup a_runOpens a_runCloses a_openers a_floors a_start a_width a_out a_nodeOf a_clash : Nat → Int32} {i n : Nat} (hL : L ≤ 64) (hi : i < L) (hk : ¬ ck i = -1)
    (h : wpX_append (fun u => match u with | (f_cap, f_length, f_count, f_depth, f_linkCount, f_runCount, f_openerCount, f_nodes, f_domain, a_source, a_kinds, a_chars, a_mate, a_openStack, a_cellKind, a_group, a_live, a_runLo, a_runHi, a_runChar, a_runSize, a_runGroup, a_runOpens, a_runCloses, a_openers, a_floors, a_start, a_width, a_out, a_nodeOf, a_clash) => wX_emitItems_6 post n (nI (i + 1)) f_cap f_length f_count f_depth f_linkCount f_runCount f_openerCount f_nodes f_domain a_source a_kinds a_chars a_mate a_openStack a_cellKind a_group a_live a_runLo a_runHi a_runChar a_runSize a_runGroup a_runOpens a_runCloses a_openers a_floors a_start a_width a_out a_nodeOf a_clash) (f_cap, (nI L), f_count, f_depth, f_linkCount, f_runCount, f_openerCount, f_nodes, f_domain, S, a_kinds, a_chars, a_mate, a_openStack, ck, a_group, a_live, a_runLo, a_runHi, a_runChar, a_runSize, a_runGroup, a_runOpens, a_runCloses, a_openers, a_floors, a_start, a_width, a_out, a_nodeOf, a_clash) (ck i) (ez_ch S L (ck i) i)) :
    wX_emitItems_6 post (n + 1) (nI i) f_cap (nI L) f_count f_depth f_linkCount f_runCount f_openerCount f_nodes f_domain S a_kinds a_chars a_mate a_openStack ck a_group a_live a_runLo a_runHi a_runChar a_runSize a_runGroup a_runOpens a_runCloses a_openers a_floors a_start a_width a_out a_nodeOf a_clash := by
  have ci : (nI i).toNatClampNeg = i := nI_clamp (by omega)
  have vi : vp_in (nI i) 64 := vp_in_nI (by omega) (by omega)
  refine br_f (nI_ge (by omega) (by omega)) ⟨vi, nm_r (e' := ck i) (by rw [ci]) (br_f hk ?_)⟩
  have e67 : ∀ x, x = ez_ch S L (ck i) i → wX_emitItems_67 post (wX_emitItems_6 post n) (nI i) (ck i) x f_cap (nI L) f_count f_depth f_linkCount f_runCount f_openerCount f_nodes f_domain S a_kinds a_chars a_mate a_openStack ck a_group a_live a_runLo a_runHi a_runChar a_runSize a_runGroup a_runOpens a_runCloses a_openers a_floors a_start a_width a_out a_nodeOf a_clash := by
    intro x hx
    subst hx
    unfold wX_emitItems_67
    rw [nI_1]
    have ne : ∀ (P : Int32 → Prop) (x : Int32), (∀ y, y = x → P y) = P x := fun P x => propext ⟨fun h => h x rfl, fun h y e => by rw [e]; exact h⟩
    simp only [ne]
    exact h
  have e42 : ∀ x, (ck i = 0 → x = S i) → (¬ ck i = 0 → x = 0) → wX_emitItems_42 post (wX_emitItems_6 post n) (nI i) (ck i) x f_cap (nI L) f_count f_depth f_linkCount f_runCount f_openerCount f_nodes f_domain S a_kinds a_chars a_mate a_openStack ck a_group a_live a_runLo a_runHi a_runChar a_runSize a_runGroup a_runOpens a_runCloses a_openers a_floors a_start a_width a_out a_nodeOf a_clash := by
    intro x h0 h1
    unfold wX_emitItems_42
    rw [ea_2]
    refine br_c (fun a => ?_) (fun a => ?_)
    · have n0 : ¬ ck i = 0 := by rw [a]; decide
      refine pk_le L (i + 2) (fun b => e67 x ?_) (fun b => ⟨vp_in_nI (by omega) (by omega), nm_e (e67 _ ?_)⟩)
      · unfold ez_ch
        rw [if_neg n0, if_neg (by omega)]; exact h1 n0
      · unfold ez_ch
        rw [if_neg n0, if_pos ⟨a, b⟩, nI_clamp (by omega : i + 2 < 2 ^ 31)]
    · refine e67 x ?_
      unfold ez_ch
      by_cases b : ck i = 0
      · rw [if_pos b]; exact h0 b
      · rw [if_neg b, if_neg (fun z => a z.1)]; exact h1 b
  exact br_c (fun a => ⟨vi, nm_r (e' := S i) (by rw [ci]) (e42 _ (fun _ => rfl) (fun z => absurd a z))⟩) (fun a => e42 0 (fun z => absurd z a) (fun _ => rfl))
theorem fa_ystep {post : Int32 → SY → Prop} {g_wLen : Int32} {b_w b_pos b_till b_mark b_group b_flag b_len b_lo b_hi b_live b_dropped : Nat → Int32} {K H : Nat → Int32} {i n C : Nat} (hc : c ≤ 64) (hL : L ≤ c) (hi : i < L) (hC : C < c) (hk : ¬ ck i = -1)
    (h : wY_parse_78 post n (nI (i + 1)) (nI c) (nI L) (nI (C + 1)) g_wLen S (upd K C (ck i)) (upd H C (ez_ch S L (ck i) i)) b_w b_pos b_till b_mark ck b_group b_flag b_len b_lo b_hi b_live b_dropped) :
    wY_parse_78 post (n + 1) (nI i) (nI c) (nI L) (nI C) g_wLen S K H b_w b_pos b_till b_mark ck b_group b_flag b_len b_lo b_hi b_live b_dropped := by
  have ci : (nI i).toNatClampNeg = i := nI_clamp (by omega)
  have vi : vp_in (nI i) 64 := vp_in_nI (by omega) (by omega)
  have e154 : ∀ x, x = ez_ch S L (ck i) i → wY_parse_154 post (wY_parse_78 post n) (nI i) x (ck i) (nI c) (nI L) (nI C) g_wLen S K H b_w b_pos b_till b_mark ck b_group b_flag b_len b_lo b_hi b_live b_dropped := by
    intro x hx
    subst hx
    exact ed_yap hc hC (nm_r (nI_1 i) h)
  refine br_f (nI_ge (by omega) (by omega)) ⟨vi, ?_⟩
  rw [ci, ea_2, nI_clamp (by omega : i + 2 < 2 ^ 31)]
  refine br_f hk ⟨vi, vi, br_c (fun a => ⟨vi, e154 _ ?_⟩) (fun a => ⟨vi, br_c (fun b => pk_le L (i + 2) (fun d => e154 0 ?_) (fun d => ⟨vp_in_nI (by omega) (by omega), e154 _ ?_⟩)) (fun b => e154 0 ?_)⟩)⟩
  · unfold ez_ch; rw [if_pos a]
  · unfold ez_ch; rw [if_neg a, if_neg (by omega)]
  · unfold ez_ch; rw [if_neg a, if_pos ⟨b, d⟩]
  · unfold ez_ch; rw [if_neg a, if_neg (fun z => b z.1)]
/-- items against cells -/
def fa_E (ck : Nat → Int32) (i C : Nat) (K : Nat → Int32) (ce : Nat → Nat) : Prop :=
  eb_dp K C = eb_dp ck i ∧ (∀ q, q < C → ce q < i ∧ K q = ck (ce q) ∧ eb_dp K q = eb_dp ck (ce q)) ∧ (∀ q q', q < q' → q' < C → ce q < ce q') ∧ (∀ x, x < i → ¬ ck x = -1 → ∃ q, q < C ∧ ce q = x)
theorem fa_E_n {i C : Nat} {K : Nat → Int32} {ce : Nat → Nat} (h : fa_E ck i C K ce) (hk : ck i = -1) : fa_E ck (i + 1) C K ce := by
  obtain ⟨e1, e2, e3, e4⟩ := h
  refine ⟨?_, fun q hq => ?_, e3, fun x hx hn => ?_⟩
  · rw [e1, eb_dp_n (by rw [hk]; decide) (by rw [hk]; decide)]
  · have := e2 q hq
    exact ⟨by omega, this.2⟩
  · by_cases z : x = i
    · subst z; exact absurd hk hn
    · exact e4 x (by omega) hn
theorem fa_dp_s {K K' : Nat → Int32} {i j : Nat} (h1 : eb_dp K i = eb_dp K' j) (h2 : K i = K' j) : eb_dp K (i + 1) = eb_dp K' (j + 1) := by
  show (if eb_op (K i) = true then eb_dp K i + 1 else if eb_cl (K i) = true then eb_dp K i - 1 else eb_dp K i) = (if eb_op (K' j) = true then eb_dp K' j + 1 else if eb_cl (K' j) = true then eb_dp K' j - 1 else eb_dp K' j)
  rw [h1, h2]
theorem fa_E_a {i C : Nat} {K : Nat → Int32} {ce : Nat → Nat} (h : fa_E ck i C K ce) : fa_E ck (i + 1) (C + 1) (upd K C (ck i)) (fun q => if q = C then i else ce q) := by
  obtain ⟨e1, e2, e3, e4⟩ := h
  refine ⟨fa_dp_s (by rw [eb_dp_u (Nat.le_refl _)]; exact e1) ea_us, fun q hq => ?_, fun q q' h1 h2 => ?_, fun x hx hn => ?_⟩
  · dsimp only
    by_cases z : q = C
    · subst z; rw [if_pos rfl, ea_us, eb_dp_u (Nat.le_refl _)]; exact ⟨by omega, rfl, e1⟩
    · rw [if_neg z, ea_un z, eb_dp_u (by omega)]
      have := e2 q (by omega)
      exact ⟨by omega, this.2⟩
  · dsimp only
    rw [if_neg (by omega : ¬ q = C)]
    by_cases z : q' = C
    · rw [if_pos z]; exact (e2 q (by omega)).1
    · rw [if_neg z]; exact e3 q q' h1 (by omega)
  · dsimp only
    by_cases z : x = i
    · subst z; exact ⟨C, by omega, if_pos rfl⟩
    · obtain ⟨q, q1, q2⟩ := e4 x (by omega) hn
      exact ⟨q, by omega, by rw [if_neg (by omega)]; exact q2⟩
theorem fa_emit (hc : c ≤ 64) (hL : L ≤ c) (cp : ee_CP ck L) (hR : ez_R S L ck) :
    ∀ (d i C D : Nat) (K H M O : Nat → Int32) (ce : Nat → Nat), i + d = L → C ≤ i → fa_I6 C D K H M O → fa_E ck i C K ce →
    ∃ (C' D' : Nat) (K' H' M' O' : Nat → Int32), C' ≤ L ∧ fa_I6 C' D' K' H' M' O' ∧ D' = eb_dp ck L ∧
      (∀ {f_cap f_linkCount f_runCount f_openerCount f_nodes f_domain : Int32} {a_group a_live a_runLo a_runHi a_runChar a_runSize a_runGroup a_runOpens a_runCloses a_openers a_floors a_start a_width a_out a_nodeOf a_clash : Nat → Int32} (post : SX → Prop) (n : Nat), d < n → post (f_cap, (nI L), (nI C'), (nI D'), f_linkCount, f_runCount, f_openerCount, f_nodes, f_domain, S, K', H', M', O', ck, a_group, a_live, a_runLo, a_runHi, a_runChar, a_runSize, a_runGroup, a_runOpens, a_runCloses, a_openers, a_floors, a_start, a_width, a_out, a_nodeOf, a_clash) → wX_emitItems_6 post n (nI i) f_cap (nI L) (nI C) (nI D) f_linkCount f_runCount f_openerCount f_nodes f_domain S K H M O ck a_group a_live a_runLo a_runHi a_runChar a_runSize a_runGroup a_runOpens a_runCloses a_openers a_floors a_start a_width a_out a_nodeOf a_clash) ∧
      (∀ {g_wLen : Int32} {b_w b_pos b_till b_mark b_group b_flag b_len b_lo b_hi b_live b_dropped : Nat → Int32} (post : Int32 → SY → Prop) (n : Nat), d < n → post (nI C') ((nI c), (nI L), (nI C'), g_wLen, S, K', H', b_w, b_pos, b_till, b_mark, ck, b_group, b_flag, b_len, b_lo, b_hi, b_live, b_dropped) → wY_parse_78 post n (nI i) (nI c) (nI L) (nI C) g_wLen S K H b_w b_pos b_till b_mark ck b_group b_flag b_len b_lo b_hi b_live b_dropped) := by
  intro d
  induction d with
  | zero =>
    intro i C D K H M O ce h1 h2 h3 h4
    have e : i = L := by omega
    subst e
    refine ⟨C, D, K, H, M, O, h2, h3, h3.1.trans h4.1, ?_, ?_⟩
    · intros
      rename_i post n hn h
      obtain ⟨n, rfl⟩ : ∃ z, n = z + 1 := ⟨n - 1, by omega⟩
      exact br_t (nI_le (Nat.le_refl _) (by omega)) h
    · intros
      rename_i post n hn h
      obtain ⟨n, rfl⟩ : ∃ z, n = z + 1 := ⟨n - 1, by omega⟩
      exact br_t (nI_le (Nat.le_refl _) (by omega)) h
  | succ d ih =>
    intro i C D K H M O ce h1 h2 h3 h4
    have hi : i < L := by omega
    have DC : D ≤ C := by rw [h3.1]; exact eb_dp_le _ _
    by_cases hk : ck i = -1
    · obtain ⟨C', D', K', H', M', O', r1, r2, r3, r4, r5⟩ := ih (i + 1) C D K H M O ce (by omega) (by omega) h3 (fa_E_n h4 hk)
      refine ⟨C', D', K', H', M', O', r1, r2, r3, ?_, ?_⟩
      · intros
        rename_i post n hn h
        obtain ⟨n, rfl⟩ : ∃ z, n = z + 1 := ⟨n - 1, by omega⟩
        exact br_f (nI_ge (by omega) (by omega)) ⟨vp_in_nI (by omega) (by omega), nm_r (e' := ck i) (by rw [nI_clamp (by omega : i < 2 ^ 31)]) (br_t hk (nm_r (nI_1 i) (r4 post n (by omega) h)))⟩
      · intros
        rename_i post n hn h
        obtain ⟨n, rfl⟩ : ∃ z, n = z + 1 := ⟨n - 1, by omega⟩
        refine br_f (nI_ge (by omega) (by omega)) ⟨vp_in_nI (by omega) (by omega), br_t (by rw [nI_clamp (by omega : i < 2 ^ 31)]; exact hk) (nm_r (nI_1 i) (r5 post n (by omega) h))⟩
    · have kc : eb_Kc (ck i) (ez_ch S L (ck i) i) := by
        rcases hR i hi with z | z
        · exact absurd z hk
        · exact z
      have E' := fa_E_a h4
      cases o1 : eb_op (ck i)
      · cases o2 : eb_cl (ck i)
        · -- text
          have k0 := fa_nt_op kc o1 o2
          have okc : ea_ok (ez_ch S L (ck i) i) := by
            rcases kc with z | z | z
            · exact z.2
            · rw [k0] at z; exact absurd z.1 (by decide)
            · rw [k0] at z; exact absurd z.1 (by decide)
          have I' := fa_I6_t h3 okc
          rw [← k0] at I'
          obtain ⟨C', D', K', H', M', O', r1, r2, r3, r4, r5⟩ := ih (i + 1) (C + 1) D _ _ _ O _ (by omega) (by omega) I' E'
          refine ⟨C', D', K', H', M', O', r1, r2, r3, ?_, ?_⟩
          · intros
            rename_i post n hn h
            obtain ⟨n, rfl⟩ : ∃ z, n = z + 1 := ⟨n - 1, by omega⟩
            have q := r4 post n (by omega) h
            refine fa_xstep (by omega) hi hk ?_
            rw [k0] at q ⊢
            exact eb_xapT (by omega) q
          · intros
            rename_i post n hn h
            obtain ⟨n, rfl⟩ : ∃ z, n = z + 1 := ⟨n - 1, by omega⟩
            exact fa_ystep hc hL hi (by omega) hk (r5 post n (by omega) h)
        · -- closing
          obtain ⟨a, p1, p2, p3, p4, p5, p6⟩ := cp i hi o2
          obtain ⟨q, q1, q2⟩ := h4.2.2.2 a p1 (fun z => by rw [z] at p3; exact absurd p3 (by decide))
          have kq := h4.2.1 q q1
          rw [q2] at kq
          have dD : D = eb_dp ck i := h3.1.trans h4.1
          obtain ⟨D0, rfl⟩ : ∃ z, D = z + 1 := ⟨D - 1, by omega⟩
          have oq : eb_Op K C D0 q := by
            refine ⟨q1, by rw [kq.2.1]; exact p3, by rw [kq.2.2]; omega, fun t t1 t2 => ?_⟩
            by_cases z : t = C
            · rw [z, ← h3.1]; omega
            · have ct := h4.2.1 t (by omega)
              have lt := h4.2.2.1 q t t1 (by omega)
              rw [ct.2.2]
              have := p6 (ce t) (by omega) (by omega)
              omega
          obtain ⟨o, e1, e2⟩ := h3.2.2.2.2.2 D0 (by omega)
          have := eb_Op_1 e2 oq
          subst this
          have ek : ck i = K o + 4 := by rw [kq.2.1]; exact p4
          have I' := fa_I6_c (ch := ez_ch S L (ck i) i) h3 (by omega) e2 (by rw [← ek]; exact kc)
          rw [← ek] at I'
          obtain ⟨C', D', K', H', M', O', r1, r2, r3, r4, r5⟩ := ih (i + 1) (C + 1) D0 _ _ _ O _ (by omega) (by omega) I' E'
          refine ⟨C', D', K', H', M', O', r1, r2, r3, ?_, ?_⟩
          · intros
            rename_i post n hn h
            obtain ⟨n, rfl⟩ : ∃ z, n = z + 1 := ⟨n - 1, by omega⟩
            exact fa_xstep (by omega) hi hk (eb_xapC (by omega) (by omega) (by omega) e1 o2 (r4 post n (by omega) h))
          · intros
            rename_i post n hn h
            obtain ⟨n, rfl⟩ : ∃ z, n = z + 1 := ⟨n - 1, by omega⟩
            exact fa_ystep hc hL hi (by omega) hk (r5 post n (by omega) h)
      · -- opening
        have I' := fa_I6_o h3 o1
        have h0 : ez_ch S L (ck i) i = 0 := by
          unfold ez_ch
          rw [if_neg (fun z => by rw [z] at o1; exact absurd o1 (by decide)), if_neg (fun z => by rw [z.1] at o1; exact absurd o1 (by decide))]
        rw [← h0] at I'
        obtain ⟨C', D', K', H', M', O', r1, r2, r3, r4, r5⟩ := ih (i + 1) (C + 1) (D + 1) _ _ _ _ _ (by omega) (by omega) I' E'
        refine ⟨C', D', K', H', M', O', r1, r2, r3, ?_, ?_⟩
        · intros
          rename_i post n hn h
          obtain ⟨n, rfl⟩ : ∃ z, n = z + 1 := ⟨n - 1, by omega⟩
          exact fa_xstep (by omega) hi hk (eb_xapO (by omega) (by omega) o1 (r4 post n (by omega) h))
        · intros
          rename_i post n hn h
          obtain ⟨n, rfl⟩ : ∃ z, n = z + 1 := ⟨n - 1, by omega⟩
          exact fa_ystep hc hL hi (by omega) hk (r5 post n (by omega) h)
end FA
end
section
/-! parse: all together -/
section FB
variable {F F' : Nat → Nat → Bool} {L c : Nat}
theorem fb_fo {st : en_T} (hc : c < L) (h : ∀ k c, k < L → c < L → F k c = F' k c) : ∀ k, k ≤ c → en_fo F st c k = en_fo F' st c k := by
  intro k
  induction k with
  | zero => intro _; rfl
  | succ k ih =>
    intro hk
    unfold en_fo en_ok
    rw [h k c (by omega) hc, ih (by omega)]
theorem fb_cs (hc : c < L) (h : ∀ k c, k < L → c < L → F k c = F' k c) : ∀ f st, en_cs F c f st = en_cs F' c f st := by
  intro f
  induction f with
  | zero => intro st; rfl
  | succ f ih =>
    intro st
    by_cases z : st.1 c < st.2.1 c
    · have e := fb_fo (st := st) hc h c (Nat.le_refl _)
      cases y : en_fo F st c c with
      | none => rw [en_cs_n y, en_cs_n (by rw [← e]; exact y)]
      | some o => rw [en_cs_s z y, en_cs_s z (by rw [← e]; exact y)]; exact ih _
    · rw [en_cs_0 z, en_cs_0 z]
theorem fb_YS {Cl : Nat → Bool} {st0 : en_T} (h : ∀ k c, k < L → c < L → F k c = F' k c) : ∀ c, c ≤ L → en_YS F Cl st0 c = en_YS F' Cl st0 c := by
  intro c
  induction c with
  | zero => intro _; rfl
  | succ c ih =>
    intro hc
    unfold en_YS
    rw [ih (by omega), fb_cs (by omega) h]
end FB
theorem fb_GY_ex {S lv : Nat → Int32} {L : Nat} : ∃ g, ei_GY (eh_Lk S lv L) L g := by
  have : ∀ x, ∃ v : Int32, (∀ a b, eh_Lk S lv L a b → a < x → x < b → v = nI a) ∧ ((¬ ∃ a b, eh_Lk S lv L a b ∧ a < x ∧ x < b) → v = -1) := by
    intro x
    by_cases z : ∃ a b, eh_Lk S lv L a b ∧ a < x ∧ x < b
    · obtain ⟨a, b, l, x1, x2⟩ := z
      refine ⟨nI a, fun a' b' l' y1 y2 => ?_, fun n => absurd ⟨a, b, l, x1, x2⟩ n⟩
      rcases eh_sep l l' with w | w | w
      · rw [w.1]
      · omega
      · omega
    · exact ⟨-1, fun a b l y1 y2 => absurd ⟨a, b, l, y1, y2⟩ z, fun _ => rfl⟩
  exact ⟨fun x => Classical.choose (this x), fun a b x l x1 x2 => (Classical.choose_spec (this x)).1 a b l x1 x2, fun x _ n => (Classical.choose_spec (this x)).2 n⟩
theorem fb_GY_1 {S lv g g' : Nat → Int32} {L : Nat} (H : ei_GY (eh_Lk S lv L) L g) (H' : ei_GY (eh_Lk S lv L) L g') {x : Nat} (hx : x < L) : g x = g' x := by
  by_cases z : ∃ a b, eh_Lk S lv L a b ∧ a < x ∧ x < b
  · obtain ⟨a, b, l, x1, x2⟩ := z
    rw [H.1 a b x l x1 x2, H'.1 a b x l x1 x2]
  · rw [H.2 x hx z, H'.2 x hx z]
theorem fb_F {S lv g g' : Nat → Int32} {L : Nat} (h : ∀ x, x < L → g x = g' x) : ∀ k c, k < L → c < L → en_F S lv g L k c = en_F S lv g' L k c := by
  intro k c hk hc
  unfold en_F
  rw [h k hk, h c hc]
theorem fb_inv0 {S f h : Nat → Int32} {L : Nat} : ef_Inv S L 0 0 (ee_fill f 0 L 0) (ee_fill h 0 L 0) := by
  have z : ∀ x, x < L → ee_fill f 0 L 0 x = 0 := fun x hx => ee_fill_in (by omega) hx
  have y : ∀ x, x < L → ee_fill h 0 L 0 x = 0 := fun x hx => ee_fill_in (by omega) hx
  refine ⟨by omega, by omega, fun x _ hx => z x hx, fun x _ hx => y x hx, fun x hx => Or.inl (y x hx), rfl, fun b hb hc => ?_, fun x hx => Or.inr (Or.inl (z x hx)), fun x hx hl => ?_⟩
  · rw [z b hb] at hc; exact absurd hc (by decide)
  · rw [y x hx] at hl; exact absurd hl ef_01
section FC
variable {g_limit g_count g_wLen : Int32} {b_src b_kinds b_chars b_w b_pos b_till b_mark b_out b_group b_flag b_len b_lo b_hi b_live b_dropped : Nat → Int32} {L : Nat}
theorem fb_yfront {post : Int32 → SY → Prop} (hL : L ≤ 64) (h : ∀ n, wY_parse_12 post (n + 1) (nI L) g_limit (nI L) 0 (nI L) b_src b_kinds b_chars (ee_cpy b_w b_src L) b_pos b_till b_mark (ee_fill b_out 0 L 0) (ee_fill b_group 0 L (-1)) b_flag b_len b_lo b_hi (ee_fill b_live 0 L 0) (ee_fill b_dropped 0 L 0)) :
    wpY_parse post (g_limit, (nI L), g_count, g_wLen, b_src, b_kinds, b_chars, b_w, b_pos, b_till, b_mark, b_out, b_group, b_flag, b_len, b_lo, b_hi, b_live, b_dropped) := by
  have key : ∀ d i n, i + d = L → d < n → wY_parse_12 post n (nI i) g_limit (nI L) 0 (nI i) b_src b_kinds b_chars (ee_cpy b_w b_src i) b_pos b_till b_mark (ee_fill b_out 0 i 0) (ee_fill b_group 0 i (-1)) b_flag b_len b_lo b_hi (ee_fill b_live 0 i 0) (ee_fill b_dropped 0 i 0) := by
    intro d
    induction d with
    | zero =>
      intro i n h1 h2
      obtain ⟨n, rfl⟩ : ∃ z, n = z + 1 := ⟨n - 1, by omega⟩
      have e : i = L := by omega
      subst e
      exact h n
    | succ d ih =>
      intro i n h1 h2
      obtain ⟨n, rfl⟩ : ∃ z, n = z + 1 := ⟨n - 1, by omega⟩
      have ci : (nI i).toNatClampNeg = i := nI_clamp (by omega)
      have vi : vp_in (nI i) 64 := vp_in_nI (by omega) (by omega)
      refine br_f (nI_ge (by omega) (by omega)) ⟨vi, ?_⟩
      rw [ci]
      refine br_f (nI_ge (b := 1024) (by omega) (by omega)) ⟨vp_in_nI (by omega) (by omega), nm_r (e' := ee_cpy b_w b_src (i + 1)) (by rw [ci]; exact ee_cpy_s) (nm_r (nI_1 i) ?_)⟩
      exact ⟨vi, nm_r (e' := ee_fill b_out 0 (i + 1) 0) (ee_fill_s (by omega)) ⟨vi, nm_r (e' := ee_fill b_live 0 (i + 1) 0) (by rw [ea_vb0]; exact ee_fill_s (by omega)) ⟨vi, nm_r (e' := ee_fill b_group 0 (i + 1) (-1)) (ee_fill_s (by omega)) ⟨vi, nm_r (e' := ee_fill b_dropped 0 (i + 1) 0) (by rw [ea_vb0]; exact ee_fill_s (by omega)) (nm_r (nI_1 i) (ih (i + 1) n (by omega) (by omega)))⟩⟩⟩⟩
  have q := key L 0 (L + 1) (by omega) (by omega)
  rw [ee_cpy_0, ee_fill_0, ee_fill_0, ee_fill_0, ee_fill_0] at q
  exact ⟨_, q⟩
end FC
section FD
variable {f_linkCount f_runCount f_openerCount f_nodes f_domain : Int32} {a_source a_kinds a_chars a_mate a_openStack a_cellKind a_group a_live a_runLo a_runHi a_runChar a_runSize a_runGroup a_runOpens a_runCloses a_openers a_floors a_start a_width a_out a_nodeOf a_clash : Nat → Int32} {g_wLen : Int32} {b_w b_pos b_till b_mark b_group b_flag b_len b_lo b_hi b_dropped : Nat → Int32}
variable {k c L C D : Nat}
theorem fb_parse (ok : ec_Ok c L C D a_source a_kinds a_chars a_mate a_openStack) : wpX_parse (fun r u' => wpY_parse (fun r' v' => r' = r ∧ i_Rel (k + 2) u' v') ((nI c), (nI L), (nI C), g_wLen, a_source, a_kinds, a_chars, b_w, b_pos, b_till, b_mark, a_cellKind, b_group, b_flag, b_len, b_lo, b_hi, a_live, b_dropped)) ((nI c), (nI L), (nI C), (nI D), f_linkCount, f_runCount, f_openerCount, f_nodes, f_domain, a_source, a_kinds, a_chars, a_mate, a_openStack, a_cellKind, a_group, a_live, a_runLo, a_runHi, a_runChar, a_runSize, a_runGroup, a_runOpens, a_runCloses, a_openers, a_floors, a_start, a_width, a_out, a_nodeOf, a_clash) := by
  obtain ⟨o1, o2, o3, o4, o5, o6⟩ := ok
  have hL : L ≤ 64 := by omega
  have hW : ∀ x, x < L → ee_cpy b_w a_source L x = a_source x := fun x hx => ee_cpy_in hx
  obtain ⟨ck1, lv, I, _, X1, Y1⟩ := eg_atoms (f_cap := (nI c)) (f_count := (nI C)) (f_depth := (nI D)) (f_linkCount := 0) (f_runCount := 0) (f_openerCount := f_openerCount) (f_nodes := f_nodes) (f_domain := f_domain) (a_kinds := a_kinds) (a_chars := a_chars) (a_mate := a_mate) (a_openStack := a_openStack) (a_group := (ee_fill a_group 0 L 0)) (a_runLo := a_runLo) (a_runHi := a_runHi) (a_runChar := a_runChar) (a_runSize := a_runSize) (a_runGroup := a_runGroup) (a_runOpens := a_runOpens) (a_runCloses := a_runCloses) (a_openers := a_openers) (a_floors := a_floors) (a_start := a_start) (a_width := a_width) (a_out := a_out) (a_nodeOf := a_nodeOf) (a_clash := a_clash) (g_limit := (nI c)) (g_count := 0) (b_kinds := a_kinds) (b_chars := a_chars) (b_pos := b_pos) (b_till := b_till) (b_mark := b_mark) (b_group := (ee_fill b_group 0 L (-1))) (b_flag := b_flag) (b_len := b_len) (b_lo := b_lo) (b_hi := b_hi) (b_dropped := (ee_fill b_dropped 0 L 0)) (S := a_source) (W := ee_cpy b_w a_source L) hL hW L 0 0 (ee_fill a_cellKind 0 L 0) (ee_fill a_live 0 L 0) (by omega) fb_inv0
  obtain ⟨g, H⟩ := fb_GY_ex (S := a_source) (lv := lv) (L := L)
  have N := ez_I_Y hL o5 I H L (Nat.le_refl _)
  obtain ⟨C', D', K', H', M', O', e1, e2, e3, XE, YE⟩ := fa_emit (S := a_source) o2 o3 N.1 N.2.2.1 L 0 0 0 a_kinds a_chars a_mate a_openStack (fun _ => 0) (by omega) (by omega) fa_I6_0 ⟨rfl, fun q hq => by omega, fun q q' _ hq => by omega, fun x hx => by omega⟩
  rw [N.2.1] at e3
  subst e3
  -- X
  unfold wpX_parse
  dsimp only
  refine ef_xreset hL ⟨L + 1, X1 _ (L + 1) (by omega) ?_⟩
  refine ei_xlinks hL I (fun x hx => ee_fill_in (by omega) hx) (fun gx lc rk hlc G => ?_)
  obtain ⟨ga, hN⟩ := et_ex hL G H
  refine el_xgather hL (fun R rl rh fr hR => ?_)
  refine el_xclass hL hR (fun rc rs rg ro rk' hK => ?_)
  have hC : ev_C a_source lv L R fr := ⟨hR.1, fun r hr => (hR.2.1 r hr).2.2.1, hR.2.2.1, fun x hx => hR.2.2.2 x hx.1.1 hx⟩
  have view : ∀ q, q < R → ev_view a_source lv L fr (eh_lk (eh_Lk a_source lv L) ck1) rl rh q (es_0 a_source lv L (eh_lk (eh_Lk a_source lv L) ck1)) := fun q hq => by
    have r1 := hR.2.1 q hq
    have ef := ek_e_f r1.2.2.1
    refine ⟨r1.1, ?_, fun x _ => rfl⟩
    rw [r1.2.1, Nat.min_eq_left ef.2.1]
    rfl
  refine ey_groups (g := g) (ga := ga) (gx := gx) (fr := fr) hL hC hN hK hlc ⟨fun q hq => ⟨fun z => by omega, fun _ => view q hq, fun _ => view q hq⟩, fun x _ => rfl⟩ (fun n rl' rh' ops' fl' oc' => ?_)
  refine br_t (nI_lt (by omega) (by omega)) ?_
  unfold wpX_emitItems wpX_clearItems
  dsimp only
  refine ⟨L + 1, XE _ (L + 1) (by omega) ?_⟩
  -- Y
  refine fb_yfront hL (fun n => ?_)
  refine br_t (nI_le (Nat.le_refl _) (by omega)) ⟨L + 1, Y1 _ (L + 1) 0 (by omega) (Or.inl rfl) ?_⟩
  refine ei_ylinks hL hW (fun x hx => ee_fill_in (by omega) hx) (fun g' H' => ?_)
  refine ep_yruns hL o5 hW (fun ln fl bl bh hK' hB => ?_)
  refine eo_ymatch2 (st0 := es_0 a_source lv L (eh_lk (eh_Lk a_source lv L) ck1)) (e := ek_e a_source lv L) hL (fun x hx => (ek_e_le hx).2) hK' es_V0 (fun x hx => ⟨(hB x hx).1, (hB x hx).2, ee_fill_in (by omega) hx⟩) (fun bl' bh' bd' => ?_)
  have eq : en_YS (en_F a_source lv g' L) (ek_cl a_source lv L) (es_0 a_source lv L (eh_lk (eh_Lk a_source lv L) ck1)) L = es_Y a_source lv g L (eh_lk (eh_Lk a_source lv L) ck1) L :=
    fb_YS (fb_F (fun x hx => fb_GY_1 H' H hx)) L (Nat.le_refl _)
  rw [eq]
  exact ⟨L + 1, YE _ (L + 1) (by omega) ⟨rfl, ec_in ⟨o1, o2, o3, by omega, o5, fa_I6_7 (by omega) e2⟩⟩⟩
end FD
theorem i_vc_parse {k : Nat} {u : SX} {v : SY} (I : i_Rel k u v) (hk : k + 2 ≤ 1025) : wpX_parse (fun r u' => wpY_parse (fun r' v' => r' = r ∧ i_Rel (k + 2) u' v') v) u :=
  ec_el (P := fun u v => wpX_parse (fun r u' => wpY_parse (fun r' v' => r' = r ∧ i_Rel (k + 2) u' v') v) u) I (fun ok => fb_parse ok)
end
section
/-! print: bits, numbers of nodes, bad code -/
theorem fe_b1 (i : Nat) : bt 1 i = decide (i = 0) := by
  rcases Nat.lt_or_ge i 32 with h | h
  · exact (by decide +kernel : ∀ i, i < 32 → bt 1 i = decide (i = 0)) i h
  · rw [b_big h, decide_eq_false (by omega)]
theorem fe_and1 (y : Int32) : (y &&& 1) = 0 ↔ bt y 0 = false := by
  constructor
  · intro h
    have := congrArg (fun z => bt z 0) h
    simp only [b_and, b_0, fe_b1] at this
    simpa using this
  · intro h
    apply b_ext
    intro i hi
    rw [b_and, b_0, fe_b1]
    by_cases e : i = 0
    · subst e; rw [h]; rfl
    · rw [decide_eq_false e, Bool.and_false]
theorem fe_sh32 (x : Int32) {n : Nat} (hn : n < 32) : ((x >>> (nI n &&& 31)) &&& 1) = 0 ↔ bt x n = false := by
  rw [fe_and1, b_sshr n hn x (by omega : 0 < 32), if_pos (by omega)]
  rfl
def fe_b64 (x : Int64) (i : Nat) : Bool := x.toBitVec.getLsbD i
theorem fe_sm : ∀ n, n < 64 → (((nI n).toInt64 &&& 63).toBitVec.smod 64).toNat = n := by decide +kernel
theorem fe_sh64 (x : Int64) {n : Nat} (hn : n < 64) : ((x >>> ((nI n).toInt64 &&& 63)) &&& 1) = 0 ↔ fe_b64 x n = false := by
  have e : (x >>> ((nI n).toInt64 &&& 63)).toBitVec = x.toBitVec.sshiftRight n := by
    rw [Int64.toBitVec_shiftRight]
    show x.toBitVec.sshiftRight (((nI n).toInt64 &&& 63).toBitVec.smod 64).toNat = _
    rw [fe_sm n hn]
  have e0 : (x.toBitVec.sshiftRight n).getLsbD 0 = x.toBitVec.getLsbD n := by
    rw [BitVec.getLsbD_sshiftRight]
    simp [hn]
  rw [← Int64.toBitVec_inj, Int64.toBitVec_and, e]
  show x.toBitVec.sshiftRight n &&& 1#64 = 0#64 ↔ x.toBitVec.getLsbD n = false
  rw [← e0]
  constructor
  · intro h
    have t := congrArg (fun y => y.getLsbD 0) h
    simpa using t
  · intro h
    apply BitVec.eq_of_getLsbD_eq
    intro i hi
    by_cases z : i = 0
    · subst z
      rw [BitVec.getLsbD_and, h]; rfl
    · simp [z]
theorem fe_or64 (x : Int64) {r g : Nat} (hr : r < 64) (hg : g < 64) : fe_b64 (x ||| ((1 : Int64) <<< ((nI r).toInt64 &&& 63))) g = (fe_b64 x g || decide (g = r)) := by
  have e : (1 : Int64) <<< ((nI r).toInt64 &&& 63) = lN (2 ^ r) := by
    have := wb_shl 1 hr
    rw [Nat.one_mul] at this
    exact this
  unfold fe_b64
  rw [e, Int64.toBitVec_or, BitVec.getLsbD_or, wb_tb, BitVec.getLsbD_ofNat, Nat.testBit_two_pow]
  congr 1
  by_cases z : g = r
  · subst z; simp [hg]
  · rw [decide_eq_false z, decide_eq_false (fun w : r = g => z w.symm), Bool.and_false]
theorem fe_064 (g : Nat) : fe_b64 0 g = false := BitVec.getLsbD_zero
def fe_em (k : Int32) : Bool := decide (k = 1 ∨ k = 2)
def fe_ec (k : Int32) : Bool := decide (k = 5 ∨ k = 6)
def fe_nc (K : Nat → Int32) : Nat → Nat
  | 0 => 0
  | i + 1 => if fe_em (K i) = true then fe_nc K i + 1 else fe_nc K i
def fe_nd (K M : Nat → Int32) (i : Nat) : Int32 := if fe_em (K i) = true then nI (fe_nc K i) else if fe_ec (K i) = true then nI (fe_nc K (M i).toNatClampNeg) else -1
section FE
variable {K H M O : Nat → Int32} {C D : Nat}
theorem fe_nc_le : ∀ i, fe_nc K i ≤ i := by
  intro i
  induction i with
  | zero => exact Nat.le_refl 0
  | succ i ih =>
    unfold fe_nc
    split <;> omega
theorem fe_nc_s {i : Nat} (h : fe_em (K i) = true) : fe_nc K (i + 1) = fe_nc K i + 1 := by
  show (if fe_em (K i) = true then _ else _) = _
  rw [if_pos h]
theorem fe_nc_n {i : Nat} (h : fe_em (K i) = false) : fe_nc K (i + 1) = fe_nc K i := by
  show (if fe_em (K i) = true then _ else _) = _
  rw [h]; rfl
theorem fe_nc_m {i : Nat} : ∀ d, fe_nc K i ≤ fe_nc K (i + d) := by
  intro d
  induction d with
  | zero => exact Nat.le_refl _
  | succ d ih =>
    cases h : fe_em (K (i + d))
    · show _ ≤ fe_nc K (i + d + 1)
      rw [fe_nc_n h]; exact ih
    · show _ ≤ fe_nc K (i + d + 1)
      rw [fe_nc_s h]; omega
theorem fe_nc_lt {i : Nat} (hi : i < C) (h : fe_em (K i) = true) : fe_nc K i < fe_nc K C := by
  have := fe_nc_m (K := K) (i := i + 1) (C - (i + 1))
  rw [show i + 1 + (C - (i + 1)) = C by omega, fe_nc_s h] at this
  omega
/-- a closing marker's partner -/
theorem fe_ec_p (I : eb_Itm C D K H M O) {i : Nat} (hi : i < C) (h : fe_ec (K i) = true) : ∃ p, M i = nI p ∧ eb_Pr K C p i ∧ fe_em (K p) = true := by
  have h' := of_decide_eq_true h
  have hc : eb_cl (K i) = true := by rcases h' with z | z <;> rw [z] <;> decide
  obtain ⟨p, p1, p2⟩ := I.2.2.2.1 i hi hc
  refine ⟨p, p1, p2, ?_⟩
  have e := p2.2.2.2.1
  rcases eb_op_4 p2.2.2.1 with q | q | q | q
  · rw [q]; decide
  · rw [q]; decide
  · rw [q] at e; rw [e] at h; exact absurd h (by decide)
  · rw [q] at e; rw [e] at h; exact absurd h (by decide)
/-- at depth 0 every opening item is closed -/
theorem fe_closed (I : eb_Itm C 0 K H M O) {i : Nat} (hi : i < C) (h : eb_op (K i) = true) : ∃ j, M i = nI j ∧ eb_Pr K C i j := by
  rcases I.2.2.1 i hi h with ⟨_, b⟩ | b
  · have := b.2.2.2 C hi (Nat.le_refl _)
    have := I.1
    omega
  · exact b
def fe_Bd (C : Nat) (K H : Nat → Int32) : Prop := ∃ i j, eb_Pr K C i j ∧ K i = 3 ∧ ((0 < i ∧ K (i - 1) = 7) ∨ H (i + 1) = 96 ∨ H (j - 1) = 96)
end FE
section FF
variable {f_length f_depth f_linkCount f_runCount f_openerCount f_nodes f_domain : Int32} {a_source a_kinds a_chars a_mate a_openStack a_cellKind a_group a_live a_runLo a_runHi a_runChar a_runSize a_runGroup a_runOpens a_runCloses a_openers a_floors a_start a_width a_out a_nodeOf a_clash : Nat → Int32} {g_srcLen g_wLen : Int32} {b_src b_w b_pos b_till b_mark b_out b_group b_flag b_len b_lo b_hi b_live b_dropped : Nat → Int32} {c C D : Nat}
theorem ff_xnum {post : SX → Prop} (I : eb_Itm C D a_kinds a_chars a_mate a_openStack) (hC : C ≤ 64)
    (h : ∀ nd, (∀ i, i < C → nd i = fe_nd a_kinds a_mate i) → post ((nI c), f_length, (nI C), f_depth, f_linkCount, f_runCount, f_openerCount, (nI (fe_nc a_kinds C)), f_domain, a_source, a_kinds, a_chars, a_mate, a_openStack, a_cellKind, a_group, a_live, a_runLo, a_runHi, a_runChar, a_runSize, a_runGroup, a_runOpens, a_runCloses, a_openers, a_floors, a_start, a_width, a_out, nd, a_clash)) : wpX_numberNodes post ((nI c), f_length, (nI C), f_depth, f_linkCount, f_runCount, f_openerCount, f_nodes, f_domain, a_source, a_kinds, a_chars, a_mate, a_openStack, a_cellKind, a_group, a_live, a_runLo, a_runHi, a_runChar, a_runSize, a_runGroup, a_runOpens, a_runCloses, a_openers, a_floors, a_start, a_width, a_out, a_nodeOf, a_clash) := by
  have key : ∀ d i n nd, i + d = C → d < n → (∀ t, t < i → nd t = fe_nd a_kinds a_mate t) → wX_numberNodes_7 post (nI c) f_length (nI C) f_depth f_linkCount f_runCount f_openerCount f_domain n (nI i) (nI (fe_nc a_kinds i)) a_source a_kinds a_chars a_mate a_openStack a_cellKind a_group a_live a_runLo a_runHi a_runChar a_runSize a_runGroup a_runOpens a_runCloses a_openers a_floors a_start a_width a_out nd a_clash := by
    intro d
    induction d with
    | zero =>
      intro i n nd h1 h2 h3
      obtain ⟨n, rfl⟩ : ∃ z, n = z + 1 := ⟨n - 1, by omega⟩
      have e : i = C := by omega
      subst e
      exact br_t (nI_le (Nat.le_refl _) (by omega)) (h nd h3)
    | succ d ih =>
      intro i n nd h1 h2 h3
      obtain ⟨n, rfl⟩ : ∃ z, n = z + 1 := ⟨n - 1, by omega⟩
      have ci : (nI i).toNatClampNeg = i := nI_clamp (by omega)
      have vi : vp_in (nI i) 64 := vp_in_nI (by omega) (by omega)
      have nx : ∀ v, v = fe_nd a_kinds a_mate i → wX_numberNodes_7 post (nI c) f_length (nI C) f_depth f_linkCount f_runCount f_openerCount f_domain n (nI (i + 1)) (nI (fe_nc a_kinds (i + 1))) a_source a_kinds a_chars a_mate a_openStack a_cellKind a_group a_live a_runLo a_runHi a_runChar a_runSize a_runGroup a_runOpens a_runCloses a_openers a_floors a_start a_width a_out (upd nd i v) a_clash := by
        intro v hv
        refine ih (i + 1) n _ (by omega) (by omega) (fun t ht => ?_)
        by_cases e : t = i
        · subst e; rw [ea_us]; exact hv
        · rw [ea_un e]; exact h3 t (by omega)
      have j39 : fe_em (a_kinds i) = true → wX_numberNodes_39 post (wX_numberNodes_7 post (nI c) f_length (nI C) f_depth f_linkCount f_runCount f_openerCount f_domain n) (nI i) (nI c) f_length (nI C) f_depth f_linkCount f_runCount f_openerCount (nI (fe_nc a_kinds i)) f_domain a_source a_kinds a_chars a_mate a_openStack a_cellKind a_group a_live a_runLo a_runHi a_runChar a_runSize a_runGroup a_runOpens a_runCloses a_openers a_floors a_start a_width a_out (upd nd i (-1)) a_clash := by
        intro z
        have q := nx (nI (fe_nc a_kinds i)) (by unfold fe_nd; rw [if_pos z])
        rw [fe_nc_s z] at q
        exact ⟨vi, nm_r (e' := upd nd i (nI (fe_nc a_kinds i))) (by rw [ci, ep_uu]) (nm_r (nI_1 _) (nm_r (nI_1 i) q))⟩
      have j73 : fe_em (a_kinds i) = false → fe_ec (a_kinds i) = true → wX_numberNodes_73 post (wX_numberNodes_7 post (nI c) f_length (nI C) f_depth f_linkCount f_runCount f_openerCount f_domain n) (nI i) (nI c) f_length (nI C) f_depth f_linkCount f_runCount f_openerCount (nI (fe_nc a_kinds i)) f_domain a_source a_kinds a_chars a_mate a_openStack a_cellKind a_group a_live a_runLo a_runHi a_runChar a_runSize a_runGroup a_runOpens a_runCloses a_openers a_floors a_start a_width a_out (upd nd i (-1)) a_clash := by
        intro y z
        obtain ⟨p, p1, p2, p3⟩ := fe_ec_p I (by omega) z
        have pl := p2.1
        have q := nx (nI (fe_nc a_kinds p)) (by unfold fe_nd; rw [if_neg (by rw [y]; decide), if_pos z, p1, nI_clamp (by omega)])
        rw [fe_nc_n y] at q
        unfold wX_numberNodes_73
        rw [ci, p1, nI_clamp (by omega : p < 2 ^ 31)]
        refine ⟨vi, vp_in_nI (by omega) (by omega), vi, nm_r (e' := upd nd i (nI (fe_nc a_kinds p))) ?_ (nm_r (nI_1 i) q)⟩
        rw [ea_un (by omega : p ≠ i), h3 p pl, ep_uu]
        unfold fe_nd
        rw [if_pos p3]
      refine br_f (nI_ge (by omega) (by omega)) ⟨vi, nm_r (e' := a_kinds i) (by rw [ci]) ⟨vi, nm_r (e' := upd nd i (-1)) (by rw [ci]) ?_⟩⟩
      refine br_c (fun a => j39 (decide_eq_true (Or.inl a))) (fun a => br_c (fun b => j39 (decide_eq_true (Or.inr b))) (fun b => ?_))
      have ne : fe_em (a_kinds i) = false := decide_eq_false (fun z => by
        rcases z with z | z
        · exact a z
        · exact b z)
      refine br_c (fun d => j73 ne (decide_eq_true (Or.inl d))) (fun d => br_c (fun f => j73 ne (decide_eq_true (Or.inr f))) (fun f => nm_r (nI_1 i) ?_))
      have q := nx (-1) (by
        unfold fe_nd
        rw [if_neg (by rw [ne]; decide), if_neg (fun z => by
          have z := of_decide_eq_true z
          rcases z with z | z
          · exact d z
          · exact f z)])
      rw [fe_nc_n ne] at q
      exact q
  exact ⟨_, key C 0 (C + 1) a_nodeOf (by omega) (by omega) (fun t ht => by omega)⟩
theorem ff_xbad {post : Int32 → Prop} (I : eb_Itm C 0 a_kinds a_chars a_mate a_openStack) (hC : C ≤ 64) (h1 : fe_Bd C a_kinds a_chars → post 1) (h0 : ¬ fe_Bd C a_kinds a_chars → post 0) : wpX_hasBadCode post ((nI c), f_length, (nI C), f_depth, f_linkCount, f_runCount, f_openerCount, f_nodes, f_domain, a_source, a_kinds, a_chars, a_mate, a_openStack, a_cellKind, a_group, a_live, a_runLo, a_runHi, a_runChar, a_runSize, a_runGroup, a_runOpens, a_runCloses, a_openers, a_floors, a_start, a_width, a_out, a_nodeOf, a_clash) := by
  have key : ∀ d i n, i + d = C → d < n → (∀ t j, t < i → eb_Pr a_kinds C t j → a_kinds t = 3 → ¬ ((0 < t ∧ a_kinds (t - 1) = 7) ∨ a_chars (t + 1) = 96 ∨ a_chars (j - 1) = 96)) → wX_hasBadCode_2 post (nI c) f_length (nI C) f_depth f_linkCount f_runCount f_openerCount f_nodes f_domain a_source a_kinds a_chars a_mate a_openStack a_cellKind a_group a_live a_runLo a_runHi a_runChar a_runSize a_runGroup a_runOpens a_runCloses a_openers a_floors a_start a_width a_out a_nodeOf a_clash n (nI i) := by
    intro d
    induction d with
    | zero =>
      intro i n h2 h3 h4
      obtain ⟨n, rfl⟩ : ∃ z, n = z + 1 := ⟨n - 1, by omega⟩
      exact br_t (nI_le (by omega) (by omega)) (h0 (fun ⟨t, j, p, k3, w⟩ => h4 t j (by have := p.1; have := p.2.1; omega) p k3 w))
    | succ d ih =>
      intro i n h2 h3 h4
      obtain ⟨n, rfl⟩ : ∃ z, n = z + 1 := ⟨n - 1, by omega⟩
      have ci : (nI i).toNatClampNeg = i := nI_clamp (by omega)
      have vi : vp_in (nI i) 64 := vp_in_nI (by omega) (by omega)
      have nx : (∀ j, eb_Pr a_kinds C i j → a_kinds i = 3 → ¬ ((0 < i ∧ a_kinds (i - 1) = 7) ∨ a_chars (i + 1) = 96 ∨ a_chars (j - 1) = 96)) → wX_hasBadCode_2 post (nI c) f_length (nI C) f_depth f_linkCount f_runCount f_openerCount f_nodes f_domain a_source a_kinds a_chars a_mate a_openStack a_cellKind a_group a_live a_runLo a_runHi a_runChar a_runSize a_runGroup a_runOpens a_runCloses a_openers a_floors a_start a_width a_out a_nodeOf a_clash n (nI (i + 1)) := fun w =>
        ih (i + 1) n (by omega) (by omega) (fun t j ht => by
          by_cases e : t = i
          · subst e; exact w j
          · exact h4 t j (by omega))
      refine br_f (nI_ge (by omega) (by omega)) ⟨vi, ?_⟩
      rw [ci]
      refine br_c (fun a => ?_) (fun a => nm_r (nI_1 i) (nx (fun j p k3 => absurd k3 a)))
      obtain ⟨j, m1, p⟩ := fe_closed I (i := i) (by omega) (by rw [a]; decide)
      have pj := p.1
      have pc := p.2.1
      have b42 : ¬ (0 < i ∧ a_kinds (i - 1) = 7) → wX_hasBadCode_42 post (wX_hasBadCode_2 post (nI c) f_length (nI C) f_depth f_linkCount f_runCount f_openerCount f_nodes f_domain a_source a_kinds a_chars a_mate a_openStack a_cellKind a_group a_live a_runLo a_runHi a_runChar a_runSize a_runGroup a_runOpens a_runCloses a_openers a_floors a_start a_width a_out a_nodeOf a_clash n) (nI i) (nI c) f_length (nI C) f_depth f_linkCount f_runCount f_openerCount f_nodes f_domain a_source a_kinds a_chars a_mate a_openStack a_cellKind a_group a_live a_runLo a_runHi a_runChar a_runSize a_runGroup a_runOpens a_runCloses a_openers a_floors a_start a_width a_out a_nodeOf a_clash := by
        intro w
        unfold wX_hasBadCode_42
        rw [ci, nI_1 i, nI_clamp (by omega : i + 1 < 2 ^ 31), m1, ea_s (by omega : 0 < j), nI_clamp (by omega : j - 1 < 2 ^ 31)]
        refine ⟨vp_in_nI (by omega) (by omega), br_c (fun b => h1 ⟨i, j, p, a, Or.inr (Or.inl b)⟩) (fun b => ⟨vi, vp_in_nI (by omega) (by omega), br_c (fun d => h1 ⟨i, j, p, a, Or.inr (Or.inr d)⟩) (fun d => nm_e (nx (fun j' p' _ q => ?_)))⟩)⟩
        have := eb_Pr_j p p'
        subst this
        rcases q with q | q | q
        · exact w q
        · exact b q
        · exact d q
      by_cases z : i = 0
      · subst z
        exact br_t (by decide) (b42 (fun w => by have := w.1; omega))
      · refine br_f (nI_nle (by omega) (by omega)) ?_
        rw [ea_s (by omega : 0 < i), nI_clamp (by omega : i - 1 < 2 ^ 31)]
        exact ⟨vp_in_nI (by omega) (by omega), br_c (fun b => h1 ⟨i, j, p, a, Or.inl ⟨by omega, b⟩⟩) (fun b => b42 (fun w => b w.2))⟩
  exact ⟨_, key C 0 (C + 1) (by omega) (by omega) (fun t j ht => by omega)⟩
theorem ff_ycount {post : Int32 → SY → Prop} (hC : C ≤ 64) (h : ∀ n, wY_print_4 post (nI c) g_srcLen (nI C) g_wLen b_src a_kinds a_chars b_w b_pos b_till b_mark b_out b_group b_flag b_len b_lo b_hi b_live b_dropped (n + 1) (nI (fe_nc a_kinds C)) (nI C)) : wpY_print post ((nI c), g_srcLen, (nI C), g_wLen, b_src, a_kinds, a_chars, b_w, b_pos, b_till, b_mark, b_out, b_group, b_flag, b_len, b_lo, b_hi, b_live, b_dropped) := by
  have key : ∀ d i n, i + d = C → d < n → wY_print_4 post (nI c) g_srcLen (nI C) g_wLen b_src a_kinds a_chars b_w b_pos b_till b_mark b_out b_group b_flag b_len b_lo b_hi b_live b_dropped n (nI (fe_nc a_kinds i)) (nI i) := by
    intro d
    induction d with
    | zero =>
      intro i n h2 h3
      obtain ⟨n, rfl⟩ : ∃ z, n = z + 1 := ⟨n - 1, by omega⟩
      have e : i = C := by omega
      subst e
      exact h n
    | succ d ih =>
      intro i n h2 h3
      obtain ⟨n, rfl⟩ : ∃ z, n = z + 1 := ⟨n - 1, by omega⟩
      have ci : (nI i).toNatClampNeg = i := nI_clamp (by omega)
      have vi : vp_in (nI i) 64 := vp_in_nI (by omega) (by omega)
      have q := ih (i + 1) n (by omega) (by omega)
      have em : fe_em (a_kinds i) = true → ∀ x, x = nI (fe_nc a_kinds i) + 1 → ∀ y, y = nI i + 1 → wY_print_4 post (nI c) g_srcLen (nI C) g_wLen b_src a_kinds a_chars b_w b_pos b_till b_mark b_out b_group b_flag b_len b_lo b_hi b_live b_dropped n x y := by
        intro z
        rw [fe_nc_s z] at q
        exact nm_r (nI_1 _) (nm_r (nI_1 i) q)
      refine br_f (nI_ge (by omega) (by omega)) ⟨vi, ?_⟩
      rw [ci]
      refine br_c (fun a => em (decide_eq_true (Or.inl a))) (fun a => ⟨vi, br_c (fun b => em (decide_eq_true (Or.inr b))) (fun b => nm_r (nI_1 i) ?_)⟩)
      rw [fe_nc_n (decide_eq_false (fun z => by
        rcases z with z | z
        · exact a z
        · exact b z))] at q
      exact q
  exact ⟨_, key C 0 (C + 1) (by omega) (by omega)⟩
theorem ff_yic {post : Int32 → Prop} {i : Nat} (hC : C ≤ 64) (hi : i < C) (h : post (a_chars i)) : wpY_itemChar post ((nI c), g_srcLen, (nI C), g_wLen, b_src, a_kinds, a_chars, b_w, b_pos, b_till, b_mark, b_out, b_group, b_flag, b_len, b_lo, b_hi, b_live, b_dropped) (nI i) := by
  refine br_f (nI_pos (by omega)) (br_t (nI_lt hi (by omega)) ⟨vp_in_nI (by omega) (by omega), ?_⟩)
  rw [nI_clamp (by omega : i < 2 ^ 31)]; exact h
theorem ff_yik {post : Int32 → Prop} {i : Nat} (hC : C ≤ 64) (hi : i < C) (h : post (a_kinds i)) : wpY_itemKind post ((nI c), g_srcLen, (nI C), g_wLen, b_src, a_kinds, a_chars, b_w, b_pos, b_till, b_mark, b_out, b_group, b_flag, b_len, b_lo, b_hi, b_live, b_dropped) (nI i) := by
  refine br_f (nI_pos (by omega)) (br_t (nI_lt hi (by omega)) ⟨vp_in_nI (by omega) (by omega), ?_⟩)
  rw [nI_clamp (by omega : i < 2 ^ 31)]; exact h
theorem ff_ybad {post : Int32 → SY → Prop} {x1 : Int32} (I : eb_Itm C 0 a_kinds a_chars a_mate a_openStack) (hC : C ≤ 64) (h1 : fe_Bd C a_kinds a_chars → post (-6) ((nI c), g_srcLen, (nI C), g_wLen, b_src, a_kinds, a_chars, b_w, b_pos, b_till, b_mark, b_out, b_group, b_flag, b_len, b_lo, b_hi, b_live, b_dropped)) (h0 : ¬ fe_Bd C a_kinds a_chars → ∃ n, wY_print_138 post x1 n 0 (nI c) g_srcLen (nI C) g_wLen b_src a_kinds a_chars b_w b_pos b_till b_mark b_out b_group b_flag b_len b_lo b_hi b_live b_dropped) : ∃ n, wY_print_62 post x1 (nI c) g_srcLen (nI C) g_wLen b_src a_kinds a_chars b_w b_pos b_till b_mark b_out b_group b_flag b_len b_lo b_hi b_live b_dropped n 0 := by
  have key : ∀ d i n, i + d = C → d < n → (∀ t, t < i → ¬ (a_kinds t = 3 ∧ (a_chars (t + 1) = 96 ∨ (0 < t ∧ a_kinds (t - 1) = 7))) ∧ ¬ (a_kinds t = 7 ∧ a_chars (t - 1) = 96)) → wY_print_62 post x1 (nI c) g_srcLen (nI C) g_wLen b_src a_kinds a_chars b_w b_pos b_till b_mark b_out b_group b_flag b_len b_lo b_hi b_live b_dropped n (nI i) := by
    intro d
    induction d with
    | zero =>
      intro i n h2 h3 h4
      obtain ⟨n, rfl⟩ : ∃ z, n = z + 1 := ⟨n - 1, by omega⟩
      refine br_t (nI_le (by omega) (by omega)) (h0 (fun ⟨t, j, p, k3, w⟩ => ?_))
      have pj := p.1
      have pc := p.2.1
      rcases w with w | w | w
      · exact (h4 t (by omega)).1 ⟨k3, Or.inr w⟩
      · exact (h4 t (by omega)).1 ⟨k3, Or.inl w⟩
      · refine (h4 j (by omega)).2 ⟨?_, w⟩
        rw [p.2.2.2.1, k3]; decide
    | succ d ih =>
      intro i n h2 h3 h4
      obtain ⟨n, rfl⟩ : ∃ z, n = z + 1 := ⟨n - 1, by omega⟩
      have ci : (nI i).toNatClampNeg = i := nI_clamp (by omega)
      have vi : vp_in (nI i) 64 := vp_in_nI (by omega) (by omega)
      have nx : ¬ (a_kinds i = 3 ∧ (a_chars (i + 1) = 96 ∨ (0 < i ∧ a_kinds (i - 1) = 7))) → ¬ (a_kinds i = 7 ∧ a_chars (i - 1) = 96) → wY_print_62 post x1 (nI c) g_srcLen (nI C) g_wLen b_src a_kinds a_chars b_w b_pos b_till b_mark b_out b_group b_flag b_len b_lo b_hi b_live b_dropped n (nI (i + 1)) := fun w1 w2 =>
        ih (i + 1) n (by omega) (by omega) (fun t ht => by
          by_cases e : t = i
          · subst e; exact ⟨w1, w2⟩
          · exact h4 t (by omega))
      have p104 : ¬ (a_kinds i = 3 ∧ (a_chars (i + 1) = 96 ∨ (0 < i ∧ a_kinds (i - 1) = 7))) → wY_print_104 post (wY_print_62 post x1 (nI c) g_srcLen (nI C) g_wLen b_src a_kinds a_chars b_w b_pos b_till b_mark b_out b_group b_flag b_len b_lo b_hi b_live b_dropped n) x1 (nI i) (nI c) g_srcLen (nI C) g_wLen b_src a_kinds a_chars b_w b_pos b_till b_mark b_out b_group b_flag b_len b_lo b_hi b_live b_dropped := by
        intro w
        unfold wY_print_104
        rw [ci]
        refine ⟨vi, br_c (fun a => ?_) (fun a => nm_r (nI_1 i) (nx w (fun q => a q.1)))⟩
        obtain ⟨p, p1, p2⟩ := I.2.2.2.1 i (by omega) (by rw [a]; decide)
        have pi := p2.1
        have k3 : a_kinds p = 3 := by
          have e := p2.2.2.2.1
          rw [a] at e
          rcases eb_op_4 p2.2.2.1 with q | q | q | q <;> rw [q] at e ⊢ <;> exact absurd e (by decide)
        rw [ea_s (by omega : 0 < i)]
        exact ff_yic hC (by omega) (br_c (fun b => h1 ⟨p, i, p2, k3, Or.inr (Or.inr b)⟩) (fun b => nm_r (nI_1 i) (nx w (fun q => b q.2))))
      refine br_f (nI_ge (by omega) (by omega)) ⟨vi, ?_⟩
      rw [ci]
      refine br_c (fun a => ?_) (fun a => p104 (fun q => a q.1))
      obtain ⟨j, m1, p⟩ := fe_closed I (i := i) (by omega) (by rw [a]; decide)
      have pj := p.1
      have pc := p.2.1
      rw [nI_1 i]
      refine ff_yic hC (by omega) (br_c (fun b => h1 ⟨i, j, p, a, Or.inr (Or.inl b)⟩) (fun b => ?_))
      by_cases z : i = 0
      · subst z
        refine br_t (by decide) (br_f (by decide) (p104 (fun q => ?_)))
        rcases q.2 with q | q
        · exact b q
        · have := q.1; omega
      · rw [ea_s (by omega : 0 < i)]
        refine ff_yik hC (by omega) (br_c (fun d => h1 ⟨i, j, p, a, Or.inl ⟨by omega, d⟩⟩) (fun d => p104 (fun q => ?_)))
        rcases q.2 with q | q
        · exact b q
        · exact d q.2
  exact ⟨_, key C 0 (C + 1) (by omega) (by omega) (fun t ht => by omega)⟩
end FF
end
section
/-! print: the fence of a code node -/
/-- ticks in a row just ahead of item i + 1 + d -/
def fg_rw (H : Nat → Int32) (i : Nat) : Nat → Nat
  | 0 => 0
  | d + 1 => if H (i + 1 + d) = 96 then fg_rw H i d + 1 else 0
def fg_RL (H : Nat → Int32) (i j g : Nat) : Prop := ∃ d, d < j - i ∧ ¬ H (i + 1 + d) = 96 ∧ fg_rw H i d = g
def fg_FN (H : Nat → Int32) (i j f : Nat) : Prop := 1 ≤ f ∧ ¬ fg_RL H i j f ∧ ∀ g, 1 ≤ g → g < f → fg_RL H i j g
section FG
variable {H : Nat → Int32} {i j : Nat}
theorem fg_rw_le : ∀ d, fg_rw H i d ≤ d := by
  intro d
  induction d with
  | zero => exact Nat.le_refl 0
  | succ d ih =>
    unfold fg_rw
    split <;> omega
theorem fg_rw_t {d : Nat} (h : H (i + 1 + d) = 96) : fg_rw H i (d + 1) = fg_rw H i d + 1 := by
  show (if H (i + 1 + d) = 96 then _ else _) = _
  rw [if_pos h]
theorem fg_rw_f {d : Nat} (h : ¬ H (i + 1 + d) = 96) : fg_rw H i (d + 1) = 0 := by
  show (if H (i + 1 + d) = 96 then _ else _) = _
  rw [if_neg h]
theorem fg_RL_le {g : Nat} (h : fg_RL H i j g) : g + 1 ≤ j - i := by
  obtain ⟨d, h1, h2, h3⟩ := h
  have := fg_rw_le (H := H) (i := i) d
  omega
theorem fg_FN_ex (H : Nat → Int32) (i j : Nat) : ∃ f, fg_FN H i j f := by
  obtain ⟨f, h1, h2⟩ := pk_least (fun f => 1 ≤ f ∧ ¬ fg_RL H i j f) ⟨j + 1, by omega, fun z => by have := fg_RL_le z; omega⟩
  refine ⟨f, h1.1, h1.2, fun g a b => ?_⟩
  apply Classical.byContradiction
  intro z
  exact h2 g b ⟨a, z⟩
theorem fg_FN_1 {f f' : Nat} (h : fg_FN H i j f) (h' : fg_FN H i j f') : f = f' := by
  rcases Nat.lt_trichotomy f f' with w | w | w
  · exact absurd (h'.2.2 f h.1 w) h.2.1
  · exact w
  · exact absurd (h.2.2 f' h'.1 w) h'.2.1
theorem fg_FN_le {f : Nat} (hij : i < j) (h : fg_FN H i j f) : f ≤ j - i := by
  by_cases z : f = 1
  · omega
  · have := h.1
    have := fg_RL_le (h.2.2 (f - 1) (by omega) (by omega))
    omega
/-- one pass of Y's search -/
def fg_ps (H : Nat → Int32) (i : Nat) : Nat → Nat → Nat → Nat
  | 0, _, f => f
  | e + 1, d, f => fg_ps H i e (d + 1) (if ¬ H (i + 1 + d) = 96 ∧ fg_rw H i d = f then f + 1 else f)
theorem fg_ps_ge : ∀ e d f, f ≤ fg_ps H i e d f := by
  intro e
  induction e with
  | zero => intro d f; exact Nat.le_refl _
  | succ e ih =>
    intro d f
    unfold fg_ps
    have := ih (d + 1) (if ¬ H (i + 1 + d) = 96 ∧ fg_rw H i d = f then f + 1 else f)
    have : f ≤ (if ¬ H (i + 1 + d) = 96 ∧ fg_rw H i d = f then f + 1 else f) := by split <;> omega
    omega
theorem fg_ps_le {F : Nat} (hF : ¬ fg_RL H i j F) : ∀ e d f, d + e ≤ j - i → f ≤ F → fg_ps H i e d f ≤ F := by
  intro e
  induction e with
  | zero => intro d f _ h; exact h
  | succ e ih =>
    intro d f h1 h2
    unfold fg_ps
    refine ih (d + 1) _ (by omega) ?_
    by_cases z : ¬ H (i + 1 + d) = 96 ∧ fg_rw H i d = f
    · rw [if_pos z]
      have : f ≠ F := fun w => hF ⟨d, by omega, z.1, by rw [← w]; exact z.2⟩
      omega
    · rw [if_neg z]; exact h2
theorem fg_ps_gt : ∀ e d f, (∃ d', d ≤ d' ∧ d' < d + e ∧ ¬ H (i + 1 + d') = 96 ∧ fg_rw H i d' = f) → f + 1 ≤ fg_ps H i e d f := by
  intro e
  induction e with
  | zero => intro d f ⟨d', h1, h2, _⟩; omega
  | succ e ih =>
    intro d f ⟨d', h1, h2, h3, h4⟩
    unfold fg_ps
    by_cases z : ¬ H (i + 1 + d) = 96 ∧ fg_rw H i d = f
    · rw [if_pos z]; exact fg_ps_ge _ _ _
    · rw [if_neg z]
      have ne : d' ≠ d := fun w => by subst w; exact z ⟨h3, h4⟩
      exact ih (d + 1) f ⟨d', by omega, by omega, h3, h4⟩
end FG
section FH
variable {f_length f_depth f_linkCount f_runCount f_openerCount f_nodes f_domain : Int32} {a_source a_kinds a_chars a_mate a_openStack a_cellKind a_group a_live a_runLo a_runHi a_runChar a_runSize a_runGroup a_runOpens a_runCloses a_openers a_floors a_start a_width a_out a_nodeOf a_clash : Nat → Int32} {g_srcLen g_wLen : Int32} {b_src b_w b_pos b_till b_mark b_out b_group b_flag b_len b_lo b_hi b_live b_dropped : Nat → Int32} {c C : Nat}
theorem fh_K0 {D : Nat} (I : eb_Itm C D a_kinds a_chars a_mate a_openStack) {k : Nat} (hk : k < C) (h : a_chars k = 96) : a_kinds k = 0 := by
  rcases I.2.1 k hk with z | z | z
  · exact z.1
  · rw [z.2] at h; exact absurd h (by decide)
  · rw [h] at z; exact absurd z.2 (by decide)
theorem fh_x68 {post : Int32 → Prop} {i j F : Nat} {x2 : Int64} (hF : fg_FN a_chars i j F) (hFl : F ≤ 63) (hb : ∀ g, g < 64 → (fe_b64 x2 g = true ↔ fg_RL a_chars i j g)) (h : post (nI F)) :
    ∃ n, wX_fence_68 post x2 (nI c) f_length (nI C) f_depth f_linkCount f_runCount f_openerCount f_nodes f_domain a_source a_kinds a_chars a_mate a_openStack a_cellKind a_group a_live a_runLo a_runHi a_runChar a_runSize a_runGroup a_runOpens a_runCloses a_openers a_floors a_start a_width a_out a_nodeOf a_clash n 1 := by
  have key : ∀ e f n, f + e = 63 → e < n → 1 ≤ f → (∀ g, 1 ≤ g → g < f → fg_RL a_chars i j g) → wX_fence_68 post x2 (nI c) f_length (nI C) f_depth f_linkCount f_runCount f_openerCount f_nodes f_domain a_source a_kinds a_chars a_mate a_openStack a_cellKind a_group a_live a_runLo a_runHi a_runChar a_runSize a_runGroup a_runOpens a_runCloses a_openers a_floors a_start a_width a_out a_nodeOf a_clash n (nI f) := by
    intro e
    induction e with
    | zero =>
      intro f n h1 h2 h3 h4
      obtain ⟨n, rfl⟩ : ∃ z, n = z + 1 := ⟨n - 1, by omega⟩
      have : F = 63 := by
        apply Decidable.byContradiction
        intro z
        exact hF.2.1 (h4 F hF.1 (by omega))
      rw [this] at h
      exact br_t (nI_le (a := 63) (by omega) (by omega)) h
    | succ e ih =>
      intro f n h1 h2 h3 h4
      obtain ⟨n, rfl⟩ : ∃ z, n = z + 1 := ⟨n - 1, by omega⟩
      refine br_f (nI_ge (b := 63) (by omega) (by omega)) (br_c (fun a => ?_) (fun a => nm_r (nI_1 f) (ih (f + 1) n (by omega) (by omega) (by omega) (fun g g1 g2 => ?_))))
      · rw [fe_sh64 x2 (by omega)] at a
        have nr : ¬ fg_RL a_chars i j f := fun z => by rw [(hb f (by omega)).mpr z] at a; exact absurd a (by decide)
        rw [fg_FN_1 hF ⟨h3, nr, h4⟩] at h
        exact h
      · by_cases z : g = f
        · subst z
          rw [fe_sh64 x2 (by omega)] at a
          apply (hb g (by omega)).mp
          cases w : fe_b64 x2 g
          · exact absurd w a
          · rfl
        · exact h4 g g1 (by omega)
  exact ⟨_, key 62 1 63 (by omega) (by omega) (by omega) (fun g g1 g2 => by omega)⟩
theorem fh_xfence {post : Int32 → Prop} {i j F : Nat} (I : eb_Itm C 0 a_kinds a_chars a_mate a_openStack) (hC : C ≤ 64) (hm : a_mate i = nI j) (hij : i < j) (hj : j < C) (hF : fg_FN a_chars i j F) (h : post (nI F)) : wpX_fence post ((nI c), f_length, (nI C), f_depth, f_linkCount, f_runCount, f_openerCount, f_nodes, f_domain, a_source, a_kinds, a_chars, a_mate, a_openStack, a_cellKind, a_group, a_live, a_runLo, a_runHi, a_runChar, a_runSize, a_runGroup, a_runOpens, a_runCloses, a_openers, a_floors, a_start, a_width, a_out, a_nodeOf, a_clash) (nI i) := by
  have Fl := fg_FN_le hij hF
  have ci : (nI i).toNatClampNeg = i := nI_clamp (by omega)
  have vi : vp_in (nI i) 64 := vp_in_nI (by omega) (by omega)
  have key : ∀ e d n x2, d + e = j - i → e < n → (∀ g, g < 64 → (fe_b64 x2 g = true ↔ ∃ d', d' < d ∧ ¬ a_chars (i + 1 + d') = 96 ∧ fg_rw a_chars i d' = g)) → wX_fence_10 post (nI i) (nI c) f_length (nI C) f_depth f_linkCount f_runCount f_openerCount f_nodes f_domain a_source a_kinds a_chars a_mate a_openStack a_cellKind a_group a_live a_runLo a_runHi a_runChar a_runSize a_runGroup a_runOpens a_runCloses a_openers a_floors a_start a_width a_out a_nodeOf a_clash n x2 (nI (fg_rw a_chars i d)) (nI (i + 1 + d)) := by
    intro e
    induction e with
    | zero =>
      intro d n x2 h1 h2 h3
      obtain ⟨n, rfl⟩ : ∃ z, n = z + 1 := ⟨n - 1, by omega⟩
      have ed : d = j - i := by omega
      refine ⟨vi, br_t ?_ (fh_x68 hF (by omega) ?_ h)⟩
      · rw [ci, hm]; exact nI_lt (by omega) (by omega)
      · rw [ed] at h3; exact h3
    | succ e ih =>
      intro d n x2 h1 h2 h3
      obtain ⟨n, rfl⟩ : ∃ z, n = z + 1 := ⟨n - 1, by omega⟩
      have rl := fg_rw_le (H := a_chars) (i := i) d
      have ck : (nI (i + 1 + d)).toNatClampNeg = i + 1 + d := nI_clamp (by omega)
      have vk : vp_in (nI (i + 1 + d)) 64 := vp_in_nI (by omega) (by omega)
      have f49 : ¬ a_chars (i + 1 + d) = 96 → wX_fence_49 post (wX_fence_10 post (nI i) (nI c) f_length (nI C) f_depth f_linkCount f_runCount f_openerCount f_nodes f_domain a_source a_kinds a_chars a_mate a_openStack a_cellKind a_group a_live a_runLo a_runHi a_runChar a_runSize a_runGroup a_runOpens a_runCloses a_openers a_floors a_start a_width a_out a_nodeOf a_clash n) (nI i) x2 (nI (fg_rw a_chars i d)) (nI (i + 1 + d)) (nI c) f_length (nI C) f_depth f_linkCount f_runCount f_openerCount f_nodes f_domain a_source a_kinds a_chars a_mate a_openStack a_cellKind a_group a_live a_runLo a_runHi a_runChar a_runSize a_runGroup a_runOpens a_runCloses a_openers a_floors a_start a_width a_out a_nodeOf a_clash := by
        intro z
        refine nm_e (nm_r (nI_1 _) ?_)
        have q := ih (d + 1) n (x2 ||| ((1 : Int64) <<< ((nI (fg_rw a_chars i d)).toInt64 &&& 63))) (by omega) (by omega) (fun g hg => ?_)
        · rw [fg_rw_f z] at q
          exact q
        · rw [fe_or64 x2 (by omega) hg, Bool.or_eq_true, h3 g hg]
          constructor
          · intro w
            rcases w with ⟨d', w1, w2, w3⟩ | w
            · exact ⟨d', by omega, w2, w3⟩
            · exact ⟨d, by omega, z, (of_decide_eq_true w).symm⟩
          · intro ⟨d', w1, w2, w3⟩
            by_cases y : d' = d
            · subst y; exact Or.inr (decide_eq_true w3.symm)
            · exact Or.inl ⟨d', by omega, w2, w3⟩
      refine ⟨vi, br_f ?_ ⟨vk, ?_⟩⟩
      · rw [ci, hm]; exact nI_nlt (by omega) (by omega)
      · rw [ck]
        refine br_c (fun a => ⟨vk, br_c (fun b => nm_r (nI_1 _) (nm_r (nI_1 _) ?_)) (fun b => f49 b)⟩) (fun a => f49 (fun b => a (fh_K0 I (by omega) b)))
        have q := ih (d + 1) n x2 (by omega) (by omega) (fun g hg => ?_)
        · rw [fg_rw_t b] at q
          exact q
        · rw [h3 g hg]
          constructor
          · intro ⟨d', w1, w2, w3⟩
            exact ⟨d', by omega, w2, w3⟩
          · intro ⟨d', w1, w2, w3⟩
            by_cases y : d' = d
            · subst y; exact absurd b w2
            · exact ⟨d', by omega, w2, w3⟩
  refine nm_r (nI_1 i) ⟨j - i + 1, ?_⟩
  exact key (j - i) 0 (j - i + 1) 0 (by omega) (by omega) (fun g hg => by
    rw [fe_064]
    exact ⟨fun z => absurd z (by decide), fun ⟨d', z, _⟩ => by omega⟩)
theorem fh_ypass {post : Int32 → Prop} {J11 : Int32 → Int32 → Prop} {i j t : Nat} (hC : C ≤ 64) (hij : i < j) (hj : j < C) :
    ∀ (e d n f : Nat), d + e = j - i → e < n → f + e ≤ 1000 → J11 (nI (fg_ps a_chars i e d f)) (nI (t + 1)) → wY_fence_26 post J11 (nI i) (nI j) (nI t) (nI c) g_srcLen (nI C) g_wLen b_src a_kinds a_chars b_w b_pos b_till b_mark b_out b_group b_flag b_len b_lo b_hi b_live b_dropped n (nI f) (nI (i + 1 + d)) (nI (fg_rw a_chars i d)) := by
  intro e
  induction e with
  | zero =>
    intro d n f h1 h2 h3 h4
    obtain ⟨n, rfl⟩ : ∃ z, n = z + 1 := ⟨n - 1, by omega⟩
    exact br_t (nI_lt (by omega) (by omega)) (nm_r (nI_1 t) h4)
  | succ e ih =>
    intro d n f h1 h2 h3 h4
    obtain ⟨n, rfl⟩ : ∃ z, n = z + 1 := ⟨n - 1, by omega⟩
    have rl := fg_rw_le (H := a_chars) (i := i) d
    have ck : (nI (i + 1 + d)).toNatClampNeg = i + 1 + d := nI_clamp (by omega)
    have vk : vp_in (nI (i + 1 + d)) 64 := vp_in_nI (by omega) (by omega)
    unfold fg_ps at h4
    have f53 : ∀ f', f' = (if ¬ a_chars (i + 1 + d) = 96 ∧ fg_rw a_chars i d = f then f + 1 else f) → wY_fence_53 post J11 (wY_fence_26 post J11 (nI i) (nI j) (nI t) (nI c) g_srcLen (nI C) g_wLen b_src a_kinds a_chars b_w b_pos b_till b_mark b_out b_group b_flag b_len b_lo b_hi b_live b_dropped n) (nI i) (nI f') (nI j) (nI t) (nI (i + 1 + d)) (nI (fg_rw a_chars i d)) (nI c) g_srcLen (nI C) g_wLen b_src a_kinds a_chars b_w b_pos b_till b_mark b_out b_group b_flag b_len b_lo b_hi b_live b_dropped := by
      intro f' hf
      rw [← hf] at h4
      have b1 : f' ≤ f + 1 := by rw [hf]; split <;> omega
      have q := ih (d + 1) n f' (by omega) (by omega) (by omega) h4
      unfold wY_fence_53
      rw [ck]
      refine ⟨vk, br_c (fun a => nm_r (nI_1 _) (nm_r (nI_1 _) ?_)) (fun a => nm_r (nI_1 _) ?_)⟩
      · rw [fg_rw_t a] at q; exact q
      · rw [fg_rw_f a] at q; exact q
    refine br_f (nI_nlt (by omega) (by omega)) ⟨vk, ?_⟩
    rw [ck]
    refine br_c (fun a => f53 f (by rw [if_neg (fun z => z.1 a)])) (fun a => br_c (fun b => nm_r (nI_1 f) (f53 (f + 1) ?_)) (fun b => f53 f ?_))
    · rw [if_pos ⟨a, ea_im b (by omega) (by omega)⟩]
    · rw [if_neg (fun z => b (by rw [z.2]))]
theorem fh_yfence {post : Int32 → Prop} {i j F : Nat} (I : eb_Itm C 0 a_kinds a_chars a_mate a_openStack) (hC : C ≤ 64) (hm : a_mate i = nI j) (hij : i < j) (hj : j < C) (hF : fg_FN a_chars i j F) (h : post (nI F)) : wpY_fence post ((nI c), g_srcLen, (nI C), g_wLen, b_src, a_kinds, a_chars, b_w, b_pos, b_till, b_mark, b_out, b_group, b_flag, b_len, b_lo, b_hi, b_live, b_dropped) (nI i) := by
  have Fl := fg_FN_le hij hF
  have key : ∀ e t n f, t + e = 64 → e < n → 1 ≤ f → f ≤ F → (F ≤ f ∨ t + 1 ≤ f) → wY_fence_11 post (nI i) (nI j) (nI c) g_srcLen (nI C) g_wLen b_src a_kinds a_chars b_w b_pos b_till b_mark b_out b_group b_flag b_len b_lo b_hi b_live b_dropped n (nI f) (nI t) := by
    intro e
    induction e with
    | zero =>
      intro t n f h1 h2 h3 h4 h5
      obtain ⟨n, rfl⟩ : ∃ z, n = z + 1 := ⟨n - 1, by omega⟩
      have : f = F := by omega
      subst this
      exact br_t (nI_le (a := 64) (by omega) (by omega)) h
    | succ e ih =>
      intro t n f h1 h2 h3 h4 h5
      obtain ⟨n, rfl⟩ : ∃ z, n = z + 1 := ⟨n - 1, by omega⟩
      have p1 := fg_ps_ge (H := a_chars) (i := i) (j - i) 0 f
      have p2 := fg_ps_le (j := j) hF.2.1 (j - i) 0 f (by omega) h4
      have p3 : f < F → f + 1 ≤ fg_ps a_chars i (j - i) 0 f := fun w => by
        obtain ⟨d, d1, d2, d3⟩ := hF.2.2 f h3 w
        exact fg_ps_gt _ _ _ ⟨d, by omega, by omega, d2, d3⟩
      refine br_f (nI_ge (b := 64) (by omega) (by omega)) (nm_r (nI_1 i) ⟨j - i + 1, ?_⟩)
      exact fh_ypass hC hij hj (j - i) 0 (j - i + 1) f (by omega) (by omega) (by omega) (ih (t + 1) n _ (by omega) (by omega) (by omega) p2 (by
        by_cases w : f < F
        · have := p3 w; omega
        · omega))
  unfold wpY_fence
  dsimp only
  refine ec_ypa I hC (by omega) ?_
  rw [hm]
  exact ⟨_, key 64 0 65 1 (by omega) (by omega) (by omega) hF.1 (by omega)⟩
end FH
end
section
/-! print: widths, places, the writing; X's measure and writeItem -/
def fi_ic (K : Nat → Int32) : Nat → Bool
  | 0 => false
  | i + 1 => if K i = 3 then true else if K i = 7 then false else fi_ic K i
def fi_w (K H M : Nat → Int32) (fn : Nat → Nat) (i : Nat) : Nat :=
  if K i = 0 then (if (!fi_ic K i && ea_sp (H i)) = true then 2 else 1) else if K i = 3 then fn i else if K i = 7 then fn (M i).toNatClampNeg else if K i = 8 then 4 else if K i = 2 ∨ K i = 6 then 2 else 1
def fi_ps (w : Nat → Nat) : Nat → Nat
  | 0 => 0
  | i + 1 => fi_ps w i + w i
def fi_tx (K H : Nat → Int32) (w : Nat → Nat) (mk : Nat → Int32) (i d : Nat) : Int32 :=
  if K i = 0 then (if w i = 2 ∧ d = 0 then 92 else H i) else if K i = 3 ∨ K i = 7 then 96 else if K i = 4 then 91 else if K i = 8 then (if d = 0 then 93 else if d = 1 then 40 else if d = 2 then H i else 41) else mk i
def fi_F (C : Nat) (K H : Nat → Int32) (fn : Nat → Nat) : Prop := ∀ i j, eb_Pr K C i j → K i = 3 → fg_FN H i j (fn i)
theorem fi_F_ex (C : Nat) (K H : Nat → Int32) : ∃ fn, fi_F C K H fn := by
  have : ∀ i, ∃ f, ∀ j, eb_Pr K C i j → K i = 3 → fg_FN H i j f := fun i => by
    by_cases z : ∃ j, eb_Pr K C i j
    · obtain ⟨j, p⟩ := z
      obtain ⟨f, hf⟩ := fg_FN_ex H i j
      exact ⟨f, fun j' p' _ => by rw [← eb_Pr_j p p']; exact hf⟩
    · exact ⟨0, fun j p => absurd ⟨j, p⟩ z⟩
  exact ⟨fun i => Classical.choose (this i), fun i j p k => Classical.choose_spec (this i) j p k⟩
section FI
variable {K H M O : Nat → Int32} {C : Nat} {fn : Nat → Nat} {w : Nat → Nat}
theorem fi_ps_m {i : Nat} : ∀ d, fi_ps w i ≤ fi_ps w (i + d) := by
  intro d
  induction d with
  | zero => exact Nat.le_refl _
  | succ d ih =>
    show _ ≤ fi_ps w (i + d) + w (i + d)
    omega
theorem fi_ps_lt {i : Nat} (h : i < C) : fi_ps w i + w i ≤ fi_ps w C := by
  have := fi_ps_m (w := w) (i := i + 1) (C - (i + 1))
  rw [show i + 1 + (C - (i + 1)) = C by omega] at this
  exact this
/-- a code close's partner -/
theorem fi_7 (I : eb_Itm C 0 K H M O) {i : Nat} (hi : i < C) (h : K i = 7) : ∃ p, M i = nI p ∧ eb_Pr K C p i ∧ K p = 3 := by
  obtain ⟨p, p1, p2⟩ := I.2.2.2.1 i hi (by rw [h]; decide)
  refine ⟨p, p1, p2, ?_⟩
  have e := p2.2.2.2.1
  rw [h] at e
  rcases eb_op_4 p2.2.2.1 with q | q | q | q <;> rw [q] at e ⊢ <;> exact absurd e (by decide)
theorem fi_w_b (I : eb_Itm C 0 K H M O) (hC : C ≤ 64) (hF : fi_F C K H fn) {i : Nat} (hi : i < C) : 1 ≤ fi_w K H M fn i ∧ fi_w K H M fn i ≤ 63 := by
  unfold fi_w
  by_cases k0 : K i = 0
  · rw [if_pos k0]; split <;> omega
  · rw [if_neg k0]
    by_cases k3 : K i = 3
    · rw [if_pos k3]
      obtain ⟨j, m1, p⟩ := fe_closed I hi (by rw [k3]; decide)
      have f := hF i j p k3
      have := fg_FN_le p.1 f
      have := f.1
      have := p.2.1
      omega
    · rw [if_neg k3]
      by_cases k7 : K i = 7
      · rw [if_pos k7]
        obtain ⟨p, m1, p1, p3⟩ := fi_7 I hi k7
        have f := hF p i p1 p3
        have := fg_FN_le p1.1 f
        have := f.1
        rw [m1, nI_clamp (by have := p1.1; omega)]
        omega
      · rw [if_neg k7]
        by_cases k8 : K i = 8
        · rw [if_pos k8]; omega
        · rw [if_neg k8]; split <;> omega
theorem fi_ps_b (I : eb_Itm C 0 K H M O) (hC : C ≤ 64) (hF : fi_F C K H fn) : ∀ i, i ≤ C → fi_ps (fi_w K H M fn) i ≤ 63 * i := by
  intro i
  induction i with
  | zero => intro _; exact Nat.le_refl 0
  | succ i ih =>
    intro h
    have := ih (by omega)
    have := (fi_w_b I hC hF (by omega : i < C)).2
    show fi_ps (fi_w K H M fn) i + fi_w K H M fn i ≤ _
    omega
end FI
section FJ
variable {f_length f_depth f_linkCount f_runCount f_openerCount f_nodes f_domain : Int32} {a_source a_kinds a_chars a_mate a_openStack a_cellKind a_group a_live a_runLo a_runHi a_runChar a_runSize a_runGroup a_runOpens a_runCloses a_openers a_floors a_start a_width a_out a_nodeOf a_clash : Nat → Int32} {c C : Nat} {fn : Nat → Nat}
theorem fj_xw {post : Int32 → Prop} {i : Nat} (I : eb_Itm C 0 a_kinds a_chars a_mate a_openStack) (hC : C ≤ 64) (hF : fi_F C a_kinds a_chars fn) (hi : i < C) (hw : ∀ p, p < i → a_kinds p = 3 → a_width p = nI (fn p))
    (h : post (nI (fi_w a_kinds a_chars a_mate fn i))) : wpX_widthOf post ((nI c), f_length, (nI C), f_depth, f_linkCount, f_runCount, f_openerCount, f_nodes, f_domain, a_source, a_kinds, a_chars, a_mate, a_openStack, a_cellKind, a_group, a_live, a_runLo, a_runHi, a_runChar, a_runSize, a_runGroup, a_runOpens, a_runCloses, a_openers, a_floors, a_start, a_width, a_out, a_nodeOf, a_clash) (nI i) (ea_b (fi_ic a_kinds (i + 1))) := by
  have ci : (nI i).toNatClampNeg = i := nI_clamp (by omega)
  have vi : vp_in (nI i) 64 := vp_in_nI (by omega) (by omega)
  unfold fi_w at h
  refine ⟨vi, nm_r (e' := a_kinds i) (by rw [ci]) (br_c (fun k0 => ?_) (fun k0 => ?_))⟩
  · rw [if_pos k0] at h
    have ei : fi_ic a_kinds (i + 1) = fi_ic a_kinds i := by
      show (if a_kinds i = 3 then true else if a_kinds i = 7 then false else fi_ic a_kinds i) = _
      rw [if_neg (by rw [k0]; decide), if_neg (by rw [k0]; decide)]
    rw [ei]
    refine ea_br (fun a => ⟨vi, ?_⟩) (fun a => ?_)
    · rw [ci]
      rw [a] at h
      refine ea_xsp (ea_br (fun b => ?_) (fun b => ?_))
      · rw [b] at h; exact h
      · rw [b] at h; exact h
    · rw [a] at h; exact h
  · rw [if_neg k0] at h
    refine br_c (fun k3 => ?_) (fun k3 => ?_)
    · rw [if_pos k3] at h
      obtain ⟨j, m1, p⟩ := fe_closed I hi (by rw [k3]; decide)
      exact fh_xfence I hC m1 p.1 p.2.1 (hF i j p k3) h
    · rw [if_neg k3] at h
      refine br_c (fun k7 => ⟨vi, ?_⟩) (fun k7 => ?_)
      · rw [if_pos k7] at h
        obtain ⟨p, m1, p1, p3⟩ := fi_7 I hi k7
        have := p1.1
        rw [m1, nI_clamp (by omega : p < 2 ^ 31)] at h
        rw [ci, m1, nI_clamp (by omega : p < 2 ^ 31), hw p this p3]
        exact ⟨vp_in_nI (by omega) (by omega), h⟩
      · rw [if_neg k7] at h
        refine br_c (fun k8 => ?_) (fun k8 => ?_)
        · rw [if_pos k8] at h; exact h
        · rw [if_neg k8] at h
          refine br_c (fun k2 => ?_) (fun k2 => br_c (fun k6 => ?_) (fun k6 => ?_))
          · rw [if_pos (Or.inl k2)] at h; exact h
          · rw [if_pos (Or.inr k6)] at h; exact h
          · rw [if_neg (fun z => by
              rcases z with z | z
              · exact k2 z
              · exact k6 z)] at h
            exact h
theorem fj_xmeasure {post : Int32 → SX → Prop} (I : eb_Itm C 0 a_kinds a_chars a_mate a_openStack) (hC : C ≤ 64) (hF : fi_F C a_kinds a_chars fn)
    (h : ∀ st wd, (∀ t, t < C → st t = nI (fi_ps (fi_w a_kinds a_chars a_mate fn) t) ∧ wd t = nI (fi_w a_kinds a_chars a_mate fn t)) → post (nI (fi_ps (fi_w a_kinds a_chars a_mate fn) C)) ((nI c), f_length, (nI C), f_depth, f_linkCount, f_runCount, f_openerCount, f_nodes, f_domain, a_source, a_kinds, a_chars, a_mate, a_openStack, a_cellKind, a_group, a_live, a_runLo, a_runHi, a_runChar, a_runSize, a_runGroup, a_runOpens, a_runCloses, a_openers, a_floors, st, wd, a_out, a_nodeOf, a_clash)) : wpX_measure post ((nI c), f_length, (nI C), f_depth, f_linkCount, f_runCount, f_openerCount, f_nodes, f_domain, a_source, a_kinds, a_chars, a_mate, a_openStack, a_cellKind, a_group, a_live, a_runLo, a_runHi, a_runChar, a_runSize, a_runGroup, a_runOpens, a_runCloses, a_openers, a_floors, a_start, a_width, a_out, a_nodeOf, a_clash) := by
  have key : ∀ d i n st wd, i + d = C → d < n → (∀ t, t < i → st t = nI (fi_ps (fi_w a_kinds a_chars a_mate fn) t) ∧ wd t = nI (fi_w a_kinds a_chars a_mate fn t)) → wX_measure_6 post (nI c) f_length (nI C) f_depth f_linkCount f_runCount f_openerCount f_nodes f_domain n (nI (fi_ps (fi_w a_kinds a_chars a_mate fn) i)) (ea_b (fi_ic a_kinds i)) (nI i) a_source a_kinds a_chars a_mate a_openStack a_cellKind a_group a_live a_runLo a_runHi a_runChar a_runSize a_runGroup a_runOpens a_runCloses a_openers a_floors st wd a_out a_nodeOf a_clash := by
    intro d
    induction d with
    | zero =>
      intro i n st wd h1 h2 h3
      obtain ⟨n, rfl⟩ : ∃ z, n = z + 1 := ⟨n - 1, by omega⟩
      have e : i = C := by omega
      subst e
      exact br_t (nI_le (Nat.le_refl _) (by omega)) (h st wd h3)
    | succ d ih =>
      intro i n st wd h1 h2 h3
      obtain ⟨n, rfl⟩ : ∃ z, n = z + 1 := ⟨n - 1, by omega⟩
      have ci : (nI i).toNatClampNeg = i := nI_clamp (by omega)
      have vi : vp_in (nI i) 64 := vp_in_nI (by omega) (by omega)
      have m39 : ∀ b : Bool, b = fi_ic a_kinds (i + 1) → wX_measure_39 post (wX_measure_6 post (nI c) f_length (nI C) f_depth f_linkCount f_runCount f_openerCount f_nodes f_domain n) (nI (fi_ps (fi_w a_kinds a_chars a_mate fn) i)) (ea_b b) (nI i) (nI c) f_length (nI C) f_depth f_linkCount f_runCount f_openerCount f_nodes f_domain a_source a_kinds a_chars a_mate a_openStack a_cellKind a_group a_live a_runLo a_runHi a_runChar a_runSize a_runGroup a_runOpens a_runCloses a_openers a_floors st wd a_out a_nodeOf a_clash := by
        intro b hb
        subst hb
        refine ⟨vi, nm_r (e' := upd st i (nI (fi_ps (fi_w a_kinds a_chars a_mate fn) i))) (by rw [ci]) (fj_xw I hC hF (by omega) (fun p hp k3 => ?_) ⟨vi, nm_r (e' := upd wd i (nI (fi_w a_kinds a_chars a_mate fn i))) (by rw [ci]) ⟨vi, nm_r (e' := nI (fi_ps (fi_w a_kinds a_chars a_mate fn) (i + 1))) ?_ (nm_r (nI_1 i) (ih (i + 1) n _ _ (by omega) (by omega) (fun t ht => ?_)))⟩⟩)⟩
        · rw [(h3 p hp).2]
          unfold fi_w
          rw [if_neg (by rw [k3]; decide), if_pos k3]
        · rw [ci, ea_us, nI_add]; rfl
        · by_cases e : t = i
          · subst e; rw [ea_us, ea_us]; exact ⟨rfl, rfl⟩
          · rw [ea_un e, ea_un e]; exact h3 t (by omega)
      have eic : fi_ic a_kinds (i + 1) = (if a_kinds i = 3 then true else if a_kinds i = 7 then false else fi_ic a_kinds i) := rfl
      refine br_f (nI_ge (by omega) (by omega)) ⟨vi, ?_⟩
      rw [ci]
      refine br_c (fun a => ?_) (fun a => ?_)
      · refine ⟨vi, br_f (by rw [ci, a]; decide) (m39 true ?_)⟩
        rw [eic, if_pos a]
      · refine ⟨vi, ?_⟩
        rw [ci]
        refine br_c (fun b => m39 false ?_) (fun b => m39 _ ?_)
        · rw [eic, if_neg a, if_pos b]
        · rw [eic, if_neg a, if_neg b]
  exact ⟨_, key C 0 (C + 1) a_start a_width (by omega) (by omega) (fun t ht => by omega)⟩
theorem fj_xfill {post : SX → Prop} {i s w : Nat} {ch : Int32} (hi : i < 64) (h1 : a_start i = nI s) (h2 : a_width i = nI w) (hs : s + w ≤ 64) (h : post ((nI c), f_length, (nI C), f_depth, f_linkCount, f_runCount, f_openerCount, f_nodes, f_domain, a_source, a_kinds, a_chars, a_mate, a_openStack, a_cellKind, a_group, a_live, a_runLo, a_runHi, a_runChar, a_runSize, a_runGroup, a_runOpens, a_runCloses, a_openers, a_floors, a_start, a_width, (ee_fill a_out s (s + w) ch), a_nodeOf, a_clash)) : wpX_fill post ((nI c), f_length, (nI C), f_depth, f_linkCount, f_runCount, f_openerCount, f_nodes, f_domain, a_source, a_kinds, a_chars, a_mate, a_openStack, a_cellKind, a_group, a_live, a_runLo, a_runHi, a_runChar, a_runSize, a_runGroup, a_runOpens, a_runCloses, a_openers, a_floors, a_start, a_width, a_out, a_nodeOf, a_clash) (nI i) ch := by
  have ci : (nI i).toNatClampNeg = i := nI_clamp (by omega)
  have vi : vp_in (nI i) 64 := vp_in_nI (by omega) (by omega)
  have key : ∀ d k n, k + d = s + w → s ≤ k → d < n → wX_fill_22 post ch (nI (s + w)) (nI c) f_length (nI C) f_depth f_linkCount f_runCount f_openerCount f_nodes f_domain n (nI k) a_source a_kinds a_chars a_mate a_openStack a_cellKind a_group a_live a_runLo a_runHi a_runChar a_runSize a_runGroup a_runOpens a_runCloses a_openers a_floors a_start a_width (ee_fill a_out s k ch) a_nodeOf a_clash := by
    intro d
    induction d with
    | zero =>
      intro k n h3 h4 h5
      obtain ⟨n, rfl⟩ : ∃ z, n = z + 1 := ⟨n - 1, by omega⟩
      have e : k = s + w := by omega
      subst e
      exact br_t (nI_le (Nat.le_refl _) (by omega)) h
    | succ d ih =>
      intro k n h3 h4 h5
      obtain ⟨n, rfl⟩ : ∃ z, n = z + 1 := ⟨n - 1, by omega⟩
      exact br_f (nI_ge (by omega) (by omega)) ⟨vp_in_nI (by omega) (by omega), nm_r (e' := ee_fill a_out s (k + 1) ch) (by rw [nI_clamp (by omega : k < 2 ^ 31)]; exact ee_fill_s h4) (nm_r (nI_1 k) (ih (k + 1) n (by omega) (by omega) (by omega)))⟩
  refine ⟨vi, vi, nm_r (e' := nI (s + w)) (by rw [ci, h1, h2, nI_add]) ⟨vi, nm_r (e' := nI s) (by rw [ci]; exact h1) ⟨w + 1, ?_⟩⟩⟩
  have q := key w s (w + 1) (by omega) (by omega) (by omega)
  rw [ee_fill_0] at q
  exact q
theorem fj_xwrite {post : SX → Prop} {i s : Nat} {w : Nat → Nat} (hi : i < 64) (hw : w = fi_w a_kinds a_chars a_mate fn) (h1 : a_start i = nI s) (h2 : a_width i = nI (w i)) (hs : s + w i ≤ 64)
    (h : ∀ o', (∀ d, d < w i → o' (s + d) = fi_tx a_kinds a_chars w (fun _ => 42) i d) → (∀ x, x < s ∨ s + w i ≤ x → o' x = a_out x) → post ((nI c), f_length, (nI C), f_depth, f_linkCount, f_runCount, f_openerCount, f_nodes, f_domain, a_source, a_kinds, a_chars, a_mate, a_openStack, a_cellKind, a_group, a_live, a_runLo, a_runHi, a_runChar, a_runSize, a_runGroup, a_runOpens, a_runCloses, a_openers, a_floors, a_start, a_width, o', a_nodeOf, a_clash)) : wpX_writeItem post ((nI c), f_length, (nI C), f_depth, f_linkCount, f_runCount, f_openerCount, f_nodes, f_domain, a_source, a_kinds, a_chars, a_mate, a_openStack, a_cellKind, a_group, a_live, a_runLo, a_runHi, a_runChar, a_runSize, a_runGroup, a_runOpens, a_runCloses, a_openers, a_floors, a_start, a_width, a_out, a_nodeOf, a_clash) (nI i) := by
  have ci : (nI i).toNatClampNeg = i := nI_clamp (by omega)
  have vi : vp_in (nI i) 64 := vp_in_nI (by omega) (by omega)
  have wi : w i = fi_w a_kinds a_chars a_mate fn i := by rw [hw]
  unfold fi_w at wi
  refine ⟨vi, nm_r (e' := nI s) (by rw [ci]; exact h1) ⟨vi, nm_r (e' := a_kinds i) (by rw [ci]) (br_c (fun k0 => ?_) (fun k0 => ?_))⟩⟩
  · rw [if_pos k0] at wi
    have w12 : w i = 1 ∨ w i = 2 := by rw [wi]; split <;> omega
    rw [ci, h2, nI_add, ea_s (by omega), nI_clamp (by omega : s < 2 ^ 31), nI_clamp (by omega : s + w i - 1 < 2 ^ 31)]
    refine ⟨vp_in_nI (by omega) (by omega), nm_e ⟨vi, vi, vp_in_nI (by omega) (by omega), nm_e (h _ (fun d hd => ?_) (fun x hx => ?_))⟩⟩
    · unfold fi_tx
      rw [if_pos k0]
      by_cases z : w i = 2 ∧ d = 0
      · rw [if_pos z, ea_un (by omega), z.2]; exact ea_us
      · rw [if_neg z, show s + d = s + w i - 1 by omega]; exact ea_us
    · rw [ea_un (by omega), ea_un (by omega)]
  · rw [if_neg k0] at wi
    have fl96 : (a_kinds i = 3 ∨ a_kinds i = 7) → wX_writeItem_61 post (nI i) (nI c) f_length (nI C) f_depth f_linkCount f_runCount f_openerCount f_nodes f_domain a_source a_kinds a_chars a_mate a_openStack a_cellKind a_group a_live a_runLo a_runHi a_runChar a_runSize a_runGroup a_runOpens a_runCloses a_openers a_floors a_start a_width a_out a_nodeOf a_clash := by
      intro k37
      refine fj_xfill hi h1 h2 hs (h _ (fun d hd => ?_) (fun x hx => ee_fill_out (by omega)))
      rw [ee_fill_in (by omega) (by omega)]
      unfold fi_tx
      rw [if_neg k0, if_pos k37]
    refine br_c (fun k3 => fl96 (Or.inl k3)) (fun k3 => br_c (fun k7 => fl96 (Or.inr k7)) (fun k7 => ?_))
    have n37 : ¬ (a_kinds i = 3 ∨ a_kinds i = 7) := fun z => by
      rcases z with z | z
      · exact k3 z
      · exact k7 z
    rw [if_neg k3, if_neg k7] at wi
    refine br_c (fun k4 => ?_) (fun k4 => br_c (fun k8 => ?_) (fun k8 => ?_))
    · rw [if_neg (by rw [k4]; decide), if_neg (by rw [k4]; decide)] at wi
      rw [nI_clamp (by omega : s < 2 ^ 31)]
      refine ⟨vp_in_nI (by omega) (by omega), nm_e (h _ (fun d hd => ?_) (fun x hx => ea_un (by omega)))⟩
      have : d = 0 := by omega
      subst this
      unfold fi_tx
      rw [if_neg k0, if_neg n37, if_pos k4]; exact ea_us
    · rw [if_pos k8] at wi
      rw [nI_1 s, ea_2 s, ea_3 s, ci, nI_clamp (by omega : s < 2 ^ 31), nI_clamp (by omega : s + 1 < 2 ^ 31), nI_clamp (by omega : s + 2 < 2 ^ 31), nI_clamp (by omega : s + 3 < 2 ^ 31)]
      refine ⟨vp_in_nI (by omega) (by omega), nm_e ⟨vp_in_nI (by omega) (by omega), nm_e ⟨vi, vp_in_nI (by omega) (by omega), nm_e ⟨vp_in_nI (by omega) (by omega), nm_e (h _ (fun d hd => ?_) (fun x hx => ?_))⟩⟩⟩⟩
      · unfold fi_tx
        rw [if_neg k0, if_neg n37, if_neg k4, if_pos k8]
        have : d = 0 ∨ d = 1 ∨ d = 2 ∨ d = 3 := by omega
        rcases this with z | z | z | z <;> subst z
        · rw [if_pos rfl, ea_un (by omega), ea_un (by omega), ea_un (by omega)]; exact ea_us
        · rw [if_neg (by decide), if_pos rfl, ea_un (by omega), ea_un (by omega)]; exact ea_us
        · rw [if_neg (by decide), if_neg (by decide), if_pos rfl, ea_un (by omega)]; exact ea_us
        · rw [if_neg (by decide), if_neg (by decide), if_neg (by decide)]; exact ea_us
      · rw [ea_un (by omega), ea_un (by omega), ea_un (by omega), ea_un (by omega)]
    · refine fj_xfill hi h1 h2 hs (h _ (fun d hd => ?_) (fun x hx => ee_fill_out (by omega)))
      rw [ee_fill_in (by omega) (by omega)]
      unfold fi_tx
      rw [if_neg k0, if_neg n37, if_neg k4, if_neg k8]
theorem fj_xwall {post : Int32 → SX → Prop} {w : Nat → Nat} {x1 : Int32} (hC : C ≤ 64) (hw : w = fi_w a_kinds a_chars a_mate fn) (hT : fi_ps w C ≤ 64) (hs : ∀ t, t < C → a_start t = nI (fi_ps w t) ∧ a_width t = nI (w t))
    (h : ∀ n o', (∀ i, i < C → ∀ d, d < w i → o' (fi_ps w i + d) = fi_tx a_kinds a_chars w (fun _ => 42) i d) → wX_print_54 post x1 (n + 1) (nI C) (nI c) f_length (nI C) f_depth f_linkCount f_runCount f_openerCount f_nodes f_domain a_source a_kinds a_chars a_mate a_openStack a_cellKind a_group a_live a_runLo a_runHi a_runChar a_runSize a_runGroup a_runOpens a_runCloses a_openers a_floors a_start a_width o' a_nodeOf a_clash) :
    ∃ n, wX_print_54 post x1 n 0 (nI c) f_length (nI C) f_depth f_linkCount f_runCount f_openerCount f_nodes f_domain a_source a_kinds a_chars a_mate a_openStack a_cellKind a_group a_live a_runLo a_runHi a_runChar a_runSize a_runGroup a_runOpens a_runCloses a_openers a_floors a_start a_width a_out a_nodeOf a_clash := by
  have key : ∀ d i n o', i + d = C → d < n → (∀ t, t < i → ∀ d, d < w t → o' (fi_ps w t + d) = fi_tx a_kinds a_chars w (fun _ => 42) t d) → wX_print_54 post x1 n (nI i) (nI c) f_length (nI C) f_depth f_linkCount f_runCount f_openerCount f_nodes f_domain a_source a_kinds a_chars a_mate a_openStack a_cellKind a_group a_live a_runLo a_runHi a_runChar a_runSize a_runGroup a_runOpens a_runCloses a_openers a_floors a_start a_width o' a_nodeOf a_clash := by
    intro d
    induction d with
    | zero =>
      intro i n o' h1 h2 h3
      obtain ⟨n, rfl⟩ : ∃ z, n = z + 1 := ⟨n - 1, by omega⟩
      have e : i = C := by omega
      subst e
      exact h n o' h3
    | succ d ih =>
      intro i n o' h1 h2 h3
      obtain ⟨n, rfl⟩ : ∃ z, n = z + 1 := ⟨n - 1, by omega⟩
      have pl := fi_ps_lt (w := w) (by omega : i < C)
      refine br_f (nI_ge (by omega) (by omega)) (fj_xwrite (s := fi_ps w i) (by omega) hw (hs i (by omega)).1 (hs i (by omega)).2 (by omega) (fun o2 q1 q2 => nm_r (nI_1 i) (ih (i + 1) n o2 (by omega) (by omega) (fun t ht d hd => ?_))))
      by_cases e : t = i
      · subst e; exact q1 d hd
      · have := fi_ps_lt (w := w) (by omega : t < i)
        rw [q2 _ (by omega)]
        exact h3 t (by omega) d hd
  exact ⟨_, key C 0 (C + 1) a_out (by omega) (by omega) (fun t ht => by omega)⟩
end FJ
end
section
/-! print: Y's write -/
def fk_pw (W : Nat → Int32) (q n : Nat) (f : Nat → Int32) : Nat → Int32 := fun x => if q ≤ x ∧ x < q + n ∧ x < 1024 then f (x - q) else W x
theorem fk_pw_0 {W : Nat → Int32} {q : Nat} {f : Nat → Int32} : fk_pw W q 0 f = W := by
  funext x
  unfold fk_pw
  rw [if_neg (by omega)]
theorem fk_pw_c {W : Nat → Int32} {q n m : Nat} {f g : Nat → Int32} : fk_pw (fk_pw W q n f) (min 1024 (q + n)) m g = fk_pw W q (n + m) (fun d => if d < n then f d else g (d - n)) := by
  funext x
  unfold fk_pw
  by_cases a : min 1024 (q + n) ≤ x ∧ x < min 1024 (q + n) + m ∧ x < 1024
  · rw [if_pos a, if_pos (by omega)]
    dsimp only
    rw [if_neg (by omega)]
    congr 1
    omega
  · rw [if_neg a]
    by_cases b : q ≤ x ∧ x < q + n ∧ x < 1024
    · rw [if_pos b, if_pos (by omega)]
      dsimp only
      rw [if_pos (by omega)]
    · rw [if_neg b, if_neg (by omega)]
theorem fk_pw_e {W : Nat → Int32} {q n : Nat} {f g : Nat → Int32} (h : ∀ d, d < n → f d = g d) : fk_pw W q n f = fk_pw W q n g := by
  funext x
  unfold fk_pw
  by_cases a : q ≤ x ∧ x < q + n ∧ x < 1024
  · rw [if_pos a, if_pos a]; exact h _ (by omega)
  · rw [if_neg a, if_neg a]
def fk_nn (K M : Nat → Int32) (i : Nat) : Nat := if fe_em (K i) = true then fe_nc K i else fe_nc K (M i).toNatClampNeg
def fk_mk (K M : Nat → Int32) (σ : Nat → Bool) (i : Nat) : Int32 := if (fe_em (K i) || fe_ec (K i)) = true then (if σ (fk_nn K M i) = true then 95 else 42) else 0
theorem fk_bt {s d : Nat} (hd : d < 32) : bt (nI s) d = s.testBit d := by
  show (BitVec.ofNat 32 s).getLsbD d = _
  rw [BitVec.getLsbD_ofNat]
  simp [hd]
abbrev fk_J : Type := Int32 → Int32 → Int32 → Int32 → Int32 → Int32 → Int32 → (Nat → Int32) → (Nat → Int32) → (Nat → Int32) → (Nat → Int32) → (Nat → Int32) → (Nat → Int32) → (Nat → Int32) → (Nat → Int32) → (Nat → Int32) → (Nat → Int32) → (Nat → Int32) → (Nat → Int32) → (Nat → Int32) → (Nat → Int32) → (Nat → Int32) → Prop
section FK
variable {a_kinds a_chars a_mate a_openStack : Nat → Int32} {g_srcLen : Int32} {b_src b_w b_pos b_till b_mark b_out b_group b_flag b_len b_lo b_hi b_live b_dropped : Nat → Int32} {c C : Nat} {fn : Nat → Nat}
theorem fk_yput {post : SY → Prop} {q : Nat} {ch : Int32} (hq : q ≤ 1024) (h : post ((nI c), g_srcLen, (nI C), (nI (min 1024 (q + 1))), b_src, a_kinds, a_chars, (fk_pw b_w q 1 (fun _ => ch)), b_pos, b_till, b_mark, b_out, b_group, b_flag, b_len, b_lo, b_hi, b_live, b_dropped)) : wpY_put post ((nI c), g_srcLen, (nI C), (nI q), b_src, a_kinds, a_chars, b_w, b_pos, b_till, b_mark, b_out, b_group, b_flag, b_len, b_lo, b_hi, b_live, b_dropped) ch := by
  by_cases z : q = 1024
  · subst z
    have e : fk_pw b_w 1024 1 (fun _ => ch) = b_w := by
      funext x
      unfold fk_pw
      rw [if_neg (by omega)]
    rw [e] at h
    exact br_t (nI_le (a := 1024) (Nat.le_refl _) (by omega)) h
  · have e : fk_pw b_w q 1 (fun _ => ch) = upd b_w q ch := by
      funext x
      unfold fk_pw
      by_cases w : x = q
      · subst w; rw [if_pos (by omega), ea_us]
      · rw [if_neg (by omega), ea_un w]
    rw [e, show min 1024 (q + 1) = q + 1 by omega] at h
    exact br_f (nI_ge (b := 1024) (by omega) (by omega)) ⟨vp_in_nI (by omega) (by omega), nm_r (e' := upd b_w q ch) (by rw [nI_clamp (by omega : q < 2 ^ 31)]) (nm_r (nI_1 q) h)⟩
theorem fk_y310 {post : SY → Prop} {J : fk_J} {x1 x2 x3 x5 ch : Int32} {i q t : Nat} (hi : i < 64) (hq : q ≤ 1024) (ht : t ≤ 64)
    (h : J x3 (nI (i + 1)) x5 (nI c) g_srcLen (nI C) (nI (min 1024 (q + t))) b_src a_kinds a_chars (fk_pw b_w q t (fun _ => ch)) b_pos (upd b_till i (nI (min 1024 (q + t)))) b_mark b_out b_group b_flag b_len b_lo b_hi b_live b_dropped) : ∃ n, wY_write_310 post J x1 x2 x3 (nI i) x5 ch (nI t) n 0 (nI c) g_srcLen (nI C) (nI q) b_src a_kinds a_chars b_w b_pos b_till b_mark b_out b_group b_flag b_len b_lo b_hi b_live b_dropped := by
  have key : ∀ d k n, k + d = t → d < n → wY_write_310 post J x1 x2 x3 (nI i) x5 ch (nI t) n (nI k) (nI c) g_srcLen (nI C) (nI (min 1024 (q + k))) b_src a_kinds a_chars (fk_pw b_w q k (fun _ => ch)) b_pos b_till b_mark b_out b_group b_flag b_len b_lo b_hi b_live b_dropped := by
    intro d
    induction d with
    | zero =>
      intro k n h1 h2
      obtain ⟨n, rfl⟩ : ∃ z, n = z + 1 := ⟨n - 1, by omega⟩
      have e : k = t := by omega
      subst e
      exact br_t (nI_le (Nat.le_refl _) (by omega)) ⟨vp_in_nI (by omega) (by omega), nm_r (e' := upd b_till i (nI (min 1024 (q + k)))) (by rw [nI_clamp (by omega : i < 2 ^ 31)]) (nm_r (nI_1 i) h)⟩
    | succ d ih =>
      intro k n h1 h2
      obtain ⟨n, rfl⟩ : ∃ z, n = z + 1 := ⟨n - 1, by omega⟩
      refine br_f (nI_ge (by omega) (by omega)) (fk_yput (by omega) (nm_r (nI_1 k) ?_))
      have r := ih (k + 1) n (by omega) (by omega)
      have e1 : min 1024 (min 1024 (q + k) + 1) = min 1024 (q + (k + 1)) := by omega
      have e2 : fk_pw (fk_pw b_w q k (fun _ => ch)) (min 1024 (q + k)) 1 (fun _ => ch) = fk_pw b_w q (k + 1) (fun _ => ch) := by
        rw [fk_pw_c]
        exact fk_pw_e (fun d _ => by split <;> rfl)
      rw [e1, e2]
      exact r
  have r := key t 0 (t + 1) (by omega) (by omega)
  rw [fk_pw_0, show min 1024 (q + 0) = q by omega] at r
  exact ⟨_, r⟩
theorem fk_y288 {post : SY → Prop} {J : fk_J} {x1 x2 x3 x5 x7 v : Int32} {i q t : Nat} (hi : i < 64) (hq : q ≤ 1024) (ht : t ≤ 64) (hm : b_mark i = v)
    (h : J x3 (nI (i + 1)) x5 (nI c) g_srcLen (nI C) (nI (min 1024 (q + t))) b_src a_kinds a_chars (fk_pw b_w q t (fun _ => if v = 0 then x7 else v)) b_pos (upd b_till i (nI (min 1024 (q + t)))) b_mark b_out b_group b_flag b_len b_lo b_hi b_live b_dropped) : wY_write_288 post J x1 x2 x3 (nI i) x5 x7 (nI t) (nI c) g_srcLen (nI C) (nI q) b_src a_kinds a_chars b_w b_pos b_till b_mark b_out b_group b_flag b_len b_lo b_hi b_live b_dropped := by
  have ci : (nI i).toNatClampNeg = i := nI_clamp (by omega)
  have vi : vp_in (nI i) 64 := vp_in_nI (by omega) (by omega)
  unfold wY_write_288
  rw [ci, hm]
  refine ⟨vi, br_c (fun a => ?_) (fun a => ⟨vi, nm_e ?_⟩)⟩
  · simp only [a, if_true] at h
    exact fk_y310 hi hq ht h
  · simp only [a, if_false] at h
    exact fk_y310 hi hq ht h
theorem fk_y212c {post : SY → Prop} {J : fk_J} {x1 x2 x3 x5 k x7 x8 : Int32} {i q t : Nat} (hi : i < 64) (hq : q ≤ 1024) (ht : t ≤ 64) (hm : b_mark i = 0) (h1 : fe_em k = false) (h2 : fe_ec k = false)
    (h : J x3 (nI (i + 1)) x5 (nI c) g_srcLen (nI C) (nI (min 1024 (q + t))) b_src a_kinds a_chars (fk_pw b_w q t (fun _ => x7)) b_pos (upd b_till i (nI (min 1024 (q + t)))) b_mark b_out b_group b_flag b_len b_lo b_hi b_live b_dropped) : wY_write_212 post J x1 x2 x3 (nI i) x5 k x7 x8 (nI t) (nI c) g_srcLen (nI C) (nI q) b_src a_kinds a_chars b_w b_pos b_till b_mark b_out b_group b_flag b_len b_lo b_hi b_live b_dropped := by
  have h1 := of_decide_eq_false h1
  have h2 := of_decide_eq_false h2
  exact br_f (fun z => h1 (Or.inl z)) (br_f (fun z => h1 (Or.inr z)) (br_f (fun z => h2 (Or.inl z)) (br_f (fun z => h2 (Or.inr z)) (fk_y288 hi hq ht hm h))))
theorem fk_y212a {post : SY → Prop} {J : fk_J} {x3 k x7 x8 : Int32} {i q t s m n : Nat} (hi : i < 64) (hq : q ≤ 1024) (ht : t ≤ 64) (h1 : fe_em k = true) (hn : n < m) (hm : m ≤ 6)
    (h : J x3 (nI (i + 1)) (nI (n + 1)) (nI c) g_srcLen (nI C) (nI (min 1024 (q + t))) b_src a_kinds a_chars (fk_pw b_w q t (fun _ => if s.testBit (m - 1 - n) = true then 95 else 42)) b_pos (upd b_till i (nI (min 1024 (q + t)))) (upd b_mark i (if s.testBit (m - 1 - n) = true then 95 else 42)) b_out b_group b_flag b_len b_lo b_hi b_live b_dropped) : wY_write_212 post J (nI s) (nI m) x3 (nI i) (nI n) k x7 x8 (nI t) (nI c) g_srcLen (nI C) (nI q) b_src a_kinds a_chars b_w b_pos b_till b_mark b_out b_group b_flag b_len b_lo b_hi b_live b_dropped := by
  have ci : (nI i).toNatClampNeg = i := nI_clamp (by omega)
  have vi : vp_in (nI i) 64 := vp_in_nI (by omega) (by omega)
  have ec : ¬ (k = 5) ∧ ¬ (k = 6) := by
    have := of_decide_eq_true h1
    rcases this with z | z <;> subst z <;> exact ⟨by decide, by decide⟩
  have fin : ∀ v, v = (if s.testBit (m - 1 - n) = true then (95 : Int32) else 42) → wY_write_251 post J (nI s) (nI m) x3 (nI i) (nI (n + 1)) k x7 x8 (nI t) v (nI i) (nI c) g_srcLen (nI C) (nI q) b_src a_kinds a_chars b_w b_pos b_till b_mark b_out b_group b_flag b_len b_lo b_hi b_live b_dropped := by
    intro v hv
    have v0 : ¬ v = 0 := by rw [hv]; split <;> decide
    rw [← hv] at h
    refine ⟨vi, nm_r (e' := upd b_mark i v) (by rw [ci]) (br_f ec.1 (br_f ec.2 (fk_y288 (v := v) hi hq ht ea_us ?_)))⟩
    simp only [v0, if_false]
    exact h
  have w224 : wY_write_224 post J (nI s) (nI m) x3 (nI i) (nI n) k x7 x8 (nI t) (nI c) g_srcLen (nI C) (nI q) b_src a_kinds a_chars b_w b_pos b_till b_mark b_out b_group b_flag b_len b_lo b_hi b_live b_dropped := by
    refine nm_r (nI_1 n) ?_
    rw [pk_sub (by omega : n + 1 ≤ m), show m - (n + 1) = m - 1 - n by omega]
    refine br_c (fun a => fin 42 ?_) (fun a => fin 95 ?_)
    · rw [fe_sh32 _ (by omega), fk_bt (by omega)] at a
      rw [a]; rfl
    · rw [fe_sh32 _ (by omega), fk_bt (by omega)] at a
      cases z : s.testBit (m - 1 - n)
      · exact absurd z a
      · rfl
  exact br_c (fun a => w224) (fun a => br_t (by
    have := of_decide_eq_true h1
    rcases this with z | z
    · exact absurd z a
    · exact z) w224)
theorem fk_y212b {post : SY → Prop} {J : fk_J} {x1 x2 x3 x5 k x7 v : Int32} {i q t p : Nat} (hi : i < 64) (hq : q ≤ 1024) (ht : t ≤ 64) (h1 : fe_em k = false) (h2 : fe_ec k = true) (hp : p < 64) (hm : b_mark p = v) (hv : ¬ v = 0)
    (h : J x3 (nI (i + 1)) x5 (nI c) g_srcLen (nI C) (nI (min 1024 (q + t))) b_src a_kinds a_chars (fk_pw b_w q t (fun _ => v)) b_pos (upd b_till i (nI (min 1024 (q + t)))) (upd b_mark i v) b_out b_group b_flag b_len b_lo b_hi b_live b_dropped) : wY_write_212 post J x1 x2 x3 (nI i) x5 k x7 (nI p) (nI t) (nI c) g_srcLen (nI C) (nI q) b_src a_kinds a_chars b_w b_pos b_till b_mark b_out b_group b_flag b_len b_lo b_hi b_live b_dropped := by
  have ci : (nI i).toNatClampNeg = i := nI_clamp (by omega)
  have vi : vp_in (nI i) 64 := vp_in_nI (by omega) (by omega)
  have h1 := of_decide_eq_false h1
  have w265 : wY_write_265 post J x1 x2 x3 (nI i) x5 x7 (nI p) (nI t) (nI c) g_srcLen (nI C) (nI q) b_src a_kinds a_chars b_w b_pos b_till b_mark b_out b_group b_flag b_len b_lo b_hi b_live b_dropped := by
    refine br_t (ea_0le (by omega)) ⟨vp_in_nI (by omega) (by omega), ?_⟩
    rw [nI_clamp (by omega : p < 2 ^ 31), hm]
    refine ⟨vi, nm_r (e' := upd b_mark i v) (by rw [ci]) (fk_y288 (v := v) hi hq ht ea_us ?_)⟩
    simp only [hv, if_false]
    exact h
  refine br_f (fun z => h1 (Or.inl z)) (br_f (fun z => h1 (Or.inr z)) (br_c (fun a => w265) (fun a => br_t ?_ w265)))
  have := of_decide_eq_true h2
  rcases this with z | z
  · exact absurd z a
  · exact z
/-- one item -/
theorem fk_yitem {post : SY → Prop} {J : fk_J} {i q s m : Nat} {w : Nat → Nat} (I : eb_Itm C 0 a_kinds a_chars a_mate a_openStack) (hC : C ≤ 64) (hF : fi_F C a_kinds a_chars fn) (hw : w = fi_w a_kinds a_chars a_mate fn) (hi : i < C) (hq : q ≤ 1024) (hm : fe_nc a_kinds C = m) (hm6 : m ≤ 6)
    (hmk : ∀ t, t < i → b_mark t = fk_mk a_kinds a_mate (fun n => s.testBit (m - 1 - n)) t)
    (h : J (ea_b (fi_ic a_kinds (i + 1))) (nI (i + 1)) (nI (fe_nc a_kinds (i + 1))) (nI c) g_srcLen (nI C) (nI (min 1024 (q + w i))) b_src a_kinds a_chars (fk_pw b_w q (w i) (fi_tx a_kinds a_chars w (fk_mk a_kinds a_mate (fun n => s.testBit (m - 1 - n))) i)) (upd b_pos i (nI q)) (upd b_till i (nI (min 1024 (q + w i)))) (upd b_mark i (fk_mk a_kinds a_mate (fun n => s.testBit (m - 1 - n)) i)) b_out b_group b_flag b_len b_lo b_hi b_live b_dropped) :
    ∀ t, ((a_kinds i = 2 ∨ a_kinds i = 6) ∧ t = 2) ∨ (¬ (a_kinds i = 2 ∨ a_kinds i = 6) ∧ t = 1) → wY_write_66 post J (nI s) (nI m) (ea_b (fi_ic a_kinds i)) (nI i) (nI (fe_nc a_kinds i)) (a_kinds i) (a_chars i) (a_mate i) (nI t) (nI c) g_srcLen (nI C) (nI q) b_src a_kinds a_chars b_w b_pos b_till b_mark b_out b_group b_flag b_len b_lo b_hi b_live b_dropped := by
  intro t htt
  have ci : (nI i).toNatClampNeg = i := nI_clamp (by omega)
  have vi : vp_in (nI i) 64 := vp_in_nI (by omega) (by omega)
  have wb := fi_w_b I hC hF hi
  have wi : w i = fi_w a_kinds a_chars a_mate fn i := by rw [hw]
  rw [← wi] at wb
  unfold fi_w at wi
  have t1 : t ≤ 2 := by omega
  -- the name of the goal's end
  have uu : ∀ v, upd (upd b_mark i 0) i v = upd b_mark i v := fun v => ep_uu
  have ic3 : ¬ a_kinds i = 3 → ¬ a_kinds i = 7 → fi_ic a_kinds (i + 1) = fi_ic a_kinds i := fun a b => by
    show (if a_kinds i = 3 then true else if a_kinds i = 7 then false else fi_ic a_kinds i) = _
    rw [if_neg a, if_neg b]
  unfold wY_write_66
  rw [ci]
  refine ⟨vi, nm_e ⟨vi, nm_e ?_⟩⟩
  rcases I.2.1 i hi with ⟨k0, hok⟩ | ⟨kk, h0⟩ | ⟨k8, hal⟩
  · -- text
    have em : fe_em (a_kinds i) = false := by rw [k0]; decide
    have ecf : fe_ec (a_kinds i) = false := by rw [k0]; decide
    have mk0 : fk_mk a_kinds a_mate (fun n => s.testBit (m - 1 - n)) i = 0 := by
      unfold fk_mk; rw [em, ecf]; rfl
    have te : t = 1 := by
      rcases htt with ⟨z, _⟩ | ⟨_, z⟩
      · rw [k0] at z; exact absurd z (by decide)
      · exact z
    subst te
    rw [ic3 (by rw [k0]; decide) (by rw [k0]; decide), fe_nc_n em, mk0] at h
    rw [if_pos k0] at wi
    -- the rest behind a possible backslash
    have w111 : ∀ (q' : Nat) (W' : Nat → Int32), q' ≤ 1024 → (min 1024 (q' + 1) = min 1024 (q + w i)) → fk_pw W' q' 1 (fun _ => a_chars i) = fk_pw b_w q (w i) (fi_tx a_kinds a_chars w (fk_mk a_kinds a_mate (fun n => s.testBit (m - 1 - n))) i) →
        wY_write_111 post J (nI s) (nI m) (ea_b (fi_ic a_kinds i)) (nI i) (nI (fe_nc a_kinds i)) (a_kinds i) (a_chars i) (a_mate i) (nI 1) (nI c) g_srcLen (nI C) (nI q') b_src a_kinds a_chars W' (upd b_pos i (nI q)) b_till (upd b_mark i 0) b_out b_group b_flag b_len b_lo b_hi b_live b_dropped := by
      intro q' W' b1 b2 b3
      have r : ∀ x, a_kinds i = x → ¬ x = 8 → ¬ x = 4 → ¬ x = 3 → ¬ x = 7 → wY_write_111 post J (nI s) (nI m) (ea_b (fi_ic a_kinds i)) (nI i) (nI (fe_nc a_kinds i)) x (a_chars i) (a_mate i) (nI 1) (nI c) g_srcLen (nI C) (nI q') b_src a_kinds a_chars W' (upd b_pos i (nI q)) b_till (upd b_mark i 0) b_out b_group b_flag b_len b_lo b_hi b_live b_dropped := by
        intro x hx n8 n4 n3 n7
        refine br_f n8 (br_f n4 (br_f n8 (br_f n3 (br_f n7 (fk_y212c (by omega) b1 (by omega) ea_us (by rw [← hx]; exact em) (by rw [← hx]; exact ecf) ?_)))))
        rw [b2, b3]
        exact h
      exact r _ rfl (by rw [k0]; decide) (by rw [k0]; decide) (by rw [k0]; decide) (by rw [k0]; decide)
    have tx1 : w i = 1 → ∀ d, d < 1 → (fun _ => a_chars i) d = fi_tx a_kinds a_chars w (fk_mk a_kinds a_mate (fun n => s.testBit (m - 1 - n))) i d := fun e d _ => by
      unfold fi_tx
      rw [if_pos k0, if_neg (by omega)]
    refine br_t k0 (ea_br (fun a => ea_ysp (ea_br (fun b => ?_) (fun b => ?_))) (fun a => ?_))
    · rw [a, b] at wi
      refine w111 q b_w hq (by rw [wi]; rfl) ?_
      rw [wi]; exact fk_pw_e (tx1 wi)
    · rw [a, b] at wi
      have wi : w i = 2 := wi
      refine fk_yput hq (w111 _ _ (by omega) (by rw [wi]; omega) ?_)
      rw [fk_pw_c, wi]
      refine fk_pw_e (fun d hd => ?_)
      unfold fi_tx
      rw [if_pos k0]
      by_cases z : d < 1
      · rw [if_pos z, if_pos ⟨wi, by omega⟩]
      · rw [if_neg z, if_neg (by omega)]
    · rw [a] at wi
      have wi : w i = 1 := wi
      refine w111 q b_w hq (by rw [wi]) ?_
      rw [wi]; exact fk_pw_e (tx1 wi)
  · -- openings and closings but a link's
    have n0 : ¬ a_kinds i = 0 := fun z => by rw [z] at kk; exact absurd kk (by decide)
    have n8 : ¬ a_kinds i = 8 := fun z => by rw [z] at kk; exact absurd kk (by decide)
    rw [if_neg n0] at wi
    refine br_f n0 (br_f n8 ?_)
    by_cases k4 : a_kinds i = 4
    · have em : fe_em (a_kinds i) = false := by rw [k4]; decide
      have ecf : fe_ec (a_kinds i) = false := by rw [k4]; decide
      have mk0 : fk_mk a_kinds a_mate (fun n => s.testBit (m - 1 - n)) i = 0 := by
        unfold fk_mk; rw [em, ecf]; rfl
      have te : t = 1 := by
        rcases htt with ⟨z, _⟩ | ⟨_, z⟩
        · rw [k4] at z; exact absurd z (by decide)
        · exact z
      subst te
      have n3 : ¬ a_kinds i = 3 := by rw [k4]; decide
      have n7 : ¬ a_kinds i = 7 := by rw [k4]; decide
      rw [if_neg n3, if_neg n7, if_neg n8, if_neg (by rw [k4]; decide)] at wi
      rw [ic3 n3 n7, fe_nc_n em, mk0, wi] at h
      refine br_t k4 (br_t k4 (br_f n3 (br_f n7 (fk_y212c (by omega) hq (by omega) ea_us em ecf ?_))))
      have e : fk_pw b_w q 1 (fun _ => 91) = fk_pw b_w q 1 (fi_tx a_kinds a_chars w (fk_mk a_kinds a_mate (fun n => s.testBit (m - 1 - n))) i) := fk_pw_e (fun d _ => by
        unfold fi_tx
        rw [if_neg n0, if_neg (fun z => by
          rcases z with z | z
          · exact n3 z
          · exact n7 z), if_pos k4])
      rw [e]; exact h
    · refine br_f k4 (br_f n8 ?_)
      by_cases k37 : a_kinds i = 3 ∨ a_kinds i = 7
      · -- code
        have em : fe_em (a_kinds i) = false := by rcases k37 with z | z <;> rw [z] <;> decide
        have ecf : fe_ec (a_kinds i) = false := by rcases k37 with z | z <;> rw [z] <;> decide
        have mk0 : fk_mk a_kinds a_mate (fun n => s.testBit (m - 1 - n)) i = 0 := by
          unfold fk_mk; rw [em, ecf]; rfl
        rw [fe_nc_n em, mk0] at h
        have fin : ∀ b : Bool, b = fi_ic a_kinds (i + 1) → wY_write_211 post J (nI s) (nI m) (nI i) (nI (fe_nc a_kinds i)) (a_kinds i) 96 (a_mate i) (nI (w i)) (ea_b b) (nI c) g_srcLen (nI C) (nI q) b_src a_kinds a_chars b_w (upd b_pos i (nI q)) b_till (upd b_mark i 0) b_out b_group b_flag b_len b_lo b_hi b_live b_dropped := by
          intro b hb
          refine fk_y212c (by omega) hq (by omega) ea_us em ecf ?_
          have e : fk_pw b_w q (w i) (fun _ => 96) = fk_pw b_w q (w i) (fi_tx a_kinds a_chars w (fk_mk a_kinds a_mate (fun n => s.testBit (m - 1 - n))) i) := fk_pw_e (fun d _ => by
            unfold fi_tx
            rw [if_neg n0, if_pos k37])
          rw [e, hb]; exact h
        by_cases k3 : a_kinds i = 3
        · rw [if_pos k3] at wi
          obtain ⟨j, m1, p⟩ := fe_closed I hi (by rw [k3]; decide)
          refine br_t k3 (br_t k3 (fh_yfence I hC m1 p.1 p.2.1 (hF i j p k3) (br_t k3 ?_)))
          have r := fin true (by show _ = (if a_kinds i = 3 then true else _); rw [if_pos k3])
          rw [wi] at r
          exact r
        · have k7 : a_kinds i = 7 := by
            rcases k37 with z | z
            · exact absurd z k3
            · exact z
          rw [if_neg k3, if_pos k7] at wi
          obtain ⟨p, m1, p1, p3⟩ := fi_7 I hi k7
          have pi := p1.1
          rw [m1, nI_clamp (by omega : p < 2 ^ 31)] at wi
          obtain ⟨j, m2, p2⟩ := fe_closed I (i := p) (by omega) (by rw [p3]; decide)
          have := eb_Pr_j p1 p2
          subst this
          have r := fin false (by show _ = (if a_kinds i = 3 then true else if a_kinds i = 7 then false else _); rw [if_neg k3, if_pos k7])
          rw [wi, m1] at r
          rw [m1]
          exact br_f k3 (br_t k7 (br_f k3 (fh_yfence I hC m2 pi (by omega) (hF p i p1 p3) (br_f k3 r))))
      · -- markers
        have n3 : ¬ a_kinds i = 3 := fun z => k37 (Or.inl z)
        have n7 : ¬ a_kinds i = 7 := fun z => k37 (Or.inr z)
        rw [if_neg n3, if_neg n7, if_neg n8] at wi
        have wt : w i = t := by
          rcases htt with ⟨z, y⟩ | ⟨z, y⟩
          · rw [if_pos z] at wi; omega
          · rw [if_neg z] at wi; omega
        rw [ic3 n3 n7] at h
        have txm : ∀ v, v = fk_mk a_kinds a_mate (fun n => s.testBit (m - 1 - n)) i → fk_pw b_w q t (fun _ => v) = fk_pw b_w q (w i) (fi_tx a_kinds a_chars w (fk_mk a_kinds a_mate (fun n => s.testBit (m - 1 - n))) i) := fun v hv => by
          rw [wt]
          refine fk_pw_e (fun d _ => ?_)
          unfold fi_tx
          rw [if_neg n0, if_neg k37, if_neg k4, if_neg n8]; exact hv
        refine br_f n3 (br_f n7 ?_)
        by_cases em : fe_em (a_kinds i) = true
        · have mke : fk_mk a_kinds a_mate (fun n => s.testBit (m - 1 - n)) i = if s.testBit (m - 1 - fe_nc a_kinds i) = true then 95 else 42 := by
            unfold fk_mk fk_nn
            rw [em, if_pos rfl]; rfl
          have nl := fe_nc_lt hi em
          refine fk_y212a (by omega) hq (by omega) em (by omega) hm6 ?_
          rw [txm _ mke.symm, ← mke, uu, ← wt, ← fe_nc_s em]
          exact h
        · have em : fe_em (a_kinds i) = false := by
            cases z : fe_em (a_kinds i)
            · rfl
            · exact absurd z em
          have ect : fe_ec (a_kinds i) = true := by
            have := of_decide_eq_false em
            rcases kk with z | z | z | z | z | z | z
            · exact absurd (Or.inl z) this
            · exact absurd (Or.inr z) this
            · exact absurd z n3
            · exact absurd z k4
            · rw [z]; decide
            · rw [z]; decide
            · exact absurd z n7
          obtain ⟨p, m1, p1, p2⟩ := fe_ec_p I hi ect
          have pi := p1.1
          have mke : b_mark p = fk_mk a_kinds a_mate (fun n => s.testBit (m - 1 - n)) i := by
            rw [hmk p pi]
            unfold fk_mk fk_nn
            rw [p2, em, ect, m1, nI_clamp (by omega : p < 2 ^ 31)]
            rfl
          have v0 : ¬ fk_mk a_kinds a_mate (fun n => s.testBit (m - 1 - n)) i = 0 := by
            unfold fk_mk
            rw [em, ect, if_pos (by rfl)]
            split <;> decide
          rw [fe_nc_n em] at h
          rw [m1]
          refine fk_y212b (v := fk_mk a_kinds a_mate (fun n => s.testBit (m - 1 - n)) i) (by omega) hq (by omega) em ect (p := p) (by omega) (by rw [ea_un (by omega)]; exact mke) v0 ?_
          rw [txm _ rfl, uu, ← wt]
          exact h
  · -- a link's close
    have em : fe_em (a_kinds i) = false := by rw [k8]; decide
    have ecf : fe_ec (a_kinds i) = false := by rw [k8]; decide
    have n0 : ¬ a_kinds i = 0 := by rw [k8]; decide
    have n3 : ¬ a_kinds i = 3 := by rw [k8]; decide
    have n7 : ¬ a_kinds i = 7 := by rw [k8]; decide
    have n4 : ¬ a_kinds i = 4 := by rw [k8]; decide
    have mk0 : fk_mk a_kinds a_mate (fun n => s.testBit (m - 1 - n)) i = 0 := by
      unfold fk_mk; rw [em, ecf]; rfl
    have te : t = 1 := by
      rcases htt with ⟨z, _⟩ | ⟨_, z⟩
      · rw [k8] at z; exact absurd z (by decide)
      · exact z
    subst te
    rw [if_neg n0, if_neg n3, if_neg n7, if_pos k8] at wi
    rw [ic3 n3 n7, fe_nc_n em, mk0, wi] at h
    refine br_f n0 (br_t k8 (fk_yput hq (fk_yput (by omega) (fk_yput (by omega) (br_f n4 (br_t k8 (br_f n4 (br_f n3 (br_f n7 (fk_y212c (by omega) (by omega) (by omega) ea_us em ecf ?_))))))))))
    have e1 : min 1024 (min 1024 (min 1024 (min 1024 (q + 1) + 1) + 1) + 1) = min 1024 (q + 4) := by omega
    have e2 : min 1024 (min 1024 (min 1024 (q + 1) + 1) + 1) = min 1024 (q + 3) := by omega
    have e3 : min 1024 (min 1024 (q + 1) + 1) = min 1024 (q + 2) := by omega
    have tx8 : ∀ d, fi_tx a_kinds a_chars w (fk_mk a_kinds a_mate (fun n => s.testBit (m - 1 - n))) i d = if d = 0 then 93 else if d = 1 then 40 else if d = 2 then a_chars i else 41 := fun d => by
      unfold fi_tx
      rw [if_neg n0, if_neg (fun z => by
        rcases z with z | z
        · exact n3 z
        · exact n7 z), if_neg n4, if_pos k8]
    have e : fk_pw (fk_pw (fk_pw (fk_pw b_w q 1 (fun _ => 93)) (min 1024 (q + 1)) 1 (fun _ => 40)) (min 1024 (min 1024 (q + 1) + 1)) 1 (fun _ => a_chars i)) (min 1024 (min 1024 (min 1024 (q + 1) + 1) + 1)) 1 (fun _ => 41) = fk_pw b_w q 4 (fi_tx a_kinds a_chars w (fk_mk a_kinds a_mate (fun n => s.testBit (m - 1 - n))) i) := by
      rw [e2, e3, fk_pw_c]
      show fk_pw (fk_pw (fk_pw b_w q 2 _) (min 1024 (q + 2)) 1 _) (min 1024 (q + 3)) 1 _ = _
      rw [fk_pw_c]
      show fk_pw (fk_pw b_w q 3 _) (min 1024 (q + 3)) 1 _ = _
      rw [fk_pw_c]
      refine fk_pw_e (fun d hd => ?_)
      rw [tx8]
      have : d = 0 ∨ d = 1 ∨ d = 2 ∨ d = 3 := by omega
      rcases this with z | z | z | z <;> subst z <;> rfl
    rw [e1, e]
    exact h
theorem fk_ywrite {post : SY → Prop} {s m : Nat} {w : Nat → Nat} {g_wLen : Int32} (I : eb_Itm C 0 a_kinds a_chars a_mate a_openStack) (hC : C ≤ 64) (hF : fi_F C a_kinds a_chars fn) (hw : w = fi_w a_kinds a_chars a_mate fn) (hm : fe_nc a_kinds C = m) (hm6 : m ≤ 6)
    (h : ∀ W pos till mark, (∀ i, i < C → ∀ d, d < w i → fi_ps w i + d < 1024 → W (fi_ps w i + d) = fi_tx a_kinds a_chars w (fk_mk a_kinds a_mate (fun n => s.testBit (m - 1 - n))) i d) →
      (∀ i, i < C → pos i = nI (min 1024 (fi_ps w i)) ∧ till i = nI (min 1024 (fi_ps w (i + 1))) ∧ mark i = fk_mk a_kinds a_mate (fun n => s.testBit (m - 1 - n)) i) →
      post ((nI c), g_srcLen, (nI C), (nI (min 1024 (fi_ps w C))), b_src, a_kinds, a_chars, W, pos, till, mark, b_out, b_group, b_flag, b_len, b_lo, b_hi, b_live, b_dropped)) : wpY_write post ((nI c), g_srcLen, (nI C), g_wLen, b_src, a_kinds, a_chars, b_w, b_pos, b_till, b_mark, b_out, b_group, b_flag, b_len, b_lo, b_hi, b_live, b_dropped) (nI s) (nI m) := by
  have key : ∀ d i n W pos till mark, i + d = C → d < n → (∀ t, t < i → ∀ d, d < w t → fi_ps w t + d < 1024 → W (fi_ps w t + d) = fi_tx a_kinds a_chars w (fk_mk a_kinds a_mate (fun n => s.testBit (m - 1 - n))) t d) →
      (∀ t, t < i → pos t = nI (min 1024 (fi_ps w t)) ∧ till t = nI (min 1024 (fi_ps w (t + 1))) ∧ mark t = fk_mk a_kinds a_mate (fun n => s.testBit (m - 1 - n)) t) →
      wY_write_13 post (nI s) (nI m) n (ea_b (fi_ic a_kinds i)) (nI i) (nI (fe_nc a_kinds i)) (nI c) g_srcLen (nI C) (nI (min 1024 (fi_ps w i))) b_src a_kinds a_chars W pos till mark b_out b_group b_flag b_len b_lo b_hi b_live b_dropped := by
    intro d
    induction d with
    | zero =>
      intro i n W pos till mark h1 h2 h3 h4
      obtain ⟨n, rfl⟩ : ∃ z, n = z + 1 := ⟨n - 1, by omega⟩
      have e : i = C := by omega
      subst e
      exact br_t (nI_le (Nat.le_refl _) (by omega)) (h W pos till mark h3 h4)
    | succ d ih =>
      intro i n W pos till mark h1 h2 h3 h4
      obtain ⟨n, rfl⟩ : ∃ z, n = z + 1 := ⟨n - 1, by omega⟩
      have ci : (nI i).toNatClampNeg = i := nI_clamp (by omega)
      have vi : vp_in (nI i) 64 := vp_in_nI (by omega) (by omega)
      have it := fk_yitem (post := post) (J := wY_write_13 post (nI s) (nI m) n) (g_srcLen := g_srcLen) (b_src := b_src) (b_w := W) (b_pos := pos) (b_till := till) (b_mark := mark) (b_out := b_out) (b_group := b_group) (b_flag := b_flag) (b_len := b_len) (b_lo := b_lo) (b_hi := b_hi) (b_live := b_live) (b_dropped := b_dropped) (c := c) (q := min 1024 (fi_ps w i)) (s := s) (w := w) I hC hF hw (by omega : i < C) (by omega) hm hm6 (fun t ht => (h4 t ht).2.2) (by
        have e1 : min 1024 (min 1024 (fi_ps w i) + w i) = min 1024 (fi_ps w (i + 1)) := by
          show _ = min 1024 (fi_ps w i + w i)
          omega
        rw [e1]
        refine ih (i + 1) n _ _ _ _ (by omega) (by omega) (fun t ht d hd hx => ?_) (fun t ht => ?_)
        · by_cases e : t = i
          · subst e
            unfold fk_pw
            rw [if_pos (by omega)]
            congr 1
            omega
          · have := fi_ps_lt (w := w) (by omega : t < i)
            unfold fk_pw
            rw [if_neg (by omega)]
            exact h3 t (by omega) d hd hx
        · by_cases e : t = i
          · subst e; rw [ea_us, ea_us, ea_us]; exact ⟨rfl, rfl, rfl⟩
          · rw [ea_un e, ea_un e, ea_un e]; exact h4 t (by omega))
      refine br_f (nI_ge (by omega) (by omega)) ⟨vi, nm_r (e' := a_kinds i) (by rw [ci]) ⟨vi, nm_r (e' := a_chars i) (by rw [ci]) (ec_ypa I hC (by omega) ?_)⟩⟩
      refine br_c (fun a => it 2 (Or.inl ⟨Or.inl a, rfl⟩)) (fun a => br_c (fun b => it 2 (Or.inl ⟨Or.inr b, rfl⟩)) (fun b => it 1 (Or.inr ⟨fun z => ?_, rfl⟩)))
      rcases z with z | z
      · exact a z
      · exact b z
  have r := key C 0 (C + 1) b_w b_pos b_till b_mark (by omega) (by omega) (fun t ht => by omega) (fun t ht => by omega)
  exact ⟨_, r⟩
end FK
end
section
/-! print: when a writing is sound; Y's sound -/
def fl_mr (K : Nat → Int32) (i : Nat) : Bool := fe_em (K i) || fe_ec (K i)
/-- p opens a node around i -/
def fl_ar (K : Nat → Int32) (C p i : Nat) : Prop := ∃ j, eb_Pr K C p j ∧ p < i ∧ i < j
/-- p opens a node around i of i's kind, within the nearest link -/
def fl_Gd (K : Nat → Int32) (C p i : Nat) : Prop := fl_ar K C p i ∧ K p = K i ∧ ∀ p', p < p' → p' < i → fl_ar K C p' i → ¬ K p' = 4
def fl_S1 (K M : Nat → Int32) (C : Nat) (op cl : Bool → Nat → Bool) (σ : Nat → Bool) (i : Nat) : Prop :=
  ¬ (i + 1 < C ∧ fk_mk K M σ (i + 1) = fk_mk K M σ i) ∧ (if fe_em (K i) = true then op (σ (fk_nn K M i)) i else cl (σ (fk_nn K M i)) i) = true ∧
  (fe_em (K i) = true → cl (σ (fk_nn K M i)) i = true → ∀ p, fl_Gd K C p i → ¬ fk_mk K M σ p = fk_mk K M σ i)
def fl_Sd (K M : Nat → Int32) (C : Nat) (op cl : Bool → Nat → Bool) (σ : Nat → Bool) : Prop := ∀ i, i < C → fl_mr K i = true → fl_S1 K M C op cl σ i
section FL
variable {K H M O : Nat → Int32} {C : Nat}
theorem fl_mk0 {σ : Nat → Bool} {i : Nat} : fk_mk K M σ i = 0 ↔ fl_mr K i = false := by
  unfold fk_mk fl_mr
  cases z : (fe_em (K i) || fe_ec (K i))
  · simp
  · rw [if_pos rfl]
    constructor
    · intro h
      exfalso
      revert h
      split <;> decide
    · intro h; exact absurd h (by decide)
theorem fl_mk1 {σ : Nat → Bool} {i : Nat} (h : fl_mr K i = true) : fk_mk K M σ i = if σ (fk_nn K M i) = true then 95 else 42 := by
  unfold fk_mk
  unfold fl_mr at h
  rw [h, if_pos rfl]
theorem fl_le (I : eb_Itm C 0 K H M O) (hC : C ≤ 64) {p i : Nat} (hp : p < i) (hi : i < C) : (M p ≤ nI i ∧ ¬ fl_ar K C p i) ∨ (¬ M p ≤ nI i ∧ fl_ar K C p i) := by
  have n1 : (-1 : Int32) ≤ nI i := Int32.le_trans (by decide : (-1 : Int32) ≤ 0) (ea_0le (by omega))
  cases o : eb_op (K p)
  · refine Or.inl ⟨?_, fun ⟨j, q, _⟩ => by rw [q.2.2.1] at o; exact absurd o (by decide)⟩
    cases d : eb_cl (K p)
    · rw [I.2.2.2.2.1 p (by omega) (ec_nn o d ⟨_, I.2.1 p (by omega)⟩)]; exact n1
    · obtain ⟨q, q1, q2⟩ := I.2.2.2.1 p (by omega) d
      rw [q1]
      have := q2.1
      exact nI_le (by omega) (by omega)
  · obtain ⟨j, m1, q⟩ := fe_closed I (by omega : p < C) o
    have := q.2.1
    rw [m1]
    by_cases z : j ≤ i
    · refine Or.inl ⟨nI_le z (by omega), fun ⟨j', q', _, w⟩ => ?_⟩
      have := eb_Pr_j q q'
      omega
    · exact Or.inr ⟨nI_ge (by omega) (by omega), j, q, hp, by omega⟩
theorem fl_ge (I : eb_Itm C 0 K H M O) (hC : C ≤ 64) {p i : Nat} (hp : p < i) (hi : i < C) (ho : eb_op (K i) = true) : (nI i ≤ M p ∧ fl_ar K C p i) ∨ (¬ nI i ≤ M p ∧ ¬ fl_ar K C p i) := by
  rcases fl_le I hC hp hi with ⟨a, b⟩ | ⟨a, b⟩
  · refine Or.inr ⟨fun z => ?_, b⟩
    have e : M p = nI i := Int32.le_antisymm a z
    cases o : eb_op (K p)
    · cases d : eb_cl (K p)
      · rw [I.2.2.2.2.1 p (by omega) (ec_nn o d ⟨_, I.2.1 p (by omega)⟩)] at e
        exact absurd e.symm (ea_ne1 (by omega))
      · obtain ⟨q, q1, q2⟩ := I.2.2.2.1 p (by omega) d
        have := q2.1
        rw [q1] at e
        have := ea_im e (by omega) (by omega)
        omega
    · obtain ⟨j, m1, q⟩ := fe_closed I (by omega : p < C) o
      have := q.2.1
      rw [m1] at e
      have := ea_im e (by omega) (by omega)
      subst this
      have : eb_cl (K j) = true := by rw [q.2.2.2.1]; exact eb_cl_op q.2.2.1
      rw [eb_op_cl this] at ho
      exact absurd ho (by decide)
  · exact Or.inl ⟨Int32.le_of_lt (Int32.not_le.mp a), b⟩
theorem fl_em_op {k : Int32} (h : fe_em k = true) : eb_op k = true ∧ ¬ 4 < k := by
  have := of_decide_eq_true h
  rcases this with z | z <;> subst z <;> exact ⟨by decide, by decide⟩
theorem fl_ec_cl {k : Int32} (h : fe_ec k = true) : 4 < k := by
  have := of_decide_eq_true h
  rcases this with z | z <;> subst z <;> decide
end FL
section FM
variable {a_kinds a_chars a_mate a_openStack : Nat → Int32} {g_srcLen : Int32} {b_src b_w b_pos b_till b_mark b_out b_group b_flag b_len b_lo b_hi b_live b_dropped : Nat → Int32} {c C : Nat} {w : Nat → Nat} {σ : Nat → Bool} {op cl : Bool → Nat → Bool}
theorem fm_y92 {post : Int32 → Prop} {J : Int32 → Prop} {i : Nat} {f : Int32} {g_wLen : Int32} (I : eb_Itm C 0 a_kinds a_chars a_mate a_openStack) (hC : C ≤ 64) (hi : i < C) (hmr : fl_mr a_kinds i = true)
    (hk : ∀ t, t < C → b_mark t = fk_mk a_kinds a_mate σ t)
    (h1 : (fe_em (a_kinds i) = true → f = 3 → ∀ p, fl_Gd a_kinds C p i → ¬ fk_mk a_kinds a_mate σ p = fk_mk a_kinds a_mate σ i) → J (nI (i + 1)))
    (h0 : (fe_em (a_kinds i) = true ∧ f = 3 ∧ ∃ p, fl_Gd a_kinds C p i ∧ fk_mk a_kinds a_mate σ p = fk_mk a_kinds a_mate σ i) → post 0) :
    ∃ n, wY_sound_92 post J (nI i) f (nI c) g_srcLen (nI C) g_wLen b_src a_kinds a_chars b_w b_pos b_till b_mark b_out b_group b_flag b_len b_lo b_hi b_live b_dropped n (nI i - 1) := by
  have ci : (nI i).toNatClampNeg = i := nI_clamp (by omega)
  have vi : vp_in (nI i) 64 := vp_in_nI (by omega) (by omega)
  have key : ∀ k n, k ≤ i → k < n → (∀ p, k ≤ p → p < i → fl_ar a_kinds C p i → ¬ a_kinds p = 4 ∧ (a_kinds p = a_kinds i → ¬ fk_mk a_kinds a_mate σ p = fk_mk a_kinds a_mate σ i)) → wY_sound_92 post J (nI i) f (nI c) g_srcLen (nI C) g_wLen b_src a_kinds a_chars b_w b_pos b_till b_mark b_out b_group b_flag b_len b_lo b_hi b_live b_dropped n (nI k - 1) := by
    intro k
    induction k with
    | zero =>
      intro n hk1 hn hf
      obtain ⟨n, rfl⟩ : ∃ z, n = z + 1 := ⟨n - 1, by omega⟩
      exact br_t (by decide) (nm_r (nI_1 i) (h1 (fun _ _ p g => (hf p (by omega) g.1.choose_spec.2.1 g.1).2 g.2.1)))
    | succ k ih =>
      intro n hk1 hn hf
      obtain ⟨n, rfl⟩ : ∃ z, n = z + 1 := ⟨n - 1, by omega⟩
      have ck : (nI k).toNatClampNeg = k := nI_clamp (by omega)
      have vk : vp_in (nI k) 64 := vp_in_nI (by omega) (by omega)
      have nx : nI k + (-1) = nI k - 1 := by grind
      rw [nI_pred k]
      refine br_f (nI_pos (by omega)) ⟨vi, ?_⟩
      rw [ci]
      refine br_c (fun a => nm_r (nI_1 i) (h1 (fun em => absurd a (fl_em_op em).2))) (fun a => br_c (fun b => ?_) (fun b => nm_r (nI_1 i) (h1 (fun _ z => absurd z b))))
      have em : fe_em (a_kinds i) = true := by
        cases z : fe_em (a_kinds i)
        · unfold fl_mr at hmr
          rw [z, Bool.false_or] at hmr
          exact absurd (fl_ec_cl hmr) a
        · rfl
      have cont : (fl_ar a_kinds C k i → ¬ a_kinds k = 4 ∧ (a_kinds k = a_kinds i → ¬ fk_mk a_kinds a_mate σ k = fk_mk a_kinds a_mate σ i)) → wY_sound_92 post J (nI i) f (nI c) g_srcLen (nI C) g_wLen b_src a_kinds a_chars b_w b_pos b_till b_mark b_out b_group b_flag b_len b_lo b_hi b_live b_dropped n (nI k - 1) := fun z =>
        ih n (by omega) (by omega) (fun p p1 p2 p3 => by
          by_cases e : p = k
          · subst e; exact z p3
          · exact hf p (by omega) p2 p3)
      have w133 : (fl_ar a_kinds C k i → ¬ a_kinds k = 4) → wY_sound_133 post J (wY_sound_92 post J (nI i) f (nI c) g_srcLen (nI C) g_wLen b_src a_kinds a_chars b_w b_pos b_till b_mark b_out b_group b_flag b_len b_lo b_hi b_live b_dropped n) (nI i) f (nI k) (nI c) g_srcLen (nI C) g_wLen b_src a_kinds a_chars b_w b_pos b_till b_mark b_out b_group b_flag b_len b_lo b_hi b_live b_dropped := by
        intro n4
        refine ec_ypa I hC (by omega) ?_
        rcases fl_le I hC (by omega : k < i) hi with ⟨l, na⟩ | ⟨l, ar⟩
        · exact br_t l (nm_r nx (cont (fun z => absurd z na)))
        · refine br_f l ?_
          rw [ck, ci, hk k (by omega), hk i hi]
          refine ⟨vk, vi, br_c (fun d => ⟨vk, vi, br_c (fun e => h0 ⟨em, b, k, ⟨ar, d, fun p' p1 p2 p3 => (hf p' (by omega) p2 p3).1⟩, e⟩) (fun e => nm_r nx (cont (fun _ => ⟨n4 ar, fun _ => e⟩)))⟩) (fun d => nm_r nx (cont (fun _ => ⟨n4 ar, fun z => absurd z d⟩)))⟩
      refine ec_ypa I hC (by omega) ?_
      rcases fl_le I hC (by omega : k < i) hi with ⟨l, na⟩ | ⟨l, ar⟩
      · exact br_t l (w133 (fun z => absurd z na))
      · refine br_f l ⟨vk, ?_⟩
        rw [ck]
        refine br_c (fun d => nm_r (nI_1 i) (h1 (fun _ _ p g => ?_))) (fun d => w133 (fun _ => d))
        have pi := g.1.choose_spec.2.1
        rcases Nat.lt_trichotomy p k with z | z | z
        · exact absurd d (g.2.2 k z (by omega) ar)
        · subst z
          have := g.2.1
          rw [d] at this
          rw [← this] at em
          exact absurd em (by decide)
        · exact (hf p (by omega) pi g.1).2 g.2.1
  exact ⟨_, key i (i + 1) (Nat.le_refl _) (by omega) (fun p p1 p2 => by omega)⟩
theorem fm_fl3 {a b : Bool} : ea_fl a b = 3 ↔ (a = true ∧ b = true) := by cases a <;> cases b <;> decide
theorem fm_ysound {post : Int32 → Prop} (I : eb_Itm C 0 a_kinds a_chars a_mate a_openStack) (hC : C ≤ 64) (hT : fi_ps w C ≤ 64) (hw : ∀ i, i < C → 1 ≤ w i) (hok : ∀ p, p < fi_ps w C → ea_ok (b_w p))
    (hk : ∀ t, t < C → b_pos t = nI (fi_ps w t) ∧ b_till t = nI (fi_ps w (t + 1)) ∧ b_mark t = fk_mk a_kinds a_mate σ t)
    (hfl : ∀ i, i < C → fl_mr a_kinds i = true → ea_sv (b_w (fi_ps w i)) (if fi_ps w i = 0 then 32 else b_w (fi_ps w i - 1)) (if fi_ps w (i + 1) < fi_ps w C then b_w (fi_ps w (i + 1)) else 32) = op (σ (fk_nn a_kinds a_mate i)) i ∧ ea_sv (b_w (fi_ps w i)) (if fi_ps w (i + 1) < fi_ps w C then b_w (fi_ps w (i + 1)) else 32) (if fi_ps w i = 0 then 32 else b_w (fi_ps w i - 1)) = cl (σ (fk_nn a_kinds a_mate i)) i)
    (h1 : fl_Sd a_kinds a_mate C op cl σ → post 1) (h0 : ¬ fl_Sd a_kinds a_mate C op cl σ → post 0) : wpY_sound post ((nI c), g_srcLen, (nI C), (nI (fi_ps w C)), b_src, a_kinds, a_chars, b_w, b_pos, b_till, b_mark, b_out, b_group, b_flag, b_len, b_lo, b_hi, b_live, b_dropped) := by
  have key : ∀ d i n, i + d = C → d < n → (∀ t, t < i → fl_mr a_kinds t = true → fl_S1 a_kinds a_mate C op cl σ t) → wY_sound_2 post (nI c) g_srcLen (nI C) (nI (fi_ps w C)) b_src a_kinds a_chars b_w b_pos b_till b_mark b_out b_group b_flag b_len b_lo b_hi b_live b_dropped n (nI i) := by
    intro d
    induction d with
    | zero =>
      intro i n h2 h3 h4
      obtain ⟨n, rfl⟩ : ∃ z, n = z + 1 := ⟨n - 1, by omega⟩
      exact br_t (nI_le (by omega) (by omega)) (h1 (fun t ht => h4 t (by omega)))
    | succ d ih =>
      intro i n h2 h3 h4
      obtain ⟨n, rfl⟩ : ∃ z, n = z + 1 := ⟨n - 1, by omega⟩
      have hi : i < C := by omega
      have ci : (nI i).toNatClampNeg = i := nI_clamp (by omega)
      have vi : vp_in (nI i) 64 := vp_in_nI (by omega) (by omega)
      have pl := fi_ps_lt (w := w) hi
      have w1 := hw i hi
      have pe : fi_ps w (i + 1) = fi_ps w i + w i := rfl
      obtain ⟨k1, k2, k3⟩ := hk i hi
      have nx : (fl_mr a_kinds i = true → fl_S1 a_kinds a_mate C op cl σ i) → wY_sound_2 post (nI c) g_srcLen (nI C) (nI (fi_ps w C)) b_src a_kinds a_chars b_w b_pos b_till b_mark b_out b_group b_flag b_len b_lo b_hi b_live b_dropped n (nI (i + 1)) := fun z =>
        ih (i + 1) n (by omega) (by omega) (fun t ht => by
          by_cases e : t = i
          · subst e; exact z
          · exact h4 t (by omega))
      refine br_f (nI_ge (by omega) (by omega)) ⟨vi, ?_⟩
      rw [ci, k3]
      refine br_c (fun a => nm_r (nI_1 i) (nx (fun z => by rw [fl_mk0.mp a] at z; exact absurd z (by decide)))) (fun a => ⟨vi, vi, ?_⟩)
      have mr : fl_mr a_kinds i = true := by
        cases z : fl_mr a_kinds i
        · exact absurd (fl_mk0.mpr z) a
        · rfl
      have bad : ¬ fl_S1 a_kinds a_mate C op cl σ i → post 0 := fun z => h0 (fun s => z (s i hi mr))
      obtain ⟨f1, f2⟩ := hfl i hi mr
      rw [k1, k2]
      refine ea_yfl (b := if fi_ps w i = 0 then 32 else b_w (fi_ps w i - 1)) (a := if fi_ps w (i + 1) < fi_ps w C then b_w (fi_ps w (i + 1)) else 32) (m := b_w (fi_ps w i)) ?_ ?_ ?_ ?_ ?_ ?_
      · by_cases z : fi_ps w i = 0
        · rw [if_pos z]; exact ep_ok32
        · rw [if_neg z]; exact hok _ (by omega)
      · by_cases z : fi_ps w (i + 1) < fi_ps w C
        · rw [if_pos z]; exact hok _ z
        · rw [if_neg z]; exact ep_ok32
      · intro q hq
        by_cases z : fi_ps w i = 0
        · rw [if_pos z] at hq
          rw [z]
          exact ea_yat3 hq
        · rw [if_neg z] at hq
          rw [ea_s (by omega : 0 < fi_ps w i)]
          exact ea_yat (by omega) (by omega) hq
      · intro q hq
        by_cases z : fi_ps w (i + 1) < fi_ps w C
        · rw [if_pos z] at hq
          exact ea_yat (by omega) z hq
        · rw [if_neg z] at hq
          exact ea_yat2 (by omega) (by omega) (by omega) hq
      · intro q hq
        exact ea_yat (by omega) (by omega) hq
      · rw [f1, f2]
        have w66 : ¬ (i + 1 < C ∧ fk_mk a_kinds a_mate σ (i + 1) = fk_mk a_kinds a_mate σ i) → wY_sound_66 post (wY_sound_2 post (nI c) g_srcLen (nI C) (nI (fi_ps w C)) b_src a_kinds a_chars b_w b_pos b_till b_mark b_out b_group b_flag b_len b_lo b_hi b_live b_dropped n) (nI i) (ea_fl (op (σ (fk_nn a_kinds a_mate i)) i) (cl (σ (fk_nn a_kinds a_mate i)) i)) (nI c) g_srcLen (nI C) (nI (fi_ps w C)) b_src a_kinds a_chars b_w b_pos b_till b_mark b_out b_group b_flag b_len b_lo b_hi b_live b_dropped := by
          intro nadj
          have rest : (if fe_em (a_kinds i) = true then op (σ (fk_nn a_kinds a_mate i)) i else cl (σ (fk_nn a_kinds a_mate i)) i) = true → ∃ n', wY_sound_92 post (wY_sound_2 post (nI c) g_srcLen (nI C) (nI (fi_ps w C)) b_src a_kinds a_chars b_w b_pos b_till b_mark b_out b_group b_flag b_len b_lo b_hi b_live b_dropped n) (nI i) (ea_fl (op (σ (fk_nn a_kinds a_mate i)) i) (cl (σ (fk_nn a_kinds a_mate i)) i)) (nI c) g_srcLen (nI C) (nI (fi_ps w C)) b_src a_kinds a_chars b_w b_pos b_till b_mark b_out b_group b_flag b_len b_lo b_hi b_live b_dropped n' (nI i - 1) := by
            intro fit
            refine fm_y92 (σ := σ) I hC hi mr (fun t ht => (hk t ht).2.2) (fun g => nx (fun _ => ⟨nadj, fit, fun em c2 => ?_⟩)) (fun ⟨em, e3, p, g, e⟩ => bad (fun s => ?_))
            · rw [if_pos em] at fit
              exact g em (fm_fl3.mpr ⟨fit, c2⟩)
            · exact s.2.2 em (fm_fl3.mp e3).2 p g e
          refine ⟨vi, ?_⟩
          rw [ci]
          refine br_c (fun b => ?_) (fun b => ?_)
          · have em : fe_em (a_kinds i) = false := by
              cases z : fe_em (a_kinds i)
              · rfl
              · exact absurd b (fl_em_op z).2
            refine br_c (fun d => bad (fun s => ?_)) (fun d => nm_e (rest ?_))
            · have := s.2.1
              rw [em] at this
              rw [en_fl2.mp d] at this
              simp at this
            · rw [em]
              rw [en_fl2] at d
              cases z : cl (σ (fk_nn a_kinds a_mate i)) i
              · exact absurd z d
              · rfl
          · have em : fe_em (a_kinds i) = true := by
              cases z : fe_em (a_kinds i)
              · unfold fl_mr at mr
                rw [z, Bool.false_or] at mr
                exact absurd (fl_ec_cl mr) b
              · rfl
            refine br_c (fun d => bad (fun s => ?_)) (fun d => nm_e (rest ?_))
            · have := s.2.1
              rw [if_pos em] at this
              rw [en_fl1.mp d] at this
              exact absurd this (by decide)
            · rw [if_pos em]
              rw [en_fl1] at d
              cases z : op (σ (fk_nn a_kinds a_mate i)) i
              · exact absurd z d
              · rfl
        rw [nI_1 i]
        refine pk_le C (i + 1) (fun b => w66 (fun z => by omega)) (fun b => ⟨vp_in_nI (by omega) (by omega), vi, ?_⟩)
        rw [nI_clamp (by omega : i + 1 < 2 ^ 31), (hk (i + 1) b).2.2]
        exact br_c (fun d => bad (fun s => s.1 ⟨b, d⟩)) (fun d => w66 (fun z => d z.2))
  exact ⟨_, key C 0 (C + 1) (by omega) (by omega) (fun t ht => by omega)⟩
end FM
end
section
/-! print: X's conditions as bits -/
def fn_sh (s : Bool) : Nat := if s = true then 6 else 0
def fn_mc (s : Bool) : Int32 := if s = true then 95 else 42
theorem fn_one {y b : Nat} (hy : y < 32) (hb : b < 32) : bt ((1 : Int32) <<< (nI y &&& 31)) b = decide (b = y) := by
  rw [b_shl y hy 1 hb, fe_b1]
  by_cases z : b = y
  · subst z; simp
  · by_cases w : y ≤ b
    · rw [decide_eq_true w, decide_eq_false (by omega : ¬ b - y = 0), decide_eq_false z]; rfl
    · rw [decide_eq_false w, decide_eq_false z]; rfl
theorem fn_not {x : Int32} {b : Nat} (hb : b < 32) : bt (x ^^^ (-1)) b = !bt x b := by
  rw [b_xor, b_m1 b hb, Bool.xor_true]
theorem fn_clr {x : Int32} {k b : Nat} (hk : k < 32) (hb : b < 32) : bt (x &&& (((1 : Int32) <<< (nI k &&& 31)) ^^^ (-1))) b = (bt x b && !decide (b = k)) := by
  rw [b_and, fn_not hb, fn_one hk hb]
def fn_CL (Q : Bool → Nat → Nat → Prop) (cla : Nat → Int32) : Prop := ∀ s x b, x < 6 → b < 32 → (bt (cla (fn_sh s + x)) b = true ↔ Q s x b)
def fn_DO (P : Bool → Nat → Prop) (dom : Int32) : Prop := ∀ s n, n < 6 → (bt dom (fn_sh s + n) = true ↔ P s n)
def fn_ad1 (Q : Bool → Nat → Nat → Prop) (s : Bool) (x y : Nat) : Bool → Nat → Nat → Prop := fun s' a b => Q s' a b ∨ (s' = s ∧ a = x ∧ b = y)
def fn_sy (a b x y : Nat) : Prop := (a = x ∧ b = y) ∨ (a = y ∧ b = x)
section FN
variable {Q : Bool → Nat → Nat → Prop} {cla : Nat → Int32}
theorem fn_CL_c {Q' : Bool → Nat → Nat → Prop} (h : ∀ s a b, Q s a b ↔ Q' s a b) (hc : fn_CL Q cla) : fn_CL Q' cla := fun s x b hx hb => (hc s x b hx hb).trans (h s x b)
theorem fn_shi {s s' : Bool} {a x : Nat} (ha : a < 6) (hx : x < 6) : fn_sh s' + a = fn_sh s + x ↔ (s' = s ∧ a = x) := by
  unfold fn_sh
  cases s <;> cases s' <;> simp <;> omega
theorem fn_CL_1 {s : Bool} {x y : Nat} (hx : x < 6) (hy : y < 6) (hc : fn_CL Q cla) : fn_CL (fn_ad1 Q s x y) (upd cla (fn_sh s + x) (cla (fn_sh s + x) ||| ((1 : Int32) <<< (nI y &&& 31)))) := by
  intro s' a b ha hb
  unfold fn_ad1
  by_cases e : s' = s ∧ a = x
  · obtain ⟨e1, e2⟩ := e
    subst e1 e2
    rw [ea_us, b_or, fn_one (by omega) hb, Bool.or_eq_true, hc s' a b ha hb]
    constructor
    · intro h
      rcases h with h | h
      · exact Or.inl h
      · exact Or.inr ⟨rfl, rfl, of_decide_eq_true h⟩
    · intro h
      rcases h with h | h
      · exact Or.inl h
      · exact Or.inr (decide_eq_true h.2.2)
  · rw [ea_un (fun z => e ((fn_shi ha hx).mp z)), hc s' a b ha hb]
    constructor
    · intro h; exact Or.inl h
    · intro h
      rcases h with h | h
      · exact h
      · exact absurd ⟨h.1, h.2.1⟩ e
end FN
section FO
variable {f_length f_depth f_linkCount f_runCount f_openerCount f_nodes f_domain : Int32} {a_source a_kinds a_chars a_mate a_openStack a_cellKind a_group a_live a_runLo a_runHi a_runChar a_runSize a_runGroup a_runOpens a_runCloses a_openers a_floors a_start a_width a_out a_nodeOf a_clash : Nat → Int32} {c C : Nat} {Q : Bool → Nat → Nat → Prop} {P : Bool → Nat → Prop}
theorem fo_xforbid {post : SX → Prop} {s : Bool} {x y : Nat} (hx : x < 6) (hy : y < 6) (hc : fn_CL Q a_clash) (h : ∀ cla, fn_CL (fun s' a b => Q s' a b ∨ (s' = s ∧ fn_sy a b x y)) cla → post ((nI c), f_length, (nI C), f_depth, f_linkCount, f_runCount, f_openerCount, f_nodes, f_domain, a_source, a_kinds, a_chars, a_mate, a_openStack, a_cellKind, a_group, a_live, a_runLo, a_runHi, a_runChar, a_runSize, a_runGroup, a_runOpens, a_runCloses, a_openers, a_floors, a_start, a_width, a_out, a_nodeOf, cla)) : wpX_forbid post ((nI c), f_length, (nI C), f_depth, f_linkCount, f_runCount, f_openerCount, f_nodes, f_domain, a_source, a_kinds, a_chars, a_mate, a_openStack, a_cellKind, a_group, a_live, a_runLo, a_runHi, a_runChar, a_runSize, a_runGroup, a_runOpens, a_runCloses, a_openers, a_floors, a_start, a_width, a_out, a_nodeOf, a_clash) (nI (fn_sh s)) (nI x) (nI y) := by
  have sl : fn_sh s ≤ 6 := by unfold fn_sh; split <;> omega
  unfold wpX_forbid
  dsimp only
  rw [nI_add, nI_add, nI_clamp (by omega : fn_sh s + x < 2 ^ 31), nI_clamp (by omega : fn_sh s + y < 2 ^ 31)]
  refine ⟨vp_in_nI (by omega) (by omega), vp_in_nI (by omega) (by omega), nm_e ⟨vp_in_nI (by omega) (by omega), vp_in_nI (by omega) (by omega), nm_e (h _ (fn_CL_c (fun s' a b => ?_) (fn_CL_1 hy hx (fn_CL_1 hx hy hc))))⟩⟩
  unfold fn_ad1 fn_sy
  constructor
  · intro z
    rcases z with (z | z) | z
    · exact Or.inl z
    · exact Or.inr ⟨z.1, Or.inl z.2⟩
    · exact Or.inr ⟨z.1, Or.inr z.2⟩
  · intro z
    rcases z with z | ⟨z, y | y⟩
    · exact Or.inl (Or.inl z)
    · exact Or.inl (Or.inr ⟨z, y⟩)
    · exact Or.inr ⟨z, y⟩
/-- what is known of the nodes' numbers -/
def fo_N (C : Nat) (K M nd : Nat → Int32) : Prop := ∀ t, t < C → (fl_mr K t = true → nd t = nI (fk_nn K M t) ∧ fk_nn K M t < 6) ∧ (fl_mr K t = false → nd t = -1)
theorem fo_xguard {post : SX → Prop} {s : Bool} {i : Nat} (I : eb_Itm C 0 a_kinds a_chars a_mate a_openStack) (hC : C ≤ 64) (hN : fo_N C a_kinds a_mate a_nodeOf) (hi : i < C) (em : fe_em (a_kinds i) = true) (hc : fn_CL Q a_clash)
    (h : ∀ cla, fn_CL (fun s' a b => Q s' a b ∨ (s' = s ∧ ∃ p, fl_Gd a_kinds C p i ∧ fn_sy a b (fk_nn a_kinds a_mate p) (fk_nn a_kinds a_mate i))) cla → post ((nI c), f_length, (nI C), f_depth, f_linkCount, f_runCount, f_openerCount, f_nodes, f_domain, a_source, a_kinds, a_chars, a_mate, a_openStack, a_cellKind, a_group, a_live, a_runLo, a_runHi, a_runChar, a_runSize, a_runGroup, a_runOpens, a_runCloses, a_openers, a_floors, a_start, a_width, a_out, a_nodeOf, cla)) : wpX_guardAround post ((nI c), f_length, (nI C), f_depth, f_linkCount, f_runCount, f_openerCount, f_nodes, f_domain, a_source, a_kinds, a_chars, a_mate, a_openStack, a_cellKind, a_group, a_live, a_runLo, a_runHi, a_runChar, a_runSize, a_runGroup, a_runOpens, a_runCloses, a_openers, a_floors, a_start, a_width, a_out, a_nodeOf, a_clash) (nI i) (nI (fn_sh s)) := by
  have ci : (nI i).toNatClampNeg = i := nI_clamp (by omega)
  have vi : vp_in (nI i) 64 := vp_in_nI (by omega) (by omega)
  have emo := (fl_em_op em).1
  have mri : fl_mr a_kinds i = true := by unfold fl_mr; rw [em]; rfl
  have key : ∀ k n cla, k ≤ i → k < n → (∀ p, k ≤ p → p < i → fl_ar a_kinds C p i → ¬ a_kinds p = 4) → fn_CL (fun s' a b => Q s' a b ∨ (s' = s ∧ ∃ p, k ≤ p ∧ fl_Gd a_kinds C p i ∧ fn_sy a b (fk_nn a_kinds a_mate p) (fk_nn a_kinds a_mate i))) cla → wX_guardAround_4 post (nI i) (nI (fn_sh s)) n (nI k - 1) (nI c) f_length (nI C) f_depth f_linkCount f_runCount f_openerCount f_nodes f_domain a_source a_kinds a_chars a_mate a_openStack a_cellKind a_group a_live a_runLo a_runHi a_runChar a_runSize a_runGroup a_runOpens a_runCloses a_openers a_floors a_start a_width a_out a_nodeOf cla := by
    intro k
    induction k with
    | zero =>
      intro n cla h1 h2 h3 h4
      obtain ⟨n, rfl⟩ : ∃ z, n = z + 1 := ⟨n - 1, by omega⟩
      refine br_t (by decide) (h cla (fn_CL_c (fun s' a b => ?_) h4))
      constructor
      · intro z
        rcases z with z | ⟨z1, p, _, z2⟩
        · exact Or.inl z
        · exact Or.inr ⟨z1, p, z2⟩
      · intro z
        rcases z with z | ⟨z1, p, z2⟩
        · exact Or.inl z
        · exact Or.inr ⟨z1, p, by omega, z2⟩
    | succ k ih =>
      intro n cla h1 h2 h3 h4
      obtain ⟨n, rfl⟩ : ∃ z, n = z + 1 := ⟨n - 1, by omega⟩
      have ck : (nI k).toNatClampNeg = k := nI_clamp (by omega)
      have vk : vp_in (nI k) 64 := vp_in_nI (by omega) (by omega)
      have nx : nI k + (-1) = nI k - 1 := by grind
      -- nothing new at k
      have same : ¬ fl_Gd a_kinds C k i → (fl_ar a_kinds C k i → ¬ a_kinds k = 4) → wX_guardAround_4 post (nI i) (nI (fn_sh s)) n (nI k - 1) (nI c) f_length (nI C) f_depth f_linkCount f_runCount f_openerCount f_nodes f_domain a_source a_kinds a_chars a_mate a_openStack a_cellKind a_group a_live a_runLo a_runHi a_runChar a_runSize a_runGroup a_runOpens a_runCloses a_openers a_floors a_start a_width a_out a_nodeOf cla := fun ng n4 => by
        refine ih n cla (by omega) (by omega) (fun p p1 p2 p3 => ?_) (fn_CL_c (fun s' a b => ?_) h4)
        · by_cases e : p = k
          · subst e; exact n4 p3
          · exact h3 p (by omega) p2 p3
        · constructor
          · intro z
            rcases z with z | ⟨z1, p, z2, z3⟩
            · exact Or.inl z
            · exact Or.inr ⟨z1, p, by omega, z3⟩
          · intro z
            rcases z with z | ⟨z1, p, z2, z3⟩
            · exact Or.inl z
            · refine Or.inr ⟨z1, p, ?_, z3⟩
              by_cases e : p = k
              · subst e; exact absurd z3.1 ng
              · omega
      rw [nI_pred k]
      refine br_f (nI_pos (by omega)) ⟨vk, ?_⟩
      rw [ck, ci]
      rcases fl_ge I hC (by omega : k < i) hi emo with ⟨l, ar⟩ | ⟨l, na⟩
      · refine br_t l ⟨vk, br_c (fun a => h cla (fn_CL_c (fun s' a' b => ?_) h4)) (fun a => ⟨vk, vi, br_c (fun d => ⟨vk, vi, ?_⟩) (fun d => nm_r nx (same (fun g => d g.2.1) (fun _ => a)))⟩)⟩
        · constructor
          · intro z
            rcases z with z | ⟨z1, p, _, z2⟩
            · exact Or.inl z
            · exact Or.inr ⟨z1, p, z2⟩
          · intro z
            rcases z with z | ⟨z1, p, z2⟩
            · exact Or.inl z
            · refine Or.inr ⟨z1, p, ?_, z2⟩
              apply Decidable.byContradiction
              intro w
              by_cases e : p = k
              · subst e
                have := z2.1.2.1
                rw [a] at this
                rw [← this] at em
                exact absurd em (by decide)
              · exact z2.1.2.2 k (by omega) (by omega) ar a
        · have mrk : fl_mr a_kinds k = true := by unfold fl_mr; rw [d, em]; rfl
          have g : fl_Gd a_kinds C k i := ⟨ar, d, fun p p1 p2 p3 => h3 p (by omega) p2 p3⟩
          rw [((hN k (by omega)).1 mrk).1, ((hN i hi).1 mri).1]
          refine fo_xforbid ((hN k (by omega)).1 mrk).2 ((hN i hi).1 mri).2 h4 (fun cla' hc' => nm_r nx (ih n cla' (by omega) (by omega) (fun p p1 p2 p3 => ?_) (fn_CL_c (fun s' a' b => ?_) hc')))
          · by_cases e : p = k
            · subst e; exact a
            · exact h3 p (by omega) p2 p3
          · constructor
            · intro z
              rcases z with (z | ⟨z1, p, z2, z3⟩) | ⟨z1, z2⟩
              · exact Or.inl z
              · exact Or.inr ⟨z1, p, by omega, z3⟩
              · exact Or.inr ⟨z1, k, by omega, g, z2⟩
            · intro z
              rcases z with z | ⟨z1, p, z2, z3, z4⟩
              · exact Or.inl (Or.inl z)
              · by_cases e : p = k
                · subst e; exact Or.inr ⟨z1, z4⟩
                · exact Or.inl (Or.inr ⟨z1, p, by omega, z3, z4⟩)
      · exact br_f l (nm_r nx (same (fun g => na g.1) (fun z => absurd z na)))
  refine nm_e ⟨_, key i (i + 1) a_clash (Nat.le_refl _) (by omega) (fun p p1 p2 => by omega) (fn_CL_c (fun s' a b => ?_) hc)⟩
  constructor
  · intro z; exact Or.inl z
  · intro z
    rcases z with z | ⟨z1, p, z2, z3⟩
    · exact z
    · have := z3.1.1.choose_spec.2.1
      omega
theorem fo_xrestrict {post : SX → Prop} {s : Bool} {i : Nat} {b a : Int32} (I : eb_Itm C 0 a_kinds a_chars a_mate a_openStack) (hC : C ≤ 64) (hN : fo_N C a_kinds a_mate a_nodeOf) (hi : i < C) (mr : fl_mr a_kinds i = true) (hd : fn_DO P f_domain) (hc : fn_CL Q a_clash)
    (h : ∀ dom cla, fn_DO (fun s' n => P s' n ∧ (s' = s → n = fk_nn a_kinds a_mate i → (if fe_em (a_kinds i) = true then ea_sv (fn_mc s) b a else ea_sv (fn_mc s) a b) = true)) dom →
      fn_CL (fun s' x y => Q s' x y ∨ (s' = s ∧ (fe_em (a_kinds i) = true ∧ ea_sv (fn_mc s) a b = true) ∧ ∃ p, fl_Gd a_kinds C p i ∧ fn_sy x y (fk_nn a_kinds a_mate p) (fk_nn a_kinds a_mate i))) cla → post ((nI c), f_length, (nI C), f_depth, f_linkCount, f_runCount, f_openerCount, f_nodes, dom, a_source, a_kinds, a_chars, a_mate, a_openStack, a_cellKind, a_group, a_live, a_runLo, a_runHi, a_runChar, a_runSize, a_runGroup, a_runOpens, a_runCloses, a_openers, a_floors, a_start, a_width, a_out, a_nodeOf, cla)) :
    wpX_restrict post ((nI c), f_length, (nI C), f_depth, f_linkCount, f_runCount, f_openerCount, f_nodes, f_domain, a_source, a_kinds, a_chars, a_mate, a_openStack, a_cellKind, a_group, a_live, a_runLo, a_runHi, a_runChar, a_runSize, a_runGroup, a_runOpens, a_runCloses, a_openers, a_floors, a_start, a_width, a_out, a_nodeOf, a_clash) (nI i) (nI (fn_sh s)) b a := by
  have ci : (nI i).toNatClampNeg = i := nI_clamp (by omega)
  have vi : vp_in (nI i) 64 := vp_in_nI (by omega) (by omega)
  obtain ⟨n1, n2⟩ := (hN i hi).1 mr
  have sl : fn_sh s ≤ 6 := by unfold fn_sh; split <;> omega
  -- the guard
  have r102 : ∀ dom, fn_DO (fun s' n => P s' n ∧ (s' = s → n = fk_nn a_kinds a_mate i → (if fe_em (a_kinds i) = true then ea_sv (fn_mc s) b a else ea_sv (fn_mc s) a b) = true)) dom →
      wX_restrict_102 post (nI i) (nI (fn_sh s)) (ea_b (fe_em (a_kinds i))) (ea_b (ea_sv (fn_mc s) a b)) (nI c) f_length (nI C) f_depth f_linkCount f_runCount f_openerCount f_nodes dom a_source a_kinds a_chars a_mate a_openStack a_cellKind a_group a_live a_runLo a_runHi a_runChar a_runSize a_runGroup a_runOpens a_runCloses a_openers a_floors a_start a_width a_out a_nodeOf a_clash := by
    intro dom hd
    have same : ¬ (fe_em (a_kinds i) = true ∧ ea_sv (fn_mc s) a b = true) → post ((nI c), f_length, (nI C), f_depth, f_linkCount, f_runCount, f_openerCount, f_nodes, dom, a_source, a_kinds, a_chars, a_mate, a_openStack, a_cellKind, a_group, a_live, a_runLo, a_runHi, a_runChar, a_runSize, a_runGroup, a_runOpens, a_runCloses, a_openers, a_floors, a_start, a_width, a_out, a_nodeOf, a_clash) := fun z =>
      h dom a_clash hd (fn_CL_c (fun s' x y => ⟨fun w => Or.inl w, fun w => by
        rcases w with w | w
        · exact w
        · exact absurd w.2.1 z⟩) hc)
    refine ea_br (fun z => same (fun w => by rw [z] at w; exact absurd w.1 (by decide))) (fun z => ea_br (fun y => same (fun w => by rw [y] at w; exact absurd w.2 (by decide))) (fun y => ?_))
    refine fo_xguard I hC hN hi z hc (fun cla hcl => h dom cla hd (fn_CL_c (fun s' x y' => ?_) hcl))
    constructor
    · intro w
      rcases w with w | ⟨w1, w2⟩
      · exact Or.inl w
      · exact Or.inr ⟨w1, ⟨z, y⟩, w2⟩
    · intro w
      rcases w with w | ⟨w1, w2, w3⟩
      · exact Or.inl w
      · exact Or.inr ⟨w1, w3⟩
  -- the domain
  have r74 : ∀ z : Bool, z = (if fe_em (a_kinds i) = true then ea_sv (fn_mc s) b a else ea_sv (fn_mc s) a b) →
      wX_restrict_74 post (nI i) (nI (fn_sh s)) (ea_b (fe_em (a_kinds i))) (ea_b (ea_sv (fn_mc s) a b)) (ea_b z) (nI c) f_length (nI C) f_depth f_linkCount f_runCount f_openerCount f_nodes f_domain a_source a_kinds a_chars a_mate a_openStack a_cellKind a_group a_live a_runLo a_runHi a_runChar a_runSize a_runGroup a_runOpens a_runCloses a_openers a_floors a_start a_width a_out a_nodeOf a_clash := by
    intro z hz
    unfold wX_restrict_74
    rw [ci, n1, nI_add]
    refine ea_br (fun y => ⟨vi, nm_e (r102 _ ?_)⟩) (fun y => r102 _ ?_)
    · intro s' n hn
      have sl' : fn_sh s' ≤ 6 := by unfold fn_sh; split <;> omega
      rw [fn_clr (by omega) (by omega), Bool.and_eq_true, hd s' n hn]
      constructor
      · intro ⟨w1, w2⟩
        refine ⟨w1, fun e1 e2 => ?_⟩
        rw [decide_eq_true (by rw [e1, e2])] at w2
        exact absurd w2 (by decide)
      · intro ⟨w1, w2⟩
        refine ⟨w1, ?_⟩
        rw [decide_eq_false]
        · rfl
        · intro e
          have e := (fn_shi hn n2).mp e
          have := w2 e.1 e.2
          rw [← hz, y] at this
          exact absurd this (by decide)
    · intro s' n hn
      rw [hd s' n hn]
      constructor
      · intro w
        refine ⟨w, fun _ _ => ?_⟩
        rw [← hz]; exact y
      · intro w; exact w.1
  have r38 : ∀ z : Bool, z = fe_em (a_kinds i) → wX_restrict_38 post (nI i) (nI (fn_sh s)) b a (fn_mc s) (ea_b z) (nI c) f_length (nI C) f_depth f_linkCount f_runCount f_openerCount f_nodes f_domain a_source a_kinds a_chars a_mate a_openStack a_cellKind a_group a_live a_runLo a_runHi a_runChar a_runSize a_runGroup a_runOpens a_runCloses a_openers a_floors a_start a_width a_out a_nodeOf a_clash := by
    intro z hz
    refine ea_xsv (ea_xsv (ea_br (fun y => ?_) (fun y => ?_)))
    · have r := r74 (ea_sv (fn_mc s) a b) (by rw [← hz, y]; rfl)
      rw [← hz] at r
      exact r
    · have r := r74 (ea_sv (fn_mc s) b a) (by rw [← hz, y]; rfl)
      rw [← hz] at r
      exact r
  have r11 : wX_restrict_11 post (nI i) (nI (fn_sh s)) b a (fn_mc s) (nI c) f_length (nI C) f_depth f_linkCount f_runCount f_openerCount f_nodes f_domain a_source a_kinds a_chars a_mate a_openStack a_cellKind a_group a_live a_runLo a_runHi a_runChar a_runSize a_runGroup a_runOpens a_runCloses a_openers a_floors a_start a_width a_out a_nodeOf a_clash := by
    unfold wX_restrict_11
    rw [ci]
    refine ⟨vi, br_c (fun k1 => r38 true (by rw [k1]; decide)) (fun k1 => ⟨vi, br_c (fun k2 => r38 true (by rw [k2]; decide)) (fun k2 => r38 false ?_)⟩)⟩
    symm
    exact decide_eq_false (fun z => by
      rcases z with z | z
      · exact k1 z
      · exact k2 z)
  cases s
  · exact br_t (by decide) r11
  · exact br_f (by decide) r11
/-- the conditions gathered from the items ahead of i -/
def fo_P (K M : Nat → Int32) (op cl : Bool → Nat → Bool) (i : Nat) : Bool → Nat → Prop := fun s n => ∀ t, t < i → fl_mr K t = true → fk_nn K M t = n → (if fe_em (K t) = true then op s t else cl s t) = true
def fo_Q (K M : Nat → Int32) (C : Nat) (cl : Bool → Nat → Bool) (i : Nat) : Bool → Nat → Nat → Prop := fun s x y =>
  ∃ t, t < i ∧ fl_mr K t = true ∧ ((t + 1 < C ∧ fl_mr K (t + 1) = true ∧ fn_sy x y (fk_nn K M t) (fk_nn K M (t + 1))) ∨ ((fe_em (K t) = true ∧ cl s t = true) ∧ ∃ p, fl_Gd K C p t ∧ fn_sy x y (fk_nn K M p) (fk_nn K M t)))
theorem fo_xconstrain {post : SX → Prop} {w : Nat → Nat} {op cl : Bool → Nat → Bool} (I : eb_Itm C 0 a_kinds a_chars a_mate a_openStack) (hC : C ≤ 64) (hN : fo_N C a_kinds a_mate a_nodeOf) (hT : fi_ps w C ≤ 64) (hs : ∀ t, t < C → a_start t = nI (fi_ps w t) ∧ a_width t = nI (w t))
    (hop : ∀ s i, op s i = ea_sv (fn_mc s) (if fi_ps w i = 0 then 32 else a_out (fi_ps w i - 1)) (if fi_ps w (i + 1) < fi_ps w C then a_out (fi_ps w (i + 1)) else 32))
    (hcl : ∀ s i, cl s i = ea_sv (fn_mc s) (if fi_ps w (i + 1) < fi_ps w C then a_out (fi_ps w (i + 1)) else 32) (if fi_ps w i = 0 then 32 else a_out (fi_ps w i - 1)))
    (h : ∀ dom cla, fn_DO (fo_P a_kinds a_mate op cl C) dom → fn_CL (fo_Q a_kinds a_mate C cl C) cla → post ((nI c), f_length, (nI C), f_depth, f_linkCount, f_runCount, f_openerCount, f_nodes, dom, a_source, a_kinds, a_chars, a_mate, a_openStack, a_cellKind, a_group, a_live, a_runLo, a_runHi, a_runChar, a_runSize, a_runGroup, a_runOpens, a_runCloses, a_openers, a_floors, a_start, a_width, a_out, a_nodeOf, cla)) : wpX_constrain post ((nI c), f_length, (nI C), f_depth, f_linkCount, f_runCount, f_openerCount, f_nodes, f_domain, a_source, a_kinds, a_chars, a_mate, a_openStack, a_cellKind, a_group, a_live, a_runLo, a_runHi, a_runChar, a_runSize, a_runGroup, a_runOpens, a_runCloses, a_openers, a_floors, a_start, a_width, a_out, a_nodeOf, a_clash) (nI (fi_ps w C)) := by
  have key : ∀ d i n dom cla, i + d = C → d < n → fn_DO (fo_P a_kinds a_mate op cl i) dom → fn_CL (fo_Q a_kinds a_mate C cl i) cla → wX_constrain_30 post (nI (fi_ps w C)) n (nI i) (nI c) f_length (nI C) f_depth f_linkCount f_runCount f_openerCount f_nodes dom a_source a_kinds a_chars a_mate a_openStack a_cellKind a_group a_live a_runLo a_runHi a_runChar a_runSize a_runGroup a_runOpens a_runCloses a_openers a_floors a_start a_width a_out a_nodeOf cla := by
    intro d
    induction d with
    | zero =>
      intro i n dom cla h1 h2 h3 h4
      obtain ⟨n, rfl⟩ : ∃ z, n = z + 1 := ⟨n - 1, by omega⟩
      have e : i = C := by omega
      subst e
      exact br_t (nI_le (Nat.le_refl _) (by omega)) (h dom cla h3 h4)
    | succ d ih =>
      intro i n dom cla h1 h2 h3 h4
      obtain ⟨n, rfl⟩ : ∃ z, n = z + 1 := ⟨n - 1, by omega⟩
      have hi : i < C := by omega
      have ci : (nI i).toNatClampNeg = i := nI_clamp (by omega)
      have vi : vp_in (nI i) 64 := vp_in_nI (by omega) (by omega)
      have pl := fi_ps_lt (w := w) hi
      have pe : fi_ps w (i + 1) = fi_ps w i + w i := rfl
      refine br_f (nI_ge (by omega) (by omega)) ⟨vi, ?_⟩
      rw [ci, (hs i hi).1, (hs i hi).2]
      cases mr : fl_mr a_kinds i
      · rw [(hN i hi).2 mr]
        refine br_f (by decide) (nm_r (nI_1 i) (ih (i + 1) n dom cla (by omega) (by omega) (fun s m hm => (h3 s m hm).trans ?_) (fn_CL_c (fun s x y => ?_) h4)))
        · constructor
          · intro z t t1 t2 t3
            by_cases e : t = i
            · subst e; rw [mr] at t2; exact absurd t2 (by decide)
            · exact z t (by omega) t2 t3
          · intro z t t1 t2 t3
            exact z t (by omega) t2 t3
        · constructor
          · intro ⟨t, t1, t2⟩
            exact ⟨t, by omega, t2⟩
          · intro ⟨t, t1, t2, t3⟩
            by_cases e : t = i
            · subst e; rw [mr] at t2; exact absurd t2 (by decide)
            · exact ⟨t, by omega, t2, t3⟩
      · obtain ⟨nn1, nn2⟩ := (hN i hi).1 mr
        rw [nn1]
        -- both markers, then the neighbour
        have c109 : ∀ b a, b = (if fi_ps w i = 0 then 32 else a_out (fi_ps w i - 1)) → a = (if fi_ps w (i + 1) < fi_ps w C then a_out (fi_ps w (i + 1)) else 32) →
            wX_constrain_109 post (wX_constrain_30 post (nI (fi_ps w C)) n) (nI (fi_ps w C)) (nI i) b a (nI c) f_length (nI C) f_depth f_linkCount f_runCount f_openerCount f_nodes dom a_source a_kinds a_chars a_mate a_openStack a_cellKind a_group a_live a_runLo a_runHi a_runChar a_runSize a_runGroup a_runOpens a_runCloses a_openers a_floors a_start a_width a_out a_nodeOf cla := by
          intro b a hb ha
          have hop0 : ∀ s, ea_sv (fn_mc s) b a = op s i := fun s => by rw [hop s i, hb, ha]
          have hcl0 : ∀ s, ea_sv (fn_mc s) a b = cl s i := fun s => by rw [hcl s i, hb, ha]
          refine fo_xrestrict (s := false) I hC hN hi mr h3 h4 (fun dom1 cla1 hd1 hc1 => fo_xrestrict (s := true) I hC hN hi mr hd1 hc1 (fun dom2 cla2 hd2 hc2 => ?_))
          simp only [hop0, hcl0] at hd2 hc2
          have hd3 : fn_DO (fo_P a_kinds a_mate op cl (i + 1)) dom2 := fun s m hm => (hd2 s m hm).trans (by
            constructor
            · intro ⟨⟨z1, z2⟩, z3⟩ t t1 t2 t3
              by_cases e : t = i
              · subst e
                cases s
                · exact z2 rfl t3.symm
                · exact z3 rfl t3.symm
              · exact z1 t (by omega) t2 t3
            · intro z
              refine ⟨⟨fun t t1 t2 t3 => z t (by omega) t2 t3, fun e1 e2 => ?_⟩, fun e1 e2 => ?_⟩
              · subst e1; exact z i (by omega) mr e2.symm
              · subst e1; exact z i (by omega) mr e2.symm)
          -- the clash so far, less the neighbour's
          have last : ∀ cla', fn_CL (fun s x y => fo_Q a_kinds a_mate C cl i s x y ∨ ((fe_em (a_kinds i) = true ∧ cl s i = true) ∧ ∃ p, fl_Gd a_kinds C p i ∧ fn_sy x y (fk_nn a_kinds a_mate p) (fk_nn a_kinds a_mate i)) ∨ (i + 1 < C ∧ fl_mr a_kinds (i + 1) = true ∧ fn_sy x y (fk_nn a_kinds a_mate i) (fk_nn a_kinds a_mate (i + 1)))) cla' → wX_constrain_30 post (nI (fi_ps w C)) n (nI (i + 1)) (nI c) f_length (nI C) f_depth f_linkCount f_runCount f_openerCount f_nodes dom2 a_source a_kinds a_chars a_mate a_openStack a_cellKind a_group a_live a_runLo a_runHi a_runChar a_runSize a_runGroup a_runOpens a_runCloses a_openers a_floors a_start a_width a_out a_nodeOf cla' := by
            intro cla' hc'
            refine ih (i + 1) n dom2 cla' (by omega) (by omega) hd3 (fn_CL_c (fun s x y => ?_) hc')
            constructor
            · intro z
              rcases z with ⟨t, t1, t2⟩ | z | z
              · exact ⟨t, by omega, t2⟩
              · exact ⟨i, by omega, mr, Or.inr z⟩
              · exact ⟨i, by omega, mr, Or.inl z⟩
            · intro ⟨t, t1, t2, t3⟩
              by_cases e : t = i
              · subst e
                rcases t3 with t3 | t3
                · exact Or.inr (Or.inr t3)
                · exact Or.inr (Or.inl t3)
              · exact Or.inl ⟨t, by omega, t2, t3⟩
          have flat : fn_CL (fun s x y => fo_Q a_kinds a_mate C cl i s x y ∨ ((fe_em (a_kinds i) = true ∧ cl s i = true) ∧ ∃ p, fl_Gd a_kinds C p i ∧ fn_sy x y (fk_nn a_kinds a_mate p) (fk_nn a_kinds a_mate i))) cla2 := fn_CL_c (fun s x y => by
            constructor
            · intro z
              rcases z with (z | z) | z
              · exact Or.inl z
              · rw [z.1]; exact Or.inr z.2
              · rw [z.1]; exact Or.inr z.2
            · intro z
              rcases z with z | z
              · exact Or.inl (Or.inl z)
              · cases s
                · exact Or.inl (Or.inr ⟨rfl, z⟩)
                · exact Or.inr ⟨rfl, z⟩) hc2
          have noadj : ¬ (i + 1 < C ∧ fl_mr a_kinds (i + 1) = true) → wX_constrain_30 post (nI (fi_ps w C)) n (nI (i + 1)) (nI c) f_length (nI C) f_depth f_linkCount f_runCount f_openerCount f_nodes dom2 a_source a_kinds a_chars a_mate a_openStack a_cellKind a_group a_live a_runLo a_runHi a_runChar a_runSize a_runGroup a_runOpens a_runCloses a_openers a_floors a_start a_width a_out a_nodeOf cla2 := fun na =>
            last cla2 (fn_CL_c (fun s x y => by
              constructor
              · intro z
                rcases z with z | z
                · exact Or.inl z
                · exact Or.inr (Or.inl z)
              · intro z
                rcases z with z | z | z
                · exact Or.inl z
                · exact Or.inr z
                · exact absurd ⟨z.1, z.2.1⟩ na) flat)
          rw [nI_1 i]
          refine pk_le C (i + 1) (fun q => nm_e (noadj (fun z => by omega))) (fun q => ⟨vp_in_nI (by omega) (by omega), ?_⟩)
          rw [nI_clamp (by omega : i + 1 < 2 ^ 31), ci]
          cases mr2 : fl_mr a_kinds (i + 1)
          · rw [(hN (i + 1) q).2 mr2]
            exact br_t (by decide) (nm_e (noadj (fun z => by rw [mr2] at z; exact absurd z.2 (by decide))))
          · obtain ⟨m1, m2⟩ := (hN (i + 1) q).1 mr2
            rw [m1, nn1]
            refine br_f (nI_pos (by omega)) ⟨vi, vp_in_nI (by omega) (by omega), fo_xforbid (s := false) nn2 m2 flat (fun cla3 hc3 => ⟨vi, vp_in_nI (by omega) (by omega), ?_⟩)⟩
            rw [m1, nn1]
            refine fo_xforbid (s := true) nn2 m2 hc3 (fun cla4 hc4 => nm_e (last cla4 (fn_CL_c (fun s x y => ?_) hc4)))
            constructor
            · intro z
              rcases z with ((z | z) | z) | z
              · exact Or.inl z
              · exact Or.inr (Or.inl z)
              · exact Or.inr (Or.inr ⟨q, mr2, z.2⟩)
              · exact Or.inr (Or.inr ⟨q, mr2, z.2⟩)
            · intro z
              rcases z with z | z | z
              · exact Or.inl (Or.inl (Or.inl z))
              · exact Or.inl (Or.inl (Or.inr z))
              · cases s
                · exact Or.inl (Or.inr ⟨rfl, z.2.2⟩)
                · exact Or.inr ⟨rfl, z.2.2⟩
        have c91 : ∀ b, b = (if fi_ps w i = 0 then 32 else a_out (fi_ps w i - 1)) → wX_constrain_91 post (wX_constrain_30 post (nI (fi_ps w C)) n) (nI (fi_ps w C)) (nI i) (nI (fi_ps w (i + 1))) b (nI c) f_length (nI C) f_depth f_linkCount f_runCount f_openerCount f_nodes dom a_source a_kinds a_chars a_mate a_openStack a_cellKind a_group a_live a_runLo a_runHi a_runChar a_runSize a_runGroup a_runOpens a_runCloses a_openers a_floors a_start a_width a_out a_nodeOf cla := by
          intro b hb
          refine pk_le (fi_ps w C) (fi_ps w (i + 1)) (fun q => c109 b 32 hb (by rw [if_neg (by omega)])) (fun q => ⟨vp_in_nI (by omega) (by omega), ?_⟩)
          rw [nI_clamp (by omega : fi_ps w (i + 1) < 2 ^ 31)]
          exact c109 b _ hb (by rw [if_pos q])
        refine br_t (ea_0le (by omega)) ⟨vi, vi, nm_r (e' := nI (fi_ps w (i + 1))) (by rw [nI_add]; rfl) ⟨vi, ?_⟩⟩
        by_cases z : fi_ps w i = 0
        · rw [z]
          exact br_t (by decide) (c91 32 (by rw [if_pos z]))
        · refine br_f (nI_nle (by omega) (by omega)) ⟨vi, ?_⟩
          rw [ea_s (by omega : 0 < fi_ps w i), nI_clamp (by omega : fi_ps w i - 1 < 2 ^ 31)]
          exact ⟨vp_in_nI (by omega) (by omega), c91 _ (by rw [if_neg z])⟩
  have zero : ∀ d k n, k + d = 12 → d < n → wX_constrain_9 post (nI (fi_ps w C)) (nI c) f_length (nI C) f_depth f_linkCount f_runCount f_openerCount f_nodes 4095 n (nI k) a_source a_kinds a_chars a_mate a_openStack a_cellKind a_group a_live a_runLo a_runHi a_runChar a_runSize a_runGroup a_runOpens a_runCloses a_openers a_floors a_start a_width a_out a_nodeOf (ee_fill a_clash 0 k 0) := by
    intro d
    induction d with
    | zero =>
      intro k n h1 h2
      obtain ⟨n, rfl⟩ : ∃ z, n = z + 1 := ⟨n - 1, by omega⟩
      have e : k = 12 := by omega
      subst e
      refine br_t (nI_le (a := 12) (Nat.le_refl _) (by omega)) ⟨C + 1, key C 0 (C + 1) 4095 _ (by omega) (by omega) (fun s n hn => ?_) (fun s x b hx hb => ?_)⟩
      · constructor
        · intro _ t ht; omega
        · intro _
          have b4095 : ∀ k, k < 12 → bt 4095 k = true := by decide +kernel
          refine b4095 _ ?_
          unfold fn_sh; split <;> omega
      · have sl : fn_sh s ≤ 6 := by unfold fn_sh; split <;> omega
        rw [ee_fill_in (by omega) (by omega), b_0]
        constructor
        · intro z; exact absurd z (by decide)
        · intro ⟨t, ht, _⟩; omega
    | succ d ih =>
      intro k n h1 h2
      obtain ⟨n, rfl⟩ : ∃ z, n = z + 1 := ⟨n - 1, by omega⟩
      exact br_f (nI_ge (b := 12) (by omega) (by omega)) ⟨vp_in_nI (by omega) (by omega), nm_r (e' := ee_fill a_clash 0 (k + 1) 0) (by rw [nI_clamp (by omega : k < 2 ^ 31)]; exact ee_fill_s (by omega)) (nm_r (nI_1 k) (ih (k + 1) n (by omega) (by omega)))⟩
  have q := zero 12 0 13 (by omega) (by omega)
  rw [ee_fill_0] at q
  exact ⟨_, q⟩
end FO
end
section
/-! print: the choice of the markers -/
def fp_s1 (cla : Nat → Int32) (x : Int32) (n : Nat) : Int32 :=
  if bt x n = true ∧ bt x (6 + n) = false then x &&& (cla n ^^^ (-1)) else if bt x (6 + n) = true ∧ bt x n = false then x &&& ((cla (6 + n) <<< ((6 : Int32) &&& 31)) ^^^ (-1)) else x
def fp_sw (cla : Nat → Int32) : Nat → Nat → Int32 → Int32
  | 0, _, x => x
  | d + 1, n, x => fp_sw cla d (n + 1) (fp_s1 cla x n)
def fp_it (f : Int32 → Int32) : Nat → Int32 → Int32
  | 0, x => x
  | t + 1, x => fp_it f t (f x)
def fp_st (cla : Nat → Int32) (m : Nat) (x : Int32) : Int32 := fp_it (fp_sw cla m 0) 12 x
/-- marker s is possible for node n -/
def fp_D (x : Int32) (s : Bool) (n : Nat) : Prop := bt x (fn_sh s + n) = true
def fp_Le (x y : Int32) : Prop := ∀ b, b < 32 → bt x b = true → bt y b = true
def fp_In (m : Nat) (σ : Nat → Bool) (x : Int32) : Prop := ∀ n, n < m → fp_D x (σ n) n
def fp_Ok (Q : Bool → Nat → Nat → Prop) (σ : Nat → Bool) : Prop := ∀ s a b, Q s a b → ¬ (σ a = s ∧ σ b = s)
def fp_Br (m : Nat) (x : Int32) : Prop := ∃ n, n < m ∧ ¬ fp_D x false n ∧ ¬ fp_D x true n
def fp_Set (m : Nat) (Q : Bool → Nat → Nat → Prop) (x : Int32) : Prop := ∀ s a b, a < m → Q s a b → fp_D x s a → ¬ fp_D x (!s) a → ¬ fp_D x s b
def fp_QB (m : Nat) (Q : Bool → Nat → Nat → Prop) : Prop := ∀ s a b, Q s a b → a < m ∧ b < m ∧ Q s b a
section FP
variable {cla : Nat → Int32} {Q : Bool → Nat → Nat → Prop} {m : Nat} {x : Int32}
theorem fp_s1_le {n : Nat} : fp_Le (fp_s1 cla x n) x := by
  intro b hb h
  unfold fp_s1 at h
  split at h
  · rw [b_and, Bool.and_eq_true] at h; exact h.1
  · split at h
    · rw [b_and, Bool.and_eq_true] at h; exact h.1
    · exact h
theorem fp_Le_t {x y z : Int32} (h1 : fp_Le x y) (h2 : fp_Le y z) : fp_Le x z := fun b hb h => h2 b hb (h1 b hb h)
theorem fp_Le_r {x : Int32} : fp_Le x x := fun _ _ h => h
theorem fp_Le_a {x y : Int32} (h1 : fp_Le x y) (h2 : fp_Le y x) : x = y := by
  apply b_ext
  intro i hi
  cases a : bt x i <;> cases b : bt y i
  · rfl
  · rw [h2 i hi b] at a; exact absurd a (by decide)
  · rw [h1 i hi a] at b; exact absurd b (by decide)
  · rfl
theorem fp_Le_D {x y : Int32} (h : fp_Le x y) {s : Bool} {n : Nat} (hn : n < 6) (d : fp_D x s n) : fp_D y s n := h _ (by unfold fn_sh; split <;> omega) d
theorem fp_sw_le : ∀ d n x, fp_Le (fp_sw cla d n x) x := by
  intro d
  induction d with
  | zero => intro n x; exact fp_Le_r
  | succ d ih => intro n x; exact fp_Le_t (ih _ _) fp_s1_le
/-- the clash's bits -/
theorem fp_b0 (hc : fn_CL Q cla) {n b : Nat} (hn : n < 6) (hb : b < 32) : bt (cla n) b = true ↔ Q false n b := by
  have := hc false n b hn hb
  rw [show fn_sh false + n = n by unfold fn_sh; simp] at this
  exact this
theorem fp_b6 (hc : fn_CL Q cla) {n b : Nat} (hn : n < 6) (hb : b < 32) : bt (cla (6 + n)) b = true ↔ Q true n b := hc true n b hn hb
theorem fp_D0 {x : Int32} {n : Nat} : fp_D x false n ↔ bt x n = true := by
  unfold fp_D fn_sh
  simp
theorem fp_D1 {x : Int32} {n : Nat} : fp_D x true n ↔ bt x (6 + n) = true := Iff.rfl
theorem fp_bf {b : Bool} (h : ¬ b = true) : b = false := by cases b <;> simp_all
theorem fp_s1_in (hc : fn_CL Q cla) (hq : fp_QB m Q) (hm : m ≤ 6) {n : Nat} (hn : n < m) {σ : Nat → Bool} (h : fp_In m σ x) (ho : fp_Ok Q σ) : fp_In m σ (fp_s1 cla x n) := by
  intro k hk
  have hkx := h k hk
  unfold fp_s1
  split
  · rename_i z
    have sn : σ n = false := by
      cases w : σ n
      · rfl
      · have := h n hn
        rw [w, fp_D1, z.2] at this
        exact absurd this (by decide)
    cases w : σ k
    · rw [w, fp_D0] at hkx
      rw [fp_D0, b_and, fn_not (by omega), hkx, Bool.true_and]
      cases y : bt (cla n) k
      · rfl
      · exact absurd ⟨sn, w⟩ (ho false n k ((fp_b0 hc (by omega) (by omega)).mp y))
    · rw [w, fp_D1] at hkx
      rw [fp_D1, b_and, fn_not (by omega), hkx, Bool.true_and]
      cases y : bt (cla n) (6 + k)
      · rfl
      · have := (hq _ _ _ ((fp_b0 hc (by omega) (by omega)).mp y)).2.1
        omega
  · split
    · rename_i _ z
      have sn : σ n = true := by
        cases w : σ n
        · have := h n hn
          rw [w, fp_D0, z.2] at this
          exact absurd this (by decide)
        · rfl
      cases w : σ k
      · rw [w, fp_D0] at hkx
        rw [fp_D0, b_and, fn_not (by omega), hkx, Bool.true_and, show ((6 : Int32) &&& 31) = (nI 6 &&& 31) from rfl, b_shl 6 (by omega) _ (by omega), decide_eq_false (by omega : ¬ 6 ≤ k)]
        rfl
      · rw [w, fp_D1] at hkx
        rw [fp_D1, b_and, fn_not (by omega), hkx, Bool.true_and, show ((6 : Int32) &&& 31) = (nI 6 &&& 31) from rfl, b_shl 6 (by omega) _ (by omega), show 6 + k - 6 = k by omega]
        cases y : bt (cla (6 + n)) k
        · simp
        · exact absurd ⟨sn, w⟩ (ho true n k ((fp_b6 hc (by omega) (by omega)).mp y))
    · exact hkx
theorem fp_sw_in (hc : fn_CL Q cla) (hq : fp_QB m Q) (hm : m ≤ 6) {σ : Nat → Bool} (ho : fp_Ok Q σ) : ∀ d n x, n + d ≤ m → fp_In m σ x → fp_In m σ (fp_sw cla d n x) := by
  intro d
  induction d with
  | zero => intro n x _ h; exact h
  | succ d ih => intro n x h1 h; exact ih _ _ (by omega) (fp_s1_in hc hq hm (by omega) h ho)
theorem fp_st_in (hc : fn_CL Q cla) (hq : fp_QB m Q) (hm : m ≤ 6) {σ : Nat → Bool} (ho : fp_Ok Q σ) (h : fp_In m σ x) : fp_In m σ (fp_st cla m x) := by
  unfold fp_st
  have : ∀ t x, fp_In m σ x → fp_In m σ (fp_it (fp_sw cla m 0) t x) := by
    intro t
    induction t with
    | zero => intro x h; exact h
    | succ t ih => intro x h; exact ih _ (fp_sw_in hc hq hm ho m 0 x (by omega) h)
  exact this 12 x h
theorem fp_st_le : fp_Le (fp_st cla m x) x := by
  unfold fp_st
  have : ∀ t x, fp_Le (fp_it (fp_sw cla m 0) t x) x := by
    intro t
    induction t with
    | zero => intro x; exact fp_Le_r
    | succ t ih => intro x; exact fp_Le_t (ih _) (fp_sw_le m 0 x)
  exact this 12 x
/-- possibilities left -/
def fp_mu (x : Int32) : Nat → Nat
  | 0 => 0
  | k + 1 => fp_mu x k + (if bt x k = true then 1 else 0)
theorem fp_mu_b : ∀ k, fp_mu x k ≤ k := by
  intro k
  induction k with
  | zero => exact Nat.le_refl 0
  | succ k ih =>
    show fp_mu x k + _ ≤ _
    split <;> omega
theorem fp_mu_le {y : Int32} (h : fp_Le y x) : ∀ k, k ≤ 32 → fp_mu y k ≤ fp_mu x k := by
  intro k
  induction k with
  | zero => intro _; exact Nat.le_refl 0
  | succ k ih =>
    intro hk
    have := ih (by omega)
    show fp_mu y k + _ ≤ fp_mu x k + _
    by_cases z : bt y k = true
    · rw [if_pos z, if_pos (h k (by omega) z)]; omega
    · rw [if_neg z]; omega
theorem fp_mu_lt {y : Int32} (h : fp_Le y x) {b : Nat} (h1 : bt x b = true) (h2 : bt y b = false) : ∀ k, b < k → k ≤ 32 → fp_mu y k < fp_mu x k := by
  intro k
  induction k with
  | zero => intro hb; omega
  | succ k ih =>
    intro hb hk
    show fp_mu y k + _ < fp_mu x k + _
    by_cases e : k = b
    · subst e
      have := fp_mu_le h k (by omega)
      rw [h1, h2]
      simp
      omega
    · have := ih (by omega) (by omega)
      by_cases z : bt y k = true
      · rw [if_pos z, if_pos (h k (by omega) z)]; omega
      · rw [if_neg z]; omega
/-- a sweep touches no bit beyond the twelve -/
theorem fp_s1_hi (hc : fn_CL Q cla) (hq : fp_QB m Q) (hm : m ≤ 6) {n b : Nat} (hn : n < m) (hb : 12 ≤ b) (hb2 : b < 32) : bt (fp_s1 cla x n) b = bt x b := by
  unfold fp_s1
  split
  · rw [b_and, fn_not hb2]
    cases y : bt (cla n) b
    · simp
    · have := (hq _ _ _ ((fp_b0 hc (by omega) hb2).mp y)).2.1
      omega
  · split
    · rw [b_and, fn_not hb2, show ((6 : Int32) &&& 31) = (nI 6 &&& 31) from rfl, b_shl 6 (by omega) _ hb2]
      cases y : bt (cla (6 + n)) (b - 6)
      · simp
      · have := (hq _ _ _ ((fp_b6 hc (by omega) (by omega)).mp y)).2.1
        omega
    · rfl
theorem fp_sw_hi (hc : fn_CL Q cla) (hq : fp_QB m Q) (hm : m ≤ 6) {b : Nat} (hb : 12 ≤ b) (hb2 : b < 32) : ∀ d n x, n + d ≤ m → bt (fp_sw cla d n x) b = bt x b := by
  intro d
  induction d with
  | zero => intro n x _; rfl
  | succ d ih =>
    intro n x h1
    show bt (fp_sw cla d (n + 1) (fp_s1 cla x n)) b = _
    rw [ih _ _ (by omega), fp_s1_hi hc hq hm (by omega) hb hb2]
theorem fp_fix (hc : fn_CL Q cla) (hq : fp_QB m Q) (hm : m ≤ 6) : ∀ t x, fp_mu x 12 ≤ t → fp_sw cla m 0 (fp_it (fp_sw cla m 0) t x) = fp_it (fp_sw cla m 0) t x := by
  have stay : ∀ t x, fp_sw cla m 0 x = x → fp_it (fp_sw cla m 0) t x = x := by
    intro t
    induction t with
    | zero => intro x _; rfl
    | succ t ih =>
      intro x h
      show fp_it _ t (fp_sw cla m 0 x) = x
      rw [h]; exact ih x h
  have dec : ∀ x, fp_sw cla m 0 x ≠ x → fp_mu (fp_sw cla m 0 x) 12 < fp_mu x 12 := by
    intro x h
    have le := fp_sw_le (cla := cla) m 0 x
    have : ∃ b, b < 12 ∧ bt x b = true ∧ bt (fp_sw cla m 0 x) b = false := by
      apply Classical.byContradiction
      intro z
      apply h
      refine fp_Le_a le (fun b hb hx => ?_)
      by_cases w : b < 12
      · cases y : bt (fp_sw cla m 0 x) b
        · exact absurd ⟨b, w, hx, y⟩ z
        · rfl
      · rw [fp_sw_hi hc hq hm (by omega) hb m 0 x (by omega)]; exact hx
    obtain ⟨b, b1, b2, b3⟩ := this
    exact fp_mu_lt le b2 b3 12 b1 (by omega)
  intro t
  induction t with
  | zero =>
    intro x h
    apply Decidable.byContradiction
    intro z
    have := dec x z
    omega
  | succ t ih =>
    intro x h
    by_cases z : fp_sw cla m 0 x = x
    · rw [stay (t + 1) x z]; exact z
    · exact ih _ (by have := dec x z; omega)
theorem fp_st_fix (hc : fn_CL Q cla) (hq : fp_QB m Q) (hm : m ≤ 6) : fp_sw cla m 0 (fp_st cla m x) = fp_st cla m x := fp_fix hc hq hm 12 x (fp_mu_b 12)
/-- a fixed point of the sweep draws no more conclusions -/
theorem fp_fix_s1 : ∀ d n x, fp_sw cla d n x = x → ∀ k, n ≤ k → k < n + d → fp_s1 cla x k = x := by
  intro d
  induction d with
  | zero => intro n x _ k h1 h2; omega
  | succ d ih =>
    intro n x h k h1 h2
    have h : fp_sw cla d (n + 1) (fp_s1 cla x n) = x := h
    have e : fp_s1 cla x n = x := by
      refine fp_Le_a fp_s1_le ?_
      have := fp_sw_le (cla := cla) d (n + 1) (fp_s1 cla x n)
      rw [h] at this
      exact this
    by_cases z : k = n
    · subst z; exact e
    · rw [e] at h
      exact ih (n + 1) x h k (by omega) (by omega)
theorem fp_settled (hc : fn_CL Q cla) (hq : fp_QB m Q) (hm : m ≤ 6) (h : fp_sw cla m 0 x = x) : fp_Set m Q x := by
  intro s a b ha hQ d1 d2 d3
  have e := fp_fix_s1 m 0 x h a (by omega) (by omega)
  have hb := (hq _ _ _ hQ).2.1
  unfold fp_s1 at e
  cases s
  · rw [fp_D0] at d1 d3
    have d2 : ¬ fp_D x true a := d2
    rw [fp_D1] at d2
    rw [if_pos ⟨d1, fp_bf d2⟩] at e
    have := congrArg (fun z => bt z b) e
    rw [b_and, fn_not (by omega), (fp_b0 hc (by omega) (by omega)).mpr hQ, d3] at this
    exact absurd this (by decide)
  · have d2 : ¬ fp_D x false a := d2
    rw [fp_D0] at d2
    rw [fp_D1] at d1 d3
    rw [if_neg (fun z => d2 z.1), if_pos ⟨d1, fp_bf d2⟩] at e
    have := congrArg (fun z => bt z (6 + b)) e
    rw [b_and, fn_not (by omega), show ((6 : Int32) &&& 31) = (nI 6 &&& 31) from rfl, b_shl 6 (by omega) _ (by omega), show 6 + b - 6 = b by omega, (fp_b6 hc (by omega) (by omega)).mpr hQ, d3, decide_eq_true (by omega : 6 ≤ 6 + b)] at this
    exact absurd this (by decide)
/-- all conditions speak of two nodes: what settles needs no undoing -/
theorem fp_2sat (hq : fp_QB m Q) (hm : m ≤ 6) {T D : Int32} (hT : fp_Set m Q T) (hB : ¬ fp_Br m T) {σ : Nat → Bool} (hσ : fp_In m σ D) (ho : fp_Ok Q σ) :
    ∃ τ, fp_In m τ T ∧ fp_Ok Q τ := by
  let τ : Nat → Bool := fun n => if bt T (6 + n) = false then false else if bt T n = false then true else σ n
  have nb : ∀ n, n < m → bt T n = false → bt T (6 + n) = false → False := fun n hn a b => hB ⟨n, hn, fun z => by rw [fp_D0, a] at z; exact absurd z (by decide), fun z => by rw [fp_D1, b] at z; exact absurd z (by decide)⟩
  have t1 : ∀ n, bt T (6 + n) = false → τ n = false := fun n a => by show (if _ then _ else _) = _; rw [if_pos a]
  have t2 : ∀ n, bt T (6 + n) = true → bt T n = false → τ n = true := fun n a b => by show (if _ then _ else _) = _; rw [if_neg (by rw [a]; decide), if_pos b]
  have t3 : ∀ n, bt T (6 + n) = true → bt T n = true → τ n = σ n := fun n a b => by show (if _ then _ else _) = _; rw [if_neg (by rw [a]; decide), if_neg (by rw [b]; decide)]
  have hin : fp_In m τ T := by
    intro n hn
    cases a : bt T (6 + n)
    · rw [t1 n a, fp_D0]
      cases b : bt T n
      · exact absurd (nb n hn b a) id
      · rfl
    · cases b : bt T n
      · rw [t2 n a b, fp_D1]; exact a
      · rw [t3 n a b]
        cases σ n
        · rw [fp_D0]; exact b
        · rw [fp_D1]; exact a
  -- a node with one marker left decides
  have single : ∀ s a b, a < m → b < m → Q s a b → τ a = s → ¬ fp_D T (!s) a → τ b = s → False := by
    intro s a b ha hb hQ e1 e2 e3
    have d1 := hin a ha
    rw [e1] at d1
    have n3 := hT s a b ha hQ d1 e2
    have d3 := hin b hb
    rw [e3] at d3
    exact n3 d3
  refine ⟨τ, hin, fun s a b hQ ⟨e1, e2⟩ => ?_⟩
  obtain ⟨ha, hb, hQ'⟩ := hq s a b hQ
  by_cases z1 : fp_D T (!s) a
  · by_cases z2 : fp_D T (!s) b
    · have fa : τ a = σ a := by
        have d1 := hin a ha
        rw [e1] at d1
        cases s
        · exact t3 a z1 (fp_D0.mp d1)
        · exact t3 a d1 (fp_D0.mp z1)
      have fb : τ b = σ b := by
        have d1 := hin b hb
        rw [e2] at d1
        cases s
        · exact t3 b z2 (fp_D0.mp d1)
        · exact t3 b d1 (fp_D0.mp z2)
      exact ho s a b hQ ⟨by rw [← fa]; exact e1, by rw [← fb]; exact e2⟩
    · exact single s b a hb ha hQ' e2 z2 e1
  · exact single s a b ha hb hQ e1 z1 e2
theorem fp_nbr {σ : Nat → Bool} (h : fp_In m σ x) : ¬ fp_Br m x := by
  intro ⟨n, hn, a, b⟩
  have := h n hn
  cases z : σ n
  · rw [z] at this; exact a this
  · rw [z] at this; exact b this
/-- one marker taken away -/
theorem fp_rm {s : Bool} {n : Nat} (hn : n < 6) {σ : Nat → Bool} (hm : m ≤ 6) (h : fp_In m σ x) (hs : ¬ σ n = s) : fp_In m σ (x &&& (((1 : Int32) <<< (nI (fn_sh s + n) &&& 31)) ^^^ (-1))) := by
  intro k hk
  have hx := h k hk
  unfold fp_D at hx ⊢
  have sl : fn_sh s ≤ 6 := by unfold fn_sh; split <;> omega
  have sl' : fn_sh (σ k) ≤ 6 := by unfold fn_sh; split <;> omega
  rw [fn_clr (by omega) (by omega), hx, decide_eq_false]
  · rfl
  · intro e
    have e := (fn_shi (by omega : k < 6) hn).mp e
    exact hs (by rw [← e.2]; exact e.1)
theorem fp_rm_n {s : Bool} {n : Nat} (hn : n < 6) : ¬ fp_D (x &&& (((1 : Int32) <<< (nI (fn_sh s + n) &&& 31)) ^^^ (-1))) s n := by
  have sl : fn_sh s ≤ 6 := by unfold fn_sh; split <;> omega
  unfold fp_D
  rw [fn_clr (by omega) (by omega), decide_eq_true rfl]
  simp
theorem fp_rm_le {s : Bool} {n : Nat} (hn : n < 6) : fp_Le (x &&& (((1 : Int32) <<< (nI (fn_sh s + n) &&& 31)) ^^^ (-1))) x := by
  intro b hb h
  rw [b_and, Bool.and_eq_true] at h
  exact h.1
/-- the choice so far: the first solution is still there -/
def fp_Inv (m : Nat) (Q : Bool → Nat → Nat → Prop) (x0 : Int32) (n : Nat) (x : Int32) : Prop :=
  fp_Le x x0 ∧ (∀ k, k < n → (fp_D x false k ∧ ¬ fp_D x true k) ∨ (¬ fp_D x false k ∧ fp_D x true k)) ∧ (0 < n → fp_Set m Q x ∧ ¬ fp_Br m x) ∧
  (∀ σ, fp_In m σ x0 → fp_Ok Q σ → fp_In m σ x ∨ ∃ k, k < n ∧ (∀ j, j < k → fp_D x (σ j) j) ∧ fp_D x false k ∧ σ k = true) ∧
  ((∃ σ, fp_In m σ x0 ∧ fp_Ok Q σ) → ∃ σ, fp_In m σ x ∧ fp_Ok Q σ)
theorem fp_Inv_0 : fp_Inv m Q x 0 x := ⟨fp_Le_r, fun k hk => by omega, fun h => by omega, fun σ h _ => Or.inl h, fun h => h⟩
/-- a settled part of a state with decided nodes keeps them -/
theorem fp_keep {T D : Int32} {n : Nat} (hm : m ≤ 6) (hn : n ≤ m) (hl : fp_Le T D) (hB : ¬ fp_Br m T) (hd : ∀ k, k < n → (fp_D D false k ∧ ¬ fp_D D true k) ∨ (¬ fp_D D false k ∧ fp_D D true k)) :
    ∀ k, k < n → ∀ s, fp_D T s k ↔ fp_D D s k := by
  intro k hk s
  refine ⟨fp_Le_D hl (by omega), fun h => ?_⟩
  apply Classical.byContradiction
  intro z
  refine hB ⟨k, by omega, fun a => ?_, fun b => ?_⟩
  · cases s
    · exact z a
    · rcases hd k hk with w | w
      · exact w.2 h
      · exact w.1 (fp_Le_D hl (by omega) a)
  · cases s
    · rcases hd k hk with w | w
      · exact w.2 (fp_Le_D hl (by omega) b)
      · exact w.1 h
    · exact z b
theorem fp_step_s (hc : fn_CL Q cla) (hq : fp_QB m Q) (hm : m ≤ 6) {x0 : Int32} {n : Nat} (hn : n < m) (hI : fp_Inv m Q x0 n x)
    (hB : ¬ fp_Br m (fp_st cla m (x &&& (((1 : Int32) <<< (nI (fn_sh true + n) &&& 31)) ^^^ (-1))))) : fp_Inv m Q x0 (n + 1) (fp_st cla m (x &&& (((1 : Int32) <<< (nI (fn_sh true + n) &&& 31)) ^^^ (-1)))) := by
  obtain ⟨i1, i2, i3, i4, i5⟩ := hI
  have le : fp_Le (fp_st cla m (x &&& (((1 : Int32) <<< (nI (fn_sh true + n) &&& 31)) ^^^ (-1)))) x := fp_Le_t fp_st_le (fp_rm_le (by omega))
  have kp := fp_keep hm (by omega : n ≤ m) le hB i2
  have set := fp_settled hc hq hm (fp_st_fix (x := x &&& (((1 : Int32) <<< (nI (fn_sh true + n) &&& 31)) ^^^ (-1))) hc hq hm)
  have nt : ¬ fp_D (fp_st cla m (x &&& (((1 : Int32) <<< (nI (fn_sh true + n) &&& 31)) ^^^ (-1)))) true n := fun z => fp_rm_n (s := true) (by omega : n < 6) (fp_Le_D fp_st_le (by omega) z)
  have ft : fp_D (fp_st cla m (x &&& (((1 : Int32) <<< (nI (fn_sh true + n) &&& 31)) ^^^ (-1)))) false n := by
    apply Classical.byContradiction
    intro z
    exact hB ⟨n, hn, z, nt⟩
  refine ⟨fp_Le_t le i1, fun k hk => ?_, fun _ => ⟨set, hB⟩, fun σ h1 h2 => ?_, fun h => ?_⟩
  · by_cases e : k = n
    · subst e; exact Or.inl ⟨ft, nt⟩
    · rw [kp k (by omega), kp k (by omega)]; exact i2 k (by omega)
  · rcases i4 σ h1 h2 with z | ⟨k, k1, k2, k3, k4⟩
    · cases w : σ n
      · exact Or.inl (fp_st_in hc hq hm h2 (fp_rm (by omega) hm z (by rw [w]; decide)))
      · exact Or.inr ⟨n, by omega, fun j hj => (kp j hj _).mpr (z j (by omega)), ft, w⟩
    · exact Or.inr ⟨k, by omega, fun j hj => (kp j (by omega) _).mpr (k2 j hj), (kp k k1 _).mpr k3, k4⟩
  · obtain ⟨σ, s1, s2⟩ := i5 h
    exact fp_2sat hq hm set hB s1 s2
theorem fp_broken_s (hc : fn_CL Q cla) (hq : fp_QB m Q) (hm : m ≤ 6) {n : Nat} (hn : n < m)
    (hB : fp_Br m (fp_st cla m (x &&& (((1 : Int32) <<< (nI (fn_sh true + n) &&& 31)) ^^^ (-1))))) {σ : Nat → Bool} (h : fp_In m σ x) (ho : fp_Ok Q σ) : σ n = true := by
  cases w : σ n
  · exact absurd hB (fp_nbr (fp_st_in hc hq hm ho (fp_rm (by omega) hm h (by rw [w]; decide))))
  · rfl
theorem fp_broken_u (hc : fn_CL Q cla) (hq : fp_QB m Q) (hm : m ≤ 6) {n : Nat} (hn : n < m)
    (hB : fp_Br m (fp_st cla m (x &&& (((1 : Int32) <<< (nI (fn_sh false + n) &&& 31)) ^^^ (-1))))) {σ : Nat → Bool} (h : fp_In m σ x) (ho : fp_Ok Q σ) : σ n = false := by
  cases w : σ n
  · rfl
  · exact absurd hB (fp_nbr (fp_st_in hc hq hm ho (fp_rm (by omega) hm h (by rw [w]; decide))))
theorem fp_step_u (hc : fn_CL Q cla) (hq : fp_QB m Q) (hm : m ≤ 6) {x0 : Int32} {n : Nat} (hn : n < m) (hI : fp_Inv m Q x0 n x)
    (hS : fp_Br m (fp_st cla m (x &&& (((1 : Int32) <<< (nI (fn_sh true + n) &&& 31)) ^^^ (-1)))))
    (hB : ¬ fp_Br m (fp_st cla m (x &&& (((1 : Int32) <<< (nI (fn_sh false + n) &&& 31)) ^^^ (-1))))) : fp_Inv m Q x0 (n + 1) (fp_st cla m (x &&& (((1 : Int32) <<< (nI (fn_sh false + n) &&& 31)) ^^^ (-1)))) := by
  obtain ⟨i1, i2, i3, i4, i5⟩ := hI
  have le : fp_Le (fp_st cla m (x &&& (((1 : Int32) <<< (nI (fn_sh false + n) &&& 31)) ^^^ (-1)))) x := fp_Le_t fp_st_le (fp_rm_le (by omega))
  have kp := fp_keep hm (by omega : n ≤ m) le hB i2
  have set := fp_settled hc hq hm (fp_st_fix (x := x &&& (((1 : Int32) <<< (nI (fn_sh false + n) &&& 31)) ^^^ (-1))) hc hq hm)
  have nt : ¬ fp_D (fp_st cla m (x &&& (((1 : Int32) <<< (nI (fn_sh false + n) &&& 31)) ^^^ (-1)))) false n := fun z => fp_rm_n (s := false) (by omega : n < 6) (fp_Le_D fp_st_le (by omega) z)
  have ft : fp_D (fp_st cla m (x &&& (((1 : Int32) <<< (nI (fn_sh false + n) &&& 31)) ^^^ (-1)))) true n := by
    apply Classical.byContradiction
    intro z
    exact hB ⟨n, hn, nt, z⟩
  have inn : ∀ σ, fp_In m σ x → fp_Ok Q σ → fp_In m σ (fp_st cla m (x &&& (((1 : Int32) <<< (nI (fn_sh false + n) &&& 31)) ^^^ (-1)))) := fun σ h1 h2 =>
    fp_st_in hc hq hm h2 (fp_rm (by omega) hm h1 (by rw [fp_broken_s hc hq hm hn hS h1 h2]; decide))
  refine ⟨fp_Le_t le i1, fun k hk => ?_, fun _ => ⟨set, hB⟩, fun σ h1 h2 => ?_, fun h => ?_⟩
  · by_cases e : k = n
    · subst e; exact Or.inr ⟨nt, ft⟩
    · rw [kp k (by omega), kp k (by omega)]; exact i2 k (by omega)
  · rcases i4 σ h1 h2 with z | ⟨k, k1, k2, k3, k4⟩
    · exact Or.inl (inn σ z h2)
    · exact Or.inr ⟨k, by omega, fun j hj => (kp j (by omega) _).mpr (k2 j hj), (kp k k1 _).mpr k3, k4⟩
  · obtain ⟨σ, s1, s2⟩ := i5 h
    exact ⟨σ, inn σ s1 s2, s2⟩
/-- the first solution -/
def fp_First (m : Nat) (ok : (Nat → Bool) → Prop) (τ : Nat → Bool) : Prop :=
  ok τ ∧ ∀ σ, ok σ → (∀ n, n < m → σ n = τ n) ∨ ∃ k, k < m ∧ (∀ j, j < k → σ j = τ j) ∧ τ k = false ∧ σ k = true
theorem fp_end (hq : fp_QB m Q) (hm : m ≤ 6) {x0 : Int32} (hI : fp_Inv m Q x0 m x) : fp_First m (fun σ => fp_In m σ x0 ∧ fp_Ok Q σ) (fun n => !bt x n) := by
  obtain ⟨i1, i2, i3, i4, i5⟩ := hI
  have val : ∀ n, n < m → ∀ s, fp_D x s n ↔ s = !bt x n := by
    intro n hn s
    rcases i2 n hn with ⟨a, b⟩ | ⟨a, b⟩
    · have e := fp_D0.mp a
      rw [e]
      cases s
      · exact ⟨fun _ => rfl, fun _ => a⟩
      · exact ⟨fun z => absurd z b, fun z => absurd z (by decide)⟩
    · have e : bt x n = false := fp_bf (fun z => a (fp_D0.mpr z))
      rw [e]
      cases s
      · exact ⟨fun z => absurd z a, fun z => absurd z (by decide)⟩
      · exact ⟨fun _ => rfl, fun _ => b⟩
  have inx : fp_In m (fun n => !bt x n) x := fun n hn => (val n hn _).mpr rfl
  refine ⟨⟨fun n hn => fp_Le_D i1 (by omega) (inx n hn), fun s a b hQ ⟨e1, e2⟩ => ?_⟩, fun σ ⟨h1, h2⟩ => ?_⟩
  · obtain ⟨ha, hb, _⟩ := hq s a b hQ
    have da : fp_D x s a := (val a ha s).mpr e1.symm
    have db : fp_D x s b := (val b hb s).mpr e2.symm
    refine (i3 (by omega)).1 s a b ha hQ da (fun z => ?_) db
    have := (val a ha _).mp z
    have e1 : (!bt x a) = s := e1
    rw [e1] at this
    cases s <;> exact absurd this (by decide)
  · rcases i4 σ h1 h2 with z | ⟨k, k1, k2, k3, k4⟩
    · exact Or.inl (fun n hn => (val n hn _).mp (z n hn))
    · exact Or.inr ⟨k, k1, fun j hj => (val j (by omega) _).mp (k2 j hj), ((val k k1 _).mp k3).symm, k4⟩
end FP
end
section
/-! print: X's sweep, settle, broken, chooseMarkers, paintMarkers -/
theorem fq_6 (n : Nat) : (6 : Int32) + nI n = nI (6 + n) := nI_add 6 n
theorem fq_t {b : Bool} (h : ¬ b = false) : b = true := by cases b <;> simp_all
theorem fq_e0 (n : Nat) : fn_sh false + n = n := by unfold fn_sh; simp
theorem fq_e1 (n : Nat) : fn_sh true + n = 6 + n := rfl
theorem fq_tx {K H : Nat → Int32} {w : Nat → Nat} {mk mk' : Nat → Int32} {C i d : Nat} (hk : eb_Kc (K i) (H i)) (h : fl_mr K i = true → mk i = mk' i) : fi_tx K H w mk i d = fi_tx K H w mk' i d := by
  unfold fi_tx
  by_cases k0 : K i = 0
  · rw [if_pos k0, if_pos k0]
  · rw [if_neg k0, if_neg k0]
    by_cases k37 : K i = 3 ∨ K i = 7
    · rw [if_pos k37, if_pos k37]
    · rw [if_neg k37, if_neg k37]
      by_cases k4 : K i = 4
      · rw [if_pos k4, if_pos k4]
      · rw [if_neg k4, if_neg k4]
        by_cases k8 : K i = 8
        · rw [if_pos k8, if_pos k8]
        · rw [if_neg k8, if_neg k8]
          apply h
          unfold fl_mr
          rcases hk with z | ⟨z | z | z | z | z | z | z, _⟩ | z
          · exact absurd z.1 k0
          · rw [z]; decide
          · rw [z]; decide
          · exact absurd (Or.inl z) k37
          · exact absurd z k4
          · rw [z]; decide
          · rw [z]; decide
          · exact absurd (Or.inr z) k37
          · exact absurd z.1 k8
/-- a marker's writing -/
theorem fq_txm {K H : Nat → Int32} {w : Nat → Nat} {mk : Nat → Int32} {i d : Nat} (h : fl_mr K i = true) : fi_tx K H w mk i d = mk i := by
  have z : K i = 1 ∨ K i = 2 ∨ K i = 5 ∨ K i = 6 := by
    unfold fl_mr at h
    rw [Bool.or_eq_true] at h
    rcases h with h | h
    · have := of_decide_eq_true h
      rcases this with z | z
      · exact Or.inl z
      · exact Or.inr (Or.inl z)
    · have := of_decide_eq_true h
      exact Or.inr (Or.inr this)
  unfold fi_tx
  rw [if_neg (by rcases z with z | z | z | z <;> rw [z] <;> decide), if_neg (by rcases z with z | z | z | z <;> rw [z] <;> decide), if_neg (by rcases z with z | z | z | z <;> rw [z] <;> decide), if_neg (by rcases z with z | z | z | z <;> rw [z] <;> decide)]
section FQ
variable {f_length f_depth f_linkCount f_runCount f_openerCount f_domain : Int32} {a_source a_kinds a_chars a_mate a_openStack a_cellKind a_group a_live a_runLo a_runHi a_runChar a_runSize a_runGroup a_runOpens a_runCloses a_openers a_floors a_start a_width a_out a_nodeOf a_clash : Nat → Int32} {c C m : Nat}
theorem fq_xsweep {post : Int32 → Prop} {x : Int32} (hm : m ≤ 6) (h : post (fp_sw a_clash m 0 x)) : wpX_sweep post ((nI c), f_length, (nI C), f_depth, f_linkCount, f_runCount, f_openerCount, (nI m), f_domain, a_source, a_kinds, a_chars, a_mate, a_openStack, a_cellKind, a_group, a_live, a_runLo, a_runHi, a_runChar, a_runSize, a_runGroup, a_runOpens, a_runCloses, a_openers, a_floors, a_start, a_width, a_out, a_nodeOf, a_clash) x := by
  have key : ∀ d n f x, n + d = m → d < f → post (fp_sw a_clash d n x) → wX_sweep_4 post (nI c) f_length (nI C) f_depth f_linkCount f_runCount f_openerCount (nI m) f_domain a_source a_kinds a_chars a_mate a_openStack a_cellKind a_group a_live a_runLo a_runHi a_runChar a_runSize a_runGroup a_runOpens a_runCloses a_openers a_floors a_start a_width a_out a_nodeOf a_clash f x (nI n) := by
    intro d
    induction d with
    | zero =>
      intro n f x h1 h2 h3
      obtain ⟨f, rfl⟩ : ∃ z, f = z + 1 := ⟨f - 1, by omega⟩
      exact br_t (nI_le (by omega) (by omega)) h3
    | succ d ih =>
      intro n f x h1 h2 h3
      obtain ⟨f, rfl⟩ : ∃ z, f = z + 1 := ⟨f - 1, by omega⟩
      have cn : (nI n).toNatClampNeg = n := nI_clamp (by omega)
      have c6 : (nI (6 + n)).toNatClampNeg = 6 + n := nI_clamp (by omega)
      have nx := fun y => ih (n + 1) f y (by omega) (by omega)
      have h3 : post (fp_sw a_clash d (n + 1) (fp_s1 a_clash x n)) := h3
      unfold fp_s1 at h3
      refine br_f (nI_ge (by omega) (by omega)) (br_c (fun a => ?_) (fun a => ?_))
      · rw [fe_sh32 x (by omega)] at a
        unfold wX_sweep_25
        rw [fq_6]
        refine br_c (fun b => ?_) (fun b => ?_)
        · rw [fe_sh32 x (by omega)] at b
          rw [if_neg (by rw [a]; simp), if_neg (by rw [b]; simp)] at h3
          exact br_t rfl (br_t rfl (nm_r (nI_1 n) (nx x h3)))
        · rw [fe_sh32 x (by omega)] at b
          rw [if_neg (by rw [a]; simp), if_pos ⟨fq_t b, a⟩] at h3
          refine br_t rfl (br_f (by decide) (br_t rfl ?_))
          rw [fq_6, c6]
          exact ⟨vp_in_nI (by omega) (by omega), nm_e (nm_r (nI_1 n) (nx _ h3))⟩
      · rw [fe_sh32 x (by omega)] at a
        unfold wX_sweep_25
        rw [fq_6]
        refine br_c (fun b => ?_) (fun b => ?_)
        · rw [fe_sh32 x (by omega)] at b
          rw [if_pos ⟨fq_t a, b⟩] at h3
          refine br_f (by decide) (br_t rfl ?_)
          rw [cn]
          exact ⟨vp_in_nI (by omega) (by omega), nm_e (br_t rfl (nm_r (nI_1 n) (nx _ h3)))⟩
        · rw [fe_sh32 x (by omega)] at b
          rw [if_neg (fun z => b z.2), if_neg (fun z => a z.2)] at h3
          exact br_f (by decide) (br_f (by decide) (br_f (by decide) (br_f (by decide) (nm_r (nI_1 n) (nx x h3)))))
  exact ⟨_, key m 0 (m + 1) x (by omega) (by omega) h⟩
theorem fq_xsettle {post : Int32 → Prop} {x : Int32} (hm : m ≤ 6) (h : post (fp_st a_clash m x)) : wpX_settle post ((nI c), f_length, (nI C), f_depth, f_linkCount, f_runCount, f_openerCount, (nI m), f_domain, a_source, a_kinds, a_chars, a_mate, a_openStack, a_cellKind, a_group, a_live, a_runLo, a_runHi, a_runChar, a_runSize, a_runGroup, a_runOpens, a_runCloses, a_openers, a_floors, a_start, a_width, a_out, a_nodeOf, a_clash) x := by
  have key : ∀ d t f x, t + d = 12 → d < f → post (fp_it (fp_sw a_clash m 0) d x) → wX_settle_4 post (nI c) f_length (nI C) f_depth f_linkCount f_runCount f_openerCount (nI m) f_domain a_source a_kinds a_chars a_mate a_openStack a_cellKind a_group a_live a_runLo a_runHi a_runChar a_runSize a_runGroup a_runOpens a_runCloses a_openers a_floors a_start a_width a_out a_nodeOf a_clash f x (nI t) := by
    intro d
    induction d with
    | zero =>
      intro t f x h1 h2 h3
      obtain ⟨f, rfl⟩ : ∃ z, f = z + 1 := ⟨f - 1, by omega⟩
      exact br_t (nI_le (a := 12) (by omega) (by omega)) h3
    | succ d ih =>
      intro t f x h1 h2 h3
      obtain ⟨f, rfl⟩ : ∃ z, f = z + 1 := ⟨f - 1, by omega⟩
      exact br_f (nI_ge (b := 12) (by omega) (by omega)) (fq_xsweep hm (nm_r (nI_1 t) (ih (t + 1) f _ (by omega) (by omega) h3)))
  exact ⟨_, key 12 0 13 x (by omega) (by omega) h⟩
theorem fq_xbroken {post : Int32 → Prop} {x : Int32} (hm : m ≤ 6) (h1 : fp_Br m x → post 1) (h0 : ¬ fp_Br m x → post 0) : wpX_broken post ((nI c), f_length, (nI C), f_depth, f_linkCount, f_runCount, f_openerCount, (nI m), f_domain, a_source, a_kinds, a_chars, a_mate, a_openStack, a_cellKind, a_group, a_live, a_runLo, a_runHi, a_runChar, a_runSize, a_runGroup, a_runOpens, a_runCloses, a_openers, a_floors, a_start, a_width, a_out, a_nodeOf, a_clash) x := by
  have bits : ∀ n, n < 6 → (bt (x ||| (x >>> ((6 : Int32) &&& 31))) n = false ↔ (¬ fp_D x false n ∧ ¬ fp_D x true n)) := by
    intro n hn
    rw [b_or, show ((6 : Int32) &&& 31) = (nI 6 &&& 31) from rfl, b_sshr 6 (by omega) x (by omega), if_pos (by omega), fp_D0, fp_D1]
    cases bt x n <;> cases bt x (6 + n) <;> simp
  have key : ∀ d n f, n + d = m → d < f → (∀ k, k < n → ¬ (¬ fp_D x false k ∧ ¬ fp_D x true k)) → wX_broken_9 post (x ||| (x >>> ((6 : Int32) &&& 31))) (nI c) f_length (nI C) f_depth f_linkCount f_runCount f_openerCount (nI m) f_domain a_source a_kinds a_chars a_mate a_openStack a_cellKind a_group a_live a_runLo a_runHi a_runChar a_runSize a_runGroup a_runOpens a_runCloses a_openers a_floors a_start a_width a_out a_nodeOf a_clash f (nI n) := by
    intro d
    induction d with
    | zero =>
      intro n f h2 h3 h4
      obtain ⟨f, rfl⟩ : ∃ z, f = z + 1 := ⟨f - 1, by omega⟩
      exact br_t (nI_le (by omega) (by omega)) (h0 (fun ⟨k, k1, k2⟩ => h4 k (by omega) k2))
    | succ d ih =>
      intro n f h2 h3 h4
      obtain ⟨f, rfl⟩ : ∃ z, f = z + 1 := ⟨f - 1, by omega⟩
      refine br_f (nI_ge (by omega) (by omega)) (br_c (fun a => h1 ⟨n, by omega, ?_⟩) (fun a => nm_r (nI_1 n) (ih (n + 1) f (by omega) (by omega) (fun k hk => ?_))))
      · rw [fe_sh32 _ (by omega)] at a
        exact (bits n (by omega)).mp a
      · by_cases e : k = n
        · subst e
          rw [fe_sh32 _ (by omega)] at a
          exact fun z => a ((bits k (by omega)).mpr z)
        · exact h4 k (by omega)
  exact nm_e ⟨_, key m 0 (m + 1) (by omega) (by omega) (fun k hk => by omega)⟩
theorem fq_xchoose {post : Int32 → SX → Prop} {Q : Bool → Nat → Nat → Prop} {x0 : Int32} (hc : fn_CL Q a_clash) (hq : fp_QB m Q) (hm : m ≤ 6)
    (h1 : ∀ dom, fp_First m (fun σ => fp_In m σ x0 ∧ fp_Ok Q σ) (fun n => !bt dom n) → post 1 ((nI c), f_length, (nI C), f_depth, f_linkCount, f_runCount, f_openerCount, (nI m), dom, a_source, a_kinds, a_chars, a_mate, a_openStack, a_cellKind, a_group, a_live, a_runLo, a_runHi, a_runChar, a_runSize, a_runGroup, a_runOpens, a_runCloses, a_openers, a_floors, a_start, a_width, a_out, a_nodeOf, a_clash))
    (h0 : (∀ σ, ¬ (fp_In m σ x0 ∧ fp_Ok Q σ)) → ∀ dom, post 0 ((nI c), f_length, (nI C), f_depth, f_linkCount, f_runCount, f_openerCount, (nI m), dom, a_source, a_kinds, a_chars, a_mate, a_openStack, a_cellKind, a_group, a_live, a_runLo, a_runHi, a_runChar, a_runSize, a_runGroup, a_runOpens, a_runCloses, a_openers, a_floors, a_start, a_width, a_out, a_nodeOf, a_clash)) : wpX_chooseMarkers post ((nI c), f_length, (nI C), f_depth, f_linkCount, f_runCount, f_openerCount, (nI m), x0, a_source, a_kinds, a_chars, a_mate, a_openStack, a_cellKind, a_group, a_live, a_runLo, a_runHi, a_runChar, a_runSize, a_runGroup, a_runOpens, a_runCloses, a_openers, a_floors, a_start, a_width, a_out, a_nodeOf, a_clash) := by
  have key : ∀ d n f x, n + d = m → d < f → fp_Inv m Q x0 n x → wX_chooseMarkers_2 post (nI c) f_length (nI C) f_depth f_linkCount f_runCount f_openerCount (nI m) a_source a_kinds a_chars a_mate a_openStack a_cellKind a_group a_live a_runLo a_runHi a_runChar a_runSize a_runGroup a_runOpens a_runCloses a_openers a_floors a_start a_width a_out a_nodeOf a_clash f (nI n) x := by
    intro d
    induction d with
    | zero =>
      intro n f x h2 h3 h4
      obtain ⟨f, rfl⟩ : ∃ z, f = z + 1 := ⟨f - 1, by omega⟩
      have e : n = m := by omega
      subst e
      exact br_t (nI_le (Nat.le_refl _) (by omega)) (h1 x (fp_end hq hm h4))
    | succ d ih =>
      intro n f x h2 h3 h4
      obtain ⟨f, rfl⟩ : ∃ z, f = z + 1 := ⟨f - 1, by omega⟩
      have hn : n < m := by omega
      refine br_f (nI_ge (by omega) (by omega)) ?_
      rw [fq_6]
      refine fq_xsettle hm (fq_xbroken hm (fun b1 => br_f (by decide) (fq_xsettle hm (fq_xbroken hm (fun b2 => br_f (by decide) (h0 (fun σ hs => ?_) x)) (fun b2 => br_t rfl (nm_r (nI_1 n) (ih (n + 1) f _ (by omega) (by omega) ?_)))))) (fun b1 => br_t rfl (nm_r (nI_1 n) (ih (n + 1) f _ (by omega) (by omega) ?_))))
      · obtain ⟨τ, t1, t2⟩ := h4.2.2.2.2 ⟨σ, hs⟩
        have e1 := fp_broken_s hc hq hm hn b1 t1 t2
        have e2 := fp_broken_u (cla := a_clash) (x := x) hc hq hm hn (by rw [fq_e0]; exact b2) t1 t2
        rw [e1] at e2
        exact absurd e2 (by decide)
      · have r := fp_step_u (cla := a_clash) (x := x) hc hq hm hn h4 b1 (by rw [fq_e0]; exact b2)
        rw [fq_e0] at r
        exact r
      · exact fp_step_s hc hq hm hn h4 b1
  exact ⟨_, key m 0 (m + 1) x0 (by omega) (by omega) fp_Inv_0⟩
end FQ
section FR
variable {f_length f_depth f_linkCount f_runCount f_openerCount f_nodes f_domain : Int32} {a_source a_kinds a_chars a_mate a_openStack a_cellKind a_group a_live a_runLo a_runHi a_runChar a_runSize a_runGroup a_runOpens a_runCloses a_openers a_floors a_start a_width a_out a_nodeOf a_clash : Nat → Int32} {c C : Nat} {w : Nat → Nat}
theorem fr_xpaint {post : SX → Prop} (hC : C ≤ 64) (hK : ∀ i, i < C → eb_Kc (a_kinds i) (a_chars i)) (hN : fo_N C a_kinds a_mate a_nodeOf) (hT : fi_ps w C ≤ 64) (hs : ∀ t, t < C → a_start t = nI (fi_ps w t) ∧ a_width t = nI (w t))
    (ho : ∀ i, i < C → ∀ d, d < w i → a_out (fi_ps w i + d) = fi_tx a_kinds a_chars w (fun _ => 42) i d)
    (h : ∀ o', (∀ i, i < C → ∀ d, d < w i → o' (fi_ps w i + d) = fi_tx a_kinds a_chars w (fk_mk a_kinds a_mate (fun n => !bt f_domain n)) i d) → post ((nI c), f_length, (nI C), f_depth, f_linkCount, f_runCount, f_openerCount, f_nodes, f_domain, a_source, a_kinds, a_chars, a_mate, a_openStack, a_cellKind, a_group, a_live, a_runLo, a_runHi, a_runChar, a_runSize, a_runGroup, a_runOpens, a_runCloses, a_openers, a_floors, a_start, a_width, o', a_nodeOf, a_clash)) : wpX_paintMarkers post ((nI c), f_length, (nI C), f_depth, f_linkCount, f_runCount, f_openerCount, f_nodes, f_domain, a_source, a_kinds, a_chars, a_mate, a_openStack, a_cellKind, a_group, a_live, a_runLo, a_runHi, a_runChar, a_runSize, a_runGroup, a_runOpens, a_runCloses, a_openers, a_floors, a_start, a_width, a_out, a_nodeOf, a_clash) := by
  have key : ∀ d i n o', i + d = C → d < n → (∀ t, t < C → ∀ d, d < w t → o' (fi_ps w t + d) = fi_tx a_kinds a_chars w (fun u => if u < i then fk_mk a_kinds a_mate (fun n => !bt f_domain n) u else 42) t d) → wX_paintMarkers_2 post n (nI i) (nI c) f_length (nI C) f_depth f_linkCount f_runCount f_openerCount f_nodes f_domain a_source a_kinds a_chars a_mate a_openStack a_cellKind a_group a_live a_runLo a_runHi a_runChar a_runSize a_runGroup a_runOpens a_runCloses a_openers a_floors a_start a_width o' a_nodeOf a_clash := by
    intro d
    induction d with
    | zero =>
      intro i n o' h1 h2 h3
      obtain ⟨n, rfl⟩ : ∃ z, n = z + 1 := ⟨n - 1, by omega⟩
      refine br_t (nI_le (by omega) (by omega)) (h o' (fun t ht d hd => ?_))
      rw [h3 t ht d hd]
      refine fq_tx (C := C) (hK t ht) (fun _ => ?_)
      rw [if_pos (by omega)]
    | succ d ih =>
      intro i n o' h1 h2 h3
      obtain ⟨n, rfl⟩ : ∃ z, n = z + 1 := ⟨n - 1, by omega⟩
      have hi : i < C := by omega
      have ci : (nI i).toNatClampNeg = i := nI_clamp (by omega)
      have vi : vp_in (nI i) 64 := vp_in_nI (by omega) (by omega)
      have pl := fi_ps_lt (w := w) hi
      refine br_f (nI_ge (by omega) (by omega)) ⟨vi, ?_⟩
      rw [ci]
      cases mr : fl_mr a_kinds i
      · rw [(hN i hi).2 mr]
        refine br_f (by decide) (nm_r (nI_1 i) (ih (i + 1) n o' (by omega) (by omega) (fun t ht d hd => ?_)))
        rw [h3 t ht d hd]
        refine fq_tx (C := C) (hK t ht) (fun mt => ?_)
        have : t ≠ i := fun z => by subst z; rw [mr] at mt; exact absurd mt (by decide)
        by_cases z : t < i
        · rw [if_pos z, if_pos (by omega)]
        · rw [if_neg z, if_neg (by omega)]
      · obtain ⟨n1, n2⟩ := (hN i hi).1 mr
        rw [n1]
        have fin : ∀ v, v = fk_mk a_kinds a_mate (fun n => !bt f_domain n) i → wX_paintMarkers_45 post (wX_paintMarkers_2 post n) (nI i) v (nI c) f_length (nI C) f_depth f_linkCount f_runCount f_openerCount f_nodes f_domain a_source a_kinds a_chars a_mate a_openStack a_cellKind a_group a_live a_runLo a_runHi a_runChar a_runSize a_runGroup a_runOpens a_runCloses a_openers a_floors a_start a_width o' a_nodeOf a_clash := by
          intro v hv
          refine fj_xfill (by omega) (hs i hi).1 (hs i hi).2 (by omega) (nm_r (nI_1 i) (ih (i + 1) n _ (by omega) (by omega) (fun t ht d hd => ?_)))
          have pt := fi_ps_lt (w := w) ht
          by_cases e : t = i
          · subst e
            rw [ee_fill_in (by omega) (by omega), fq_txm mr, if_pos (by omega)]; exact hv
          · have out : fi_ps w t + d < fi_ps w i ∨ fi_ps w i + w i ≤ fi_ps w t + d := by
              rcases Nat.lt_or_ge t i with z | z
              · have := fi_ps_lt (w := w) z; omega
              · have := fi_ps_lt (w := w) (by omega : i < t); omega
            rw [ee_fill_out out, h3 t ht d hd]
            refine fq_tx (C := C) (hK t ht) (fun _ => ?_)
            by_cases z : t < i
            · rw [if_pos z, if_pos (by omega)]
            · rw [if_neg z, if_neg (by omega)]
        refine br_t (ea_0le (by omega)) ⟨vi, br_c (fun a => fin 95 ?_) (fun a => fin 42 ?_)⟩
        · rw [fe_sh32 _ (by omega)] at a
          rw [fl_mk1 mr, a]; rfl
        · rw [fe_sh32 _ (by omega)] at a
          rw [fl_mk1 mr, fq_t a]; rfl
  exact ⟨_, key C 0 (C + 1) a_out (by omega) (by omega) (fun t ht d hd => by
    rw [ho t ht d hd]
    refine fq_tx (C := C) (hK t ht) (fun _ => ?_)
    rw [if_neg (by omega)])⟩
theorem fr_xcopy {post : Int32 → SX → Prop} {T : Nat} (hT : T ≤ 64) (h : post (nI T) ((nI c), (nI T), (nI C), f_depth, f_linkCount, f_runCount, f_openerCount, f_nodes, f_domain, (ee_cpy a_source a_out T), a_kinds, a_chars, a_mate, a_openStack, a_cellKind, a_group, a_live, a_runLo, a_runHi, a_runChar, a_runSize, a_runGroup, a_runOpens, a_runCloses, a_openers, a_floors, a_start, a_width, a_out, a_nodeOf, a_clash)) : ∃ n, wX_print_94 post (nI T) (nI c) f_length (nI C) f_depth f_linkCount f_runCount f_openerCount f_nodes f_domain n 0 a_source a_kinds a_chars a_mate a_openStack a_cellKind a_group a_live a_runLo a_runHi a_runChar a_runSize a_runGroup a_runOpens a_runCloses a_openers a_floors a_start a_width a_out a_nodeOf a_clash := by
  have key : ∀ d k n, k + d = T → d < n → wX_print_94 post (nI T) (nI c) f_length (nI C) f_depth f_linkCount f_runCount f_openerCount f_nodes f_domain n (nI k) (ee_cpy a_source a_out k) a_kinds a_chars a_mate a_openStack a_cellKind a_group a_live a_runLo a_runHi a_runChar a_runSize a_runGroup a_runOpens a_runCloses a_openers a_floors a_start a_width a_out a_nodeOf a_clash := by
    intro d
    induction d with
    | zero =>
      intro k n h1 h2
      obtain ⟨n, rfl⟩ : ∃ z, n = z + 1 := ⟨n - 1, by omega⟩
      have e : k = T := by omega
      subst e
      exact br_t (nI_le (Nat.le_refl _) (by omega)) h
    | succ d ih =>
      intro k n h1 h2
      obtain ⟨n, rfl⟩ : ∃ z, n = z + 1 := ⟨n - 1, by omega⟩
      have ck : (nI k).toNatClampNeg = k := nI_clamp (by omega)
      have vk : vp_in (nI k) 64 := vp_in_nI (by omega) (by omega)
      exact br_f (nI_ge (by omega) (by omega)) ⟨vk, vk, nm_r (e' := ee_cpy a_source a_out (k + 1)) (by rw [ck]; exact ee_cpy_s) (nm_r (nI_1 k) (ih (k + 1) n (by omega) (by omega)))⟩
  have q := key T 0 (T + 1) (by omega) (by omega)
  rw [ee_cpy_0] at q
  exact ⟨_, q⟩
end FR
end
section
/-! print: soundness as conditions on nodes; the first sound number; flanks -/
section FS
variable {K H M O : Nat → Int32} {C m : Nat} {op cl : Bool → Nat → Bool} {σ : Nat → Bool}
theorem fs_nn (I : eb_Itm C 0 K H M O) (hC : C ≤ 64) {t : Nat} (ht : t < C) (h : fl_mr K t = true) : fk_nn K M t < fe_nc K C := by
  unfold fk_nn
  cases e : fe_em (K t)
  · unfold fl_mr at h
    rw [e, Bool.false_or] at h
    obtain ⟨p, p1, p2, p3⟩ := fe_ec_p I ht h
    have := p2.1
    rw [if_neg (by decide), p1, nI_clamp (by omega)]
    exact fe_nc_lt (by omega) p3
  · rw [if_pos rfl]; exact fe_nc_lt ht e
theorem fs_mke {i j : Nat} (hi : fl_mr K i = true) (hj : fl_mr K j = true) : fk_mk K M σ i = fk_mk K M σ j ↔ σ (fk_nn K M i) = σ (fk_nn K M j) := by
  rw [fl_mk1 hi, fl_mk1 hj]
  cases σ (fk_nn K M i) <;> cases σ (fk_nn K M j) <;> decide
theorem fs_Gd_mr {p i : Nat} (hi : fe_em (K i) = true) (g : fl_Gd K C p i) : fl_mr K p = true := by
  unfold fl_mr
  rw [g.2.1, hi]; rfl
theorem fs_Sd (I : eb_Itm C 0 K H M O) (hC : C ≤ 64) : fl_Sd K M C op cl σ ↔ (∀ n, n < fe_nc K C → fo_P K M op cl C (σ n) n) ∧ fp_Ok (fo_Q K M C cl C) σ := by
  constructor
  · intro h
    refine ⟨fun n hn t ht mr e => ?_, fun s x y ⟨t, ht, mr, hq⟩ ⟨e1, e2⟩ => ?_⟩
    · have := (h t ht mr).2.1
      rw [e] at this
      exact this
    · rcases hq with ⟨q1, q2, q3⟩ | ⟨⟨q1, q2⟩, p, g, q3⟩
      · have : σ (fk_nn K M t) = s ∧ σ (fk_nn K M (t + 1)) = s := by
          rcases q3 with ⟨a, b⟩ | ⟨a, b⟩
          · rw [← a, ← b]; exact ⟨e1, e2⟩
          · rw [← a, ← b]; exact ⟨e2, e1⟩
        exact (h t ht mr).1 ⟨q1, (fs_mke q2 mr).mpr (by rw [this.1, this.2])⟩
      · have : σ (fk_nn K M p) = s ∧ σ (fk_nn K M t) = s := by
          rcases q3 with ⟨a, b⟩ | ⟨a, b⟩
          · rw [← a, ← b]; exact ⟨e1, e2⟩
          · rw [← a, ← b]; exact ⟨e2, e1⟩
        exact (h t ht mr).2.2 q1 (by rw [this.2]; exact q2) p g ((fs_mke (fs_Gd_mr q1 g) mr).mpr (by rw [this.1, this.2]))
  · intro ⟨h1, h2⟩ i hi mr
    refine ⟨fun ⟨a1, a2⟩ => ?_, h1 _ (fs_nn I hC hi mr) i hi mr rfl, fun em c2 p g e => ?_⟩
    · have mr2 : fl_mr K (i + 1) = true := by
        cases z : fl_mr K (i + 1)
        · rw [fl_mk0.mpr z] at a2
          rw [fl_mk0.mp a2.symm] at mr
          exact absurd mr (by decide)
        · rfl
      exact h2 (σ (fk_nn K M i)) (fk_nn K M i) (fk_nn K M (i + 1)) ⟨i, hi, mr, Or.inl ⟨a1, mr2, Or.inl ⟨rfl, rfl⟩⟩⟩ ⟨rfl, (fs_mke mr2 mr).mp a2⟩
    · exact h2 (σ (fk_nn K M i)) (fk_nn K M p) (fk_nn K M i) ⟨i, hi, mr, Or.inr ⟨⟨em, c2⟩, p, g, Or.inl ⟨rfl, rfl⟩⟩⟩ ⟨(fs_mke (fs_Gd_mr em g) mr).mp e, rfl⟩
theorem fs_QB (I : eb_Itm C 0 K H M O) (hC : C ≤ 64) : fp_QB (fe_nc K C) (fo_Q K M C cl C) := by
  intro s x y ⟨t, ht, mr, hq⟩
  have n1 := fs_nn I hC ht mr
  have sw : ∀ a b, fn_sy x y a b → fn_sy y x a b := fun a b z => by
    rcases z with ⟨z1, z2⟩ | ⟨z1, z2⟩
    · exact Or.inr ⟨z2, z1⟩
    · exact Or.inl ⟨z2, z1⟩
  have bd : ∀ a b, a < fe_nc K C → b < fe_nc K C → fn_sy x y a b → x < fe_nc K C ∧ y < fe_nc K C := fun a b h1 h2 z => by
    rcases z with ⟨z1, z2⟩ | ⟨z1, z2⟩
    · subst z1 z2; exact ⟨h1, h2⟩
    · subst z1 z2; exact ⟨h2, h1⟩
  rcases hq with ⟨q1, q2, q3⟩ | ⟨q1, p, g, q3⟩
  · have b := bd _ _ n1 (fs_nn I hC q1 q2) q3
    exact ⟨b.1, b.2, t, ht, mr, Or.inl ⟨q1, q2, sw _ _ q3⟩⟩
  · have pl := g.1.choose_spec.2.1
    have b := bd _ _ (fs_nn I hC (by omega : p < C) (fs_Gd_mr q1.1 g)) n1 q3
    exact ⟨b.1, b.2, t, ht, mr, Or.inr ⟨q1, p, g, sw _ _ q3⟩⟩
theorem fs_In {dom : Int32} {P : Bool → Nat → Prop} (hm : m ≤ 6) (hd : fn_DO P dom) : fp_In m σ dom ↔ ∀ n, n < m → P (σ n) n := by
  constructor
  · intro h n hn
    exact (hd (σ n) n (by omega)).mp (h n hn)
  · intro h n hn
    exact (hd (σ n) n (by omega)).mpr (h n hn)
theorem fs_agree (I : eb_Itm C 0 K H M O) (hC : C ≤ 64) {σ' : Nat → Bool} (h : ∀ n, n < fe_nc K C → σ n = σ' n) (hs : fl_Sd K M C op cl σ) : fl_Sd K M C op cl σ' := by
  rw [fs_Sd I hC] at hs ⊢
  refine ⟨fun n hn => by rw [← h n hn]; exact hs.1 n hn, fun s x y hq e => hs.2 s x y hq ?_⟩
  obtain ⟨b1, b2, _⟩ := fs_QB I hC s x y hq
  rw [h x b1, h y b2]; exact e
/-- numbers and choices -/
theorem fs_enc : ∀ (m : Nat) (τ : Nat → Bool), ∃ s, s < 2 ^ m ∧ ∀ n, n < m → s.testBit (m - 1 - n) = τ n := by
  intro m
  induction m with
  | zero => intro τ; exact ⟨0, by decide, fun n hn => by omega⟩
  | succ m ih =>
    intro τ
    obtain ⟨s, h1, h2⟩ := ih τ
    refine ⟨2 * s + (if τ m = true then 1 else 0), ?_, fun n hn => ?_⟩
    · rw [Nat.pow_succ]
      split <;> omega
    · by_cases e : n = m
      · subst e
        rw [show n + 1 - 1 - n = 0 by omega, Nat.testBit_zero]
        cases τ n
        · simp
        · simp
      · rw [show m + 1 - 1 - n = (m - 1 - n) + 1 by omega, Nat.testBit_succ, ← h2 n (by omega)]
        congr 1
        split <;> omega
theorem fs_ltb {s s' i : Nat} (h4 : s.testBit i = false) (h5 : s'.testBit i = true) (h : ∀ j, i < j → s.testBit j = s'.testBit j) : s < s' := by
  have e : s / 2 ^ (i + 1) = s' / 2 ^ (i + 1) := Nat.eq_of_testBit_eq (fun j => by
    rw [Nat.testBit_div_two_pow, Nat.testBit_div_two_pow]; exact h _ (by omega))
  rw [Nat.pow_succ, ← Nat.div_div_eq_div_mul, ← Nat.div_div_eq_div_mul] at e
  rw [Nat.testBit_eq_decide_div_mod_eq] at h4 h5
  have h4 := of_decide_eq_false h4
  have h5 := of_decide_eq_true h5
  apply Decidable.byContradiction
  intro z
  have := Nat.div_le_div_right (c := 2 ^ i) (by omega : s' ≤ s)
  generalize s / 2 ^ i = a at *
  generalize s' / 2 ^ i = b at *
  omega
theorem fs_lt {s s' k : Nat} (h1 : s < 2 ^ m) (h2 : s' < 2 ^ m) (hk : k < m) (h3 : ∀ j, j < k → s.testBit (m - 1 - j) = s'.testBit (m - 1 - j)) (h4 : s.testBit (m - 1 - k) = false) (h5 : s'.testBit (m - 1 - k) = true) : s < s' := by
  refine fs_ltb (i := m - 1 - k) h4 h5 (fun j hj => ?_)
  by_cases z : j < m
  · have := h3 (m - 1 - j) (by omega)
    rw [show m - 1 - (m - 1 - j) = j by omega] at this
    exact this
  · have p : 2 ^ m ≤ 2 ^ j := Nat.pow_le_pow_right (by decide) (by omega)
    rw [Nat.testBit_lt_two_pow (by omega), Nat.testBit_lt_two_pow (by omega)]
theorem fs_eq {s s' : Nat} (h1 : s < 2 ^ m) (h2 : s' < 2 ^ m) (h3 : ∀ j, j < m → s.testBit (m - 1 - j) = s'.testBit (m - 1 - j)) : s = s' := by
  refine Nat.eq_of_testBit_eq (fun j => ?_)
  by_cases z : j < m
  · have := h3 (m - 1 - j) (by omega)
    rw [show m - 1 - (m - 1 - j) = j by omega] at this
    exact this
  · have p : 2 ^ m ≤ 2 ^ j := Nat.pow_le_pow_right (by decide) (by omega)
    rw [Nat.testBit_lt_two_pow (by omega), Nat.testBit_lt_two_pow (by omega)]
theorem fs_first {ok : (Nat → Bool) → Prop} {τ : Nat → Bool} (hF : fp_First m ok τ) {s0 : Nat} (h0 : s0 < 2 ^ m) (h1 : ∀ n, n < m → s0.testBit (m - 1 - n) = τ n) : ∀ s, s < s0 → ¬ ok (fun n => s.testBit (m - 1 - n)) := by
  intro s hs hok
  rcases hF.2 _ hok with z | ⟨k, k1, k2, k3, k4⟩
  · have := fs_eq (by omega : s < 2 ^ m) h0 (fun j hj => by rw [h1 j hj]; exact z j hj)
    omega
  · have := fs_lt h0 (by omega : s < 2 ^ m) k1 (fun j hj => by rw [h1 j (by omega)]; exact (k2 j hj).symm) (by rw [h1 k k1]; exact k3) k4
    omega
end FS
def fs_cE (x y : Int32) : Prop := x = y ∨ ((x = 42 ∨ x = 95) ∧ (y = 42 ∨ y = 95))
theorem fs_cl {x y : Int32} (h : fs_cE x y) : ea_pu x = ea_pu y ∧ ea_al x = ea_al y ∧ decide (x = 32) = decide (y = 32) := by
  rcases h with h | ⟨h1, h2⟩
  · subst h; exact ⟨rfl, rfl, rfl⟩
  · rcases h1 with h1 | h1 <;> rcases h2 with h2 | h2 <;> subst h1 <;> subst h2 <;> decide
theorem fs_sv {k b b' a a' : Int32} (h1 : fs_cE b b') (h2 : fs_cE a a') : ea_sv k b a = ea_sv k b' a' := by
  obtain ⟨p1, p2, p3⟩ := fs_cl h1
  obtain ⟨q1, q2, q3⟩ := fs_cl h2
  unfold ea_sv ea_ln
  rw [p1, p2, p3, q1, q2, q3]
theorem fs_loc {w : Nat → Nat} {p : Nat} : ∀ C, p < fi_ps w C → ∃ i d, i < C ∧ d < w i ∧ p = fi_ps w i + d := by
  intro C
  induction C with
  | zero => intro h; exact absurd h (by show ¬ p < 0; omega)
  | succ C ih =>
    intro h
    have h : p < fi_ps w C + w C := h
    by_cases z : p < fi_ps w C
    · obtain ⟨i, d, a, b, e⟩ := ih z
      exact ⟨i, d, by omega, b, e⟩
    · exact ⟨C, p - fi_ps w C, by omega, by omega, by omega⟩
theorem fs_txok {K H : Nat → Int32} {w : Nat → Nat} {mk : Nat → Int32} {i d : Nat} (hk : eb_Kc (K i) (H i)) (hm : fl_mr K i = true → mk i = 42 ∨ mk i = 95) : ea_ok (fi_tx K H w mk i d) := by
  cases mr : fl_mr K i
  · unfold fi_tx
    have o92 : ea_ok 92 := ⟨by decide, by decide⟩
    have o96 : ea_ok 96 := ⟨by decide, by decide⟩
    have o91 : ea_ok 91 := ⟨by decide, by decide⟩
    have o93 : ea_ok 93 := ⟨by decide, by decide⟩
    have o40 : ea_ok 40 := ⟨by decide, by decide⟩
    have o41 : ea_ok 41 := ⟨by decide, by decide⟩
    by_cases k0 : K i = 0
    · rw [if_pos k0]
      split
      · exact o92
      · rcases hk with z | z | z
        · exact z.2
        · rw [k0] at z; exact absurd z.1 (by decide)
        · rw [k0] at z; exact absurd z.1 (by decide)
    · rw [if_neg k0]
      by_cases k37 : K i = 3 ∨ K i = 7
      · rw [if_pos k37]; exact o96
      · rw [if_neg k37]
        by_cases k4 : K i = 4
        · rw [if_pos k4]; exact o91
        · rw [if_neg k4]
          by_cases k8 : K i = 8
          · rw [if_pos k8]
            split
            · exact o93
            · split
              · exact o40
              · split
                · rcases hk with z | z | z
                  · exact absurd z.1 k0
                  · rw [k8] at z; exact absurd z.1 (by decide)
                  · exact ea_al_ok z.2
                · exact o41
          · exfalso
            unfold fl_mr at mr
            rcases hk with z | ⟨z | z | z | z | z | z | z, _⟩ | z
            · exact k0 z.1
            · rw [z] at mr; exact absurd mr (by decide)
            · rw [z] at mr; exact absurd mr (by decide)
            · exact k37 (Or.inl z)
            · exact k4 z
            · rw [z] at mr; exact absurd mr (by decide)
            · rw [z] at mr; exact absurd mr (by decide)
            · exact k37 (Or.inr z)
            · exact k8 z.1
  · rw [fq_txm mr]
    rcases hm mr with z | z <;> rw [z] <;> exact ⟨by decide, by decide⟩
/-- two writings of the same items flank alike -/
theorem fs_flank {K H : Nat → Int32} {w : Nat → Nat} {C : Nat} {mk mk' o o' : Nat → Int32} (hK : ∀ i, i < C → eb_Kc (K i) (H i)) (h1 : ∀ i, i < C → fl_mr K i = true → mk i = 42 ∨ mk i = 95) (h2 : ∀ i, i < C → fl_mr K i = true → mk' i = 42 ∨ mk' i = 95)
    (ho : ∀ i, i < C → ∀ d, d < w i → o (fi_ps w i + d) = fi_tx K H w mk i d) (ho' : ∀ i, i < C → ∀ d, d < w i → o' (fi_ps w i + d) = fi_tx K H w mk' i d) {p : Nat} (hp : p < fi_ps w C) : fs_cE (o p) (o' p) := by
  obtain ⟨i, d, a, b, e⟩ := fs_loc C hp
  rw [e, ho i a d b, ho' i a d b]
  cases mr : fl_mr K i
  · exact Or.inl (fq_tx (C := C) (hK i a) (fun z => by rw [mr] at z; exact absurd z (by decide)))
  · rw [fq_txm mr, fq_txm mr]
    exact Or.inr ⟨h1 i a mr, h2 i a mr⟩
section FT
variable {a_kinds a_chars a_mate a_openStack : Nat → Int32} {g_srcLen g_wLen : Int32} {b_src b_w b_pos b_till b_mark b_out b_group b_flag b_len b_lo b_hi b_live b_dropped : Nat → Int32} {c C m : Nat} {fn : Nat → Nat} {w : Nat → Nat} {op cl : Bool → Nat → Bool}
theorem ft_pow : ∀ m, m ≤ 6 → (1 : Int32) <<< (nI m &&& 31) = nI (2 ^ m) := by decide +kernel
theorem ft_y7 {post : Int32 → SY → Prop} (I : eb_Itm C 0 a_kinds a_chars a_mate a_openStack) (hC : C ≤ 64) (hc : c ≤ 64) (hF : fi_F C a_kinds a_chars fn) (hw : w = fi_w a_kinds a_chars a_mate fn) (hm : fe_nc a_kinds C = m) (hm6 : m ≤ 6) (hT : c < fi_ps w C)
    (h : ∀ wl W pos till mark, post (-7) ((nI c), g_srcLen, (nI C), wl, b_src, a_kinds, a_chars, W, pos, till, mark, b_out, b_group, b_flag, b_len, b_lo, b_hi, b_live, b_dropped)) : ∃ n, wY_print_138 post (nI m) n 0 (nI c) g_srcLen (nI C) g_wLen b_src a_kinds a_chars b_w b_pos b_till b_mark b_out b_group b_flag b_len b_lo b_hi b_live b_dropped := by
  refine ⟨1, br_f (by decide) ?_⟩
  rw [ft_pow m hm6]
  have p1 : 1 ≤ 2 ^ m := Nat.one_le_two_pow
  have p2 : 2 ^ m ≤ 2 ^ 6 := Nat.pow_le_pow_right (by decide) hm6
  refine br_f (nI_ge (a := 0) (by omega) (by omega)) (fk_ywrite (s := 0) I hC hF hw hm hm6 (fun W pos till mark _ _ => br_f (nI_ge (by omega) (by omega)) (h _ W pos till mark)))
theorem ft_yloop {post : Int32 → SY → Prop} {o : Nat → Int32} (I : eb_Itm C 0 a_kinds a_chars a_mate a_openStack) (hC : C ≤ 64) (hc : c ≤ 64) (hF : fi_F C a_kinds a_chars fn) (hw : w = fi_w a_kinds a_chars a_mate fn) (hm : fe_nc a_kinds C = m) (hm6 : m ≤ 6) (hT : fi_ps w C ≤ c)
    (ho : ∀ i, i < C → ∀ d, d < w i → o (fi_ps w i + d) = fi_tx a_kinds a_chars w (fun _ => 42) i d)
    (hop : ∀ s i, op s i = ea_sv (fn_mc s) (if fi_ps w i = 0 then 32 else o (fi_ps w i - 1)) (if fi_ps w (i + 1) < fi_ps w C then o (fi_ps w (i + 1)) else 32))
    (hcl : ∀ s i, cl s i = ea_sv (fn_mc s) (if fi_ps w (i + 1) < fi_ps w C then o (fi_ps w (i + 1)) else 32) (if fi_ps w i = 0 then 32 else o (fi_ps w i - 1)))
    (h8 : (∀ s, s < 2 ^ m → ¬ fl_Sd a_kinds a_mate C op cl (fun n => s.testBit (m - 1 - n))) → ∀ wl W pos till mark, post (-8) ((nI c), g_srcLen, (nI C), wl, b_src, a_kinds, a_chars, W, pos, till, mark, b_out, b_group, b_flag, b_len, b_lo, b_hi, b_live, b_dropped))
    (hS : ∀ s, s < 2 ^ m → fl_Sd a_kinds a_mate C op cl (fun n => s.testBit (m - 1 - n)) → (∀ s', s' < s → ¬ fl_Sd a_kinds a_mate C op cl (fun n => s'.testBit (m - 1 - n))) → ∀ W pos till mark,
      (∀ i, i < C → ∀ d, d < w i → W (fi_ps w i + d) = fi_tx a_kinds a_chars w (fk_mk a_kinds a_mate (fun n => s.testBit (m - 1 - n))) i d) →
      ∃ n, wY_print_191 post (nI c) (nI (fi_ps w C)) (nI C) (nI (fi_ps w C)) n 0 b_src a_kinds a_chars W pos till mark b_out b_group b_flag b_len b_lo b_hi b_live b_dropped) :
    ∃ n, wY_print_138 post (nI m) n 0 (nI c) g_srcLen (nI C) g_wLen b_src a_kinds a_chars b_w b_pos b_till b_mark b_out b_group b_flag b_len b_lo b_hi b_live b_dropped := by
  have p1 : 1 ≤ 2 ^ m := Nat.one_le_two_pow
  have p2 : 2 ^ m ≤ 2 ^ 6 := Nat.pow_le_pow_right (by decide) hm6
  have key : ∀ d s n wl W pos till mark, s + d = 2 ^ m → d < n → (∀ s', s' < s → ¬ fl_Sd a_kinds a_mate C op cl (fun n => s'.testBit (m - 1 - n))) → wY_print_138 post (nI m) n (nI s) (nI c) g_srcLen (nI C) wl b_src a_kinds a_chars W pos till mark b_out b_group b_flag b_len b_lo b_hi b_live b_dropped := by
    intro d
    induction d with
    | zero =>
      intro s n wl W pos till mark h1 h2 h3
      obtain ⟨n, rfl⟩ : ∃ z, n = z + 1 := ⟨n - 1, by omega⟩
      have e : s = 2 ^ m := by omega
      have q := h8 (fun s' hs' => h3 s' (by omega)) wl W pos till mark
      refine br_c (fun _ => q) (fun _ => ?_)
      rw [ft_pow m hm6]
      exact br_t (nI_le (by omega) (by omega)) q
    | succ d ih =>
      intro s n wl W pos till mark h1 h2 h3
      obtain ⟨n, rfl⟩ : ∃ z, n = z + 1 := ⟨n - 1, by omega⟩
      refine br_f (nI_ge (b := 64) (by omega) (by omega)) ?_
      rw [ft_pow m hm6]
      refine br_f (nI_ge (by omega) (by omega)) (fk_ywrite (s := s) (w := w) I hC hF hw hm hm6 (fun W' pos' till' mark' q1 q2 => ?_))
      have e : min 1024 (fi_ps w C) = fi_ps w C := by omega
      rw [e]
      have q1' : ∀ i, i < C → ∀ d, d < w i → W' (fi_ps w i + d) = fi_tx a_kinds a_chars w (fk_mk a_kinds a_mate (fun n => s.testBit (m - 1 - n))) i d := fun i hi d hd => q1 i hi d hd (by have := fi_ps_lt (w := w) hi; omega)
      have mk2 : ∀ i, i < C → fl_mr a_kinds i = true → fk_mk a_kinds a_mate (fun n => s.testBit (m - 1 - n)) i = 42 ∨ fk_mk a_kinds a_mate (fun n => s.testBit (m - 1 - n)) i = 95 := fun i _ mr => by
        rw [fl_mk1 mr]
        split
        · exact Or.inr rfl
        · exact Or.inl rfl
      have wb : ∀ i, i < C → 1 ≤ w i := fun i hi => by rw [hw]; exact (fi_w_b I hC hF hi).1
      have fk : ∀ p, p < fi_ps w C → fs_cE (W' p) (o p) := fun p hp => fs_flank I.2.1 mk2 (fun i _ _ => Or.inl rfl) q1' ho hp
      have c32 : fs_cE 32 32 := Or.inl rfl
      refine br_t (nI_le hT (by omega)) (fm_ysound (w := w) (op := op) (cl := cl) (σ := fun n => s.testBit (m - 1 - n)) I hC (by omega) wb (fun p hp => ?_) (fun t ht => ?_) (fun i hi mr => ?_) (fun sd => ?_) (fun nsd => ?_))
      · obtain ⟨i, d', a, b, e⟩ := fs_loc C hp
        rw [e, q1' i a d' b]
        exact fs_txok (I.2.1 i a) (mk2 i a)
      · obtain ⟨z1, z2, z3⟩ := q2 t ht
        have := fi_ps_lt (w := w) ht
        have pe : fi_ps w (t + 1) = fi_ps w t + w t := rfl
        rw [show min 1024 (fi_ps w t) = fi_ps w t by omega] at z1
        rw [show min 1024 (fi_ps w (t + 1)) = fi_ps w (t + 1) by omega] at z2
        exact ⟨z1, z2, z3⟩
      · have pl := fi_ps_lt (w := w) hi
        have w1 := wb i hi
        have m0 : W' (fi_ps w i) = fn_mc (s.testBit (m - 1 - fk_nn a_kinds a_mate i)) := by
          have := q1' i hi 0 (by omega)
          rw [Nat.add_zero, fq_txm mr, fl_mk1 mr] at this
          rw [this]
          rfl
        have cb : fs_cE (if fi_ps w i = 0 then 32 else W' (fi_ps w i - 1)) (if fi_ps w i = 0 then 32 else o (fi_ps w i - 1)) := by
          by_cases z : fi_ps w i = 0
          · rw [if_pos z, if_pos z]; exact c32
          · rw [if_neg z, if_neg z]; exact fk _ (by omega)
        have ca : fs_cE (if fi_ps w (i + 1) < fi_ps w C then W' (fi_ps w (i + 1)) else 32) (if fi_ps w (i + 1) < fi_ps w C then o (fi_ps w (i + 1)) else 32) := by
          by_cases z : fi_ps w (i + 1) < fi_ps w C
          · rw [if_pos z, if_pos z]; exact fk _ z
          · rw [if_neg z, if_neg z]; exact c32
        rw [m0, hop, hcl]
        exact ⟨fs_sv cb ca, fs_sv ca cb⟩
      · exact br_f (by decide) (hS s (by omega) sd h3 W' pos' till' mark' q1')
      · refine br_t rfl (nm_r (nI_1 s) (ih (s + 1) n _ W' pos' till' mark' (by omega) (by omega) (fun s' hs' => ?_)))
        by_cases z : s' = s
        · subst z; exact nsd
        · exact h3 s' (by omega)
  exact ⟨_, key (2 ^ m) 0 (2 ^ m + 1) g_wLen b_w b_pos b_till b_mark (by omega) (by omega) (fun s' hs' => by omega)⟩
theorem ft_ycopy {post : Int32 → SY → Prop} {T : Nat} {wl : Int32} (hT : T ≤ 64) (h : post (nI T) ((nI c), (nI T), (nI C), wl, (ee_cpy b_src b_w T), a_kinds, a_chars, b_w, b_pos, b_till, b_mark, b_out, b_group, b_flag, b_len, b_lo, b_hi, b_live, b_dropped)) : ∃ n, wY_print_191 post (nI c) (nI T) (nI C) wl n 0 b_src a_kinds a_chars b_w b_pos b_till b_mark b_out b_group b_flag b_len b_lo b_hi b_live b_dropped := by
  have key : ∀ d k n, k + d = T → d < n → wY_print_191 post (nI c) (nI T) (nI C) wl n (nI k) (ee_cpy b_src b_w k) a_kinds a_chars b_w b_pos b_till b_mark b_out b_group b_flag b_len b_lo b_hi b_live b_dropped := by
    intro d
    induction d with
    | zero =>
      intro k n h1 h2
      obtain ⟨n, rfl⟩ : ∃ z, n = z + 1 := ⟨n - 1, by omega⟩
      have e : k = T := by omega
      subst e
      exact br_t (nI_le (Nat.le_refl _) (by omega)) h
    | succ d ih =>
      intro k n h1 h2
      obtain ⟨n, rfl⟩ : ∃ z, n = z + 1 := ⟨n - 1, by omega⟩
      have ck : (nI k).toNatClampNeg = k := nI_clamp (by omega)
      exact br_f (nI_ge (by omega) (by omega)) ⟨vp_in_nI (by omega) (by omega), vp_in_nI (by omega) (by omega), nm_r (e' := ee_cpy b_src b_w (k + 1)) (by rw [ck]; exact ee_cpy_s) (nm_r (nI_1 k) (ih (k + 1) n (by omega) (by omega)))⟩
  have q := key T 0 (T + 1) (by omega) (by omega)
  rw [ee_cpy_0] at q
  exact ⟨_, q⟩
end FT
end
section
/-! print: all together -/
section FU
variable {f_linkCount f_runCount f_openerCount f_nodes f_domain : Int32} {a_source a_kinds a_chars a_mate a_openStack a_cellKind a_group a_live a_runLo a_runHi a_runChar a_runSize a_runGroup a_runOpens a_runCloses a_openers a_floors a_start a_width a_out a_nodeOf a_clash : Nat → Int32} {g_wLen : Int32} {b_w b_pos b_till b_mark b_group b_flag b_len b_lo b_hi b_dropped : Nat → Int32}
variable {k c L C D : Nat}
theorem fu_yfront {post : Int32 → SY → Prop} {m : Nat} (hC : C ≤ 64) (I : eb_Itm C 0 a_kinds a_chars a_mate a_openStack) (hm : fe_nc a_kinds C = m) (h1 : m ≤ 6 → ∃ n, wY_print_62 post (nI m) (nI c) (nI L) (nI C) g_wLen a_source a_kinds a_chars b_w b_pos b_till b_mark a_cellKind b_group b_flag b_len b_lo b_hi a_live b_dropped n 0) (h2 : 6 < m → post (-5) ((nI c), (nI L), (nI C), g_wLen, a_source, a_kinds, a_chars, b_w, b_pos, b_till, b_mark, a_cellKind, b_group, b_flag, b_len, b_lo, b_hi, a_live, b_dropped)) : wpY_print post ((nI c), (nI L), (nI C), g_wLen, a_source, a_kinds, a_chars, b_w, b_pos, b_till, b_mark, a_cellKind, b_group, b_flag, b_len, b_lo, b_hi, a_live, b_dropped) := by
  have mC : m ≤ C := by rw [← hm]; exact fe_nc_le C
  refine ff_ycount hC (fun n => br_t (nI_le (Nat.le_refl _) (by omega)) (ec_yod I hC (br_t rfl ?_)))
  rw [hm]
  exact pk_le m 6 (fun h => h1 h) (fun h => h2 h)
theorem fu_N {nd : Nat → Int32} {m : Nat} (I : eb_Itm C 0 a_kinds a_chars a_mate a_openStack) (hC : C ≤ 64) (hm : fe_nc a_kinds C = m) (h6 : m ≤ 6) (hnd : ∀ i, i < C → nd i = fe_nd a_kinds a_mate i) : fo_N C a_kinds a_mate nd := by
  intro t ht
  rw [hnd t ht]
  refine ⟨fun mr => ⟨?_, ?_⟩, fun mr => ?_⟩
  · unfold fe_nd fk_nn
    cases e : fe_em (a_kinds t)
    · unfold fl_mr at mr
      rw [e, Bool.false_or] at mr
      rw [if_neg (by decide), if_pos mr, if_neg (by decide)]
    · rw [if_pos rfl, if_pos rfl]
  · have := fs_nn I hC ht mr
    omega
  · unfold fl_mr at mr
    rw [Bool.or_eq_false_iff] at mr
    unfold fe_nd
    rw [mr.1, mr.2]; rfl
theorem fu_print (ok : ec_Ok c L C D a_source a_kinds a_chars a_mate a_openStack) : wpX_print (fun r u' => wpY_print (fun r' v' => r' = r ∧ i_Rel (k + 2) u' v') ((nI c), (nI L), (nI C), g_wLen, a_source, a_kinds, a_chars, b_w, b_pos, b_till, b_mark, a_cellKind, b_group, b_flag, b_len, b_lo, b_hi, a_live, b_dropped)) ((nI c), (nI L), (nI C), (nI D), f_linkCount, f_runCount, f_openerCount, f_nodes, f_domain, a_source, a_kinds, a_chars, a_mate, a_openStack, a_cellKind, a_group, a_live, a_runLo, a_runHi, a_runChar, a_runSize, a_runGroup, a_runOpens, a_runCloses, a_openers, a_floors, a_start, a_width, a_out, a_nodeOf, a_clash) := by
  have ok2 := ok
  obtain ⟨o1, o2, o3, o4, o5, o6⟩ := ok2
  have hC : C ≤ 64 := by omega
  have hD : D ≤ C := by rw [o6.1]; exact eb_dp_le _ _
  cases D with
  | succ D =>
    refine br_f (nI_ne0 (by omega) (by omega)) ?_
    exact ff_ycount hC (fun n => br_t (nI_le (Nat.le_refl _) (by omega)) (ec_yod o6 hC (br_f (nI_ne0 (by omega) (by omega)) ⟨rfl, ec_in ok⟩)))
  | zero =>
    refine br_t rfl (ff_xnum o6 hC (fun nd hnd => ?_))
    have mC : fe_nc a_kinds C ≤ C := fe_nc_le C
    refine pk_le (fe_nc a_kinds C) 6 (fun h6 => ?_) (fun h6 => fu_yfront hC o6 rfl (fun z => by omega) (fun _ => ⟨rfl, ec_in ok⟩))
    have hN := fu_N o6 hC rfl h6 hnd
    refine ff_xbad o6 hC (fun hb => br_f (by decide) (fu_yfront hC o6 rfl (fun _ => ff_ybad o6 hC (fun _ => ⟨rfl, ec_in ok⟩) (fun z => absurd hb z)) (fun z => by omega))) (fun hb => br_t rfl ?_)
    obtain ⟨fn, hF⟩ := fi_F_ex C a_kinds a_chars
    refine fj_xmeasure o6 hC hF (fun st wd hs => ?_)
    have Tb := fi_ps_b o6 hC hF C (Nat.le_refl _)
    refine pk_le (fi_ps (fi_w a_kinds a_chars a_mate fn) C) c (fun hT => ?_) (fun hT => ?_)
    · refine fj_xwall hC rfl (by omega) hs (fun n o ho => br_t (nI_le (Nat.le_refl _) (by omega)) ?_)
      refine fo_xconstrain (w := fi_w a_kinds a_chars a_mate fn)
        (op := fun s i => ea_sv (fn_mc s) (if fi_ps (fi_w a_kinds a_chars a_mate fn) i = 0 then 32 else o (fi_ps (fi_w a_kinds a_chars a_mate fn) i - 1)) (if fi_ps (fi_w a_kinds a_chars a_mate fn) (i + 1) < fi_ps (fi_w a_kinds a_chars a_mate fn) C then o (fi_ps (fi_w a_kinds a_chars a_mate fn) (i + 1)) else 32))
        (cl := fun s i => ea_sv (fn_mc s) (if fi_ps (fi_w a_kinds a_chars a_mate fn) (i + 1) < fi_ps (fi_w a_kinds a_chars a_mate fn) C then o (fi_ps (fi_w a_kinds a_chars a_mate fn) (i + 1)) else 32) (if fi_ps (fi_w a_kinds a_chars a_mate fn) i = 0 then 32 else o (fi_ps (fi_w a_kinds a_chars a_mate fn) i - 1)))
        o6 hC hN (by omega) hs (fun s i => rfl) (fun s i => rfl) (fun dom cla hd hcl => ?_)
      generalize hop : (fun (s : Bool) (i : Nat) => ea_sv (fn_mc s) (if fi_ps (fi_w a_kinds a_chars a_mate fn) i = 0 then 32 else o (fi_ps (fi_w a_kinds a_chars a_mate fn) i - 1)) (if fi_ps (fi_w a_kinds a_chars a_mate fn) (i + 1) < fi_ps (fi_w a_kinds a_chars a_mate fn) C then o (fi_ps (fi_w a_kinds a_chars a_mate fn) (i + 1)) else 32)) = op at hd
      generalize hcl' : (fun (s : Bool) (i : Nat) => ea_sv (fn_mc s) (if fi_ps (fi_w a_kinds a_chars a_mate fn) (i + 1) < fi_ps (fi_w a_kinds a_chars a_mate fn) C then o (fi_ps (fi_w a_kinds a_chars a_mate fn) (i + 1)) else 32) (if fi_ps (fi_w a_kinds a_chars a_mate fn) i = 0 then 32 else o (fi_ps (fi_w a_kinds a_chars a_mate fn) i - 1))) = cl at hd hcl
      have sdi : ∀ σ, fl_Sd a_kinds a_mate C op cl σ ↔ (fp_In (fe_nc a_kinds C) σ dom ∧ fp_Ok (fo_Q a_kinds a_mate C cl C) σ) := fun σ => by
        rw [fs_Sd o6 hC, fs_In h6 hd]
      refine fq_xchoose hcl (fs_QB o6 hC) h6 (fun dom' hF' => br_f (by decide) ?_) (fun hno dom' => br_t rfl ?_)
      · refine fr_xpaint hC o6.2.1 hN (by omega) hs ho (fun o' ho' => fr_xcopy (by omega) ?_)
        obtain ⟨s0, e0, e1⟩ := fs_enc (fe_nc a_kinds C) (fun n => !bt dom' n)
        have sd0 : fl_Sd a_kinds a_mate C op cl (fun n => s0.testBit (fe_nc a_kinds C - 1 - n)) := fs_agree o6 hC (fun n hn => (e1 n hn).symm) ((sdi _).mpr hF'.1)
        have low := fs_first hF' e0 e1
        refine fu_yfront hC o6 rfl (fun _ => ff_ybad o6 hC (fun z => absurd z hb) (fun _ => ft_yloop (op := op) (cl := cl) (o := o) o6 hC o2 hF rfl rfl h6 hT ho (fun s i => by rw [← hop]) (fun s i => by rw [← hcl']) (fun hno => absurd sd0 (hno s0 e0)) (fun s hs1 sd hmin W pos till mark hW => ?_))) (fun z => by omega)
        have es : s = s0 := by
          rcases Nat.lt_trichotomy s s0 with z | z | z
          · exact absurd ((sdi _).mp sd) (low s z)
          · exact z
          · exact absurd sd0 (hmin s0 z)
        subst es
        refine ft_ycopy (by omega) ?_
        have same : ∀ p, p < fi_ps (fi_w a_kinds a_chars a_mate fn) C → W p = o' p := fun p hp => by
          obtain ⟨i, d, a, b, e⟩ := fs_loc C hp
          rw [e, hW i a d b, ho' i a d b]
          refine fq_tx (C := C) (o6.2.1 i a) (fun mr => ?_)
          rw [fl_mk1 mr, fl_mk1 mr, e1 _ (fs_nn o6 hC a mr)]
        have ec : ee_cpy a_source W (fi_ps (fi_w a_kinds a_chars a_mate fn) C) = ee_cpy a_source o' (fi_ps (fi_w a_kinds a_chars a_mate fn) C) := by
          funext p
          by_cases z : p < fi_ps (fi_w a_kinds a_chars a_mate fn) C
          · rw [ee_cpy_in z, ee_cpy_in z]; exact same p z
          · rw [ee_cpy_out (by omega), ee_cpy_out (by omega)]
        rw [ec]
        refine ⟨rfl, ec_in ⟨o1, o2, hT, o4, fun j hj => ?_, o6⟩⟩
        rw [ee_cpy_in hj]
        obtain ⟨i, d, a, b, e⟩ := fs_loc C hj
        rw [e, ho' i a d b]
        refine fs_txok (o6.2.1 i a) (fun mr => ?_)
        rw [fl_mk1 mr]
        split
        · exact Or.inr rfl
        · exact Or.inl rfl
      · exact fu_yfront hC o6 rfl (fun _ => ff_ybad o6 hC (fun z => absurd z hb) (fun _ => ft_yloop (op := op) (cl := cl) (o := o) o6 hC o2 hF rfl rfl h6 hT ho (fun s i => by rw [← hop]) (fun s i => by rw [← hcl']) (fun _ wl W pos till mark => ⟨rfl, ec_in ok⟩) (fun s hs1 sd => absurd ((sdi _).mp sd) (hno _)))) (fun z => by omega)
    · exact fu_yfront hC o6 rfl (fun _ => ff_ybad o6 hC (fun z => absurd z hb) (fun _ => ft_y7 o6 hC o2 hF rfl rfl h6 hT (fun wl W pos till mark => ⟨rfl, ec_in ok⟩))) (fun z => by omega)
end FU
theorem i_vc_print {k : Nat} {u : SX} {v : SY} (I : i_Rel k u v) (hk : k + 2 ≤ 1025) : wpX_print (fun r u' => wpY_print (fun r' v' => r' = r ∧ i_Rel (k + 2) u' v') v) u :=
  ec_el (P := fun u v => wpX_print (fun r u' => wpY_print (fun r' v' => r' = r ∧ i_Rel (k + 2) u' v') v) u) I (fun ok => fu_print ok)
end
