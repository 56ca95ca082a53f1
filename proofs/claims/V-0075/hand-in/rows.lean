section
/-! pure rows to paste: stores, nI and lN arithmetic, masks, shifts, narrowing, branches by naturals (pk_le, pk_lt, pk_eq), loops (lp1 .. lp16: the measure of the state; rp1 ..: recursion), negatives. Take what you need -/
theorem pk_us {f : Nat → Int32} {k : Nat} {x : Int32} : upd f k x k = x := if_pos rfl
theorem pk_un {f : Nat → Int32} {k j : Nat} {x : Int32} (h : j ≠ k) : upd f k x j = f j := if_neg h
theorem pk_uLs {f : Nat → Int64} {k : Nat} {x : Int64} : vp_updL f k x k = x := if_pos rfl
theorem pk_uLn {f : Nat → Int64} {k j : Nat} {x : Int64} (h : j ≠ k) : vp_updL f k x j = f j := if_neg h
theorem pk_sub {a b : Nat} (h : b ≤ a) : nI a - nI b = nI (a - b) := by
  obtain ⟨c, rfl⟩ : ∃ c, a = c + b := ⟨a - b, by omega⟩
  rw [← nI_add, Int32.add_sub_cancel, Nat.add_sub_cancel]
theorem pk_m1 (n : Nat) : nI (n + 1) + (-1) = nI n := by
  rw [← nI_1, Int32.add_assoc, show (1 : Int32) + (-1) = 0 from rfl, Int32.add_zero]
theorem pk_mul (a b : Nat) : nI a * nI b = nI (a * b) := (Int32.ofNat_mul a b).symm
theorem pk_div {a d : Nat} (ha : a < 2 ^ 31) (h0 : 0 < d) (hd : d < 2 ^ 31) : nI a / nI d = nI (a / d) := by
  apply Int32.toInt_inj.mp
  rw [lg_idiv_nonneg (by rw [nI_toInt ha]; omega) (by rw [nI_toInt hd]; omega), nI_toInt ha, nI_toInt hd, nI_toInt (Nat.lt_of_le_of_lt (Nat.div_le_self a d) ha)]
  first | rfl | exact (Int.natCast_ediv _ _).symm
theorem pk_rem {a d : Nat} (ha : a < 2 ^ 31) (h0 : 0 < d) (hd : d < 2 ^ 31) : nI a - nI a / nI d * nI d = nI (a % d) := by
  rw [pk_div ha h0 hd, pk_mul, pk_sub (Nat.div_mul_le_self a d)]
  exact congrArg nI (by have := Nat.div_add_mod' a d; omega)
theorem pk_sub_toInt {a b : Nat} (ha : a < 2 ^ 30) (hb : b < 2 ^ 30) : (nI a - nI b).toInt = (a : Int) - b := by
  rw [Int32.toInt_sub, nI_toInt (by omega), nI_toInt (by omega)]
  exact Int.bmod_eq_of_le (by omega) (by omega)
theorem pk_sneg {a b : Nat} (hb : b < 2 ^ 30) (h : a < b) : nI a - nI b < 0 := by
  rw [Int32.lt_iff_toInt_lt, pk_sub_toInt (by omega) hb, show (0 : Int32).toInt = 0 from by decide]
  omega
theorem pk_ix (x : Int32) {n : Nat} (hn : n < 2 ^ 31) : x < 0 ∨ nI n ≤ x ∨ ∃ j : Nat, j < n ∧ x = nI j := by
  by_cases h : x < 0
  · exact Or.inl h
  · obtain ⟨j, hj, rfl⟩ := nI_of h
    by_cases h2 : j < n
    · exact Or.inr (Or.inr ⟨j, h2, rfl⟩)
    · exact Or.inr (Or.inl (nI_le (by omega) hj))
theorem pk_le {x y : Int32} {A B : Prop} (a b : Nat) (f : a ≤ b → A) (g : b < a → B) (hx : x = nI a := by rfl) (hy : y = nI b := by rfl) (ha : a < 2 ^ 31 := by omega) (hb : b < 2 ^ 31 := by omega) : (x ≤ y → A) ∧ (¬ x ≤ y → B) := by
  subst hx hy
  rw [nI_leI ha hb]
  exact ⟨f, fun z => g (by omega)⟩
theorem pk_lt {x y : Int32} {A B : Prop} (a b : Nat) (f : a < b → A) (g : b ≤ a → B) (hx : x = nI a := by rfl) (hy : y = nI b := by rfl) (ha : a < 2 ^ 31 := by omega) (hb : b < 2 ^ 31 := by omega) : (x < y → A) ∧ (¬ x < y → B) := by
  subst hx hy
  rw [nI_ltI ha hb]
  exact ⟨f, fun z => g (by omega)⟩
theorem pk_eq {x y : Int32} {A B : Prop} (a b : Nat) (f : a = b → A) (g : a ≠ b → B) (hx : x = nI a := by rfl) (hy : y = nI b := by rfl) (ha : a < 2 ^ 31 := by omega) (hb : b < 2 ^ 31 := by omega) : (x = y → A) ∧ (¬ x = y → B) := by
  subst hx hy
  rw [nI_eq ha hb]
  exact ⟨f, g⟩
theorem pk_in {x : Int32} (n N : Nat) (h : n < N) (hx : x = nI n := by rfl) (hN : N < 2 ^ 31 := by omega) : vp_in x N := by
  subst hx
  exact vp_in_nI h hN
theorem pk_cl {x : Int32} (n : Nat) (hx : x = nI n := by rfl) (h : n < 2 ^ 31 := by omega) : x.toNatClampNeg = n := by
  subst hx
  exact nI_clamp h
theorem pk_tn {n : Nat} (h : n < 2 ^ 32) : (nI n).toBitVec.toNat = n := Nat.mod_eq_of_lt h
theorem pk_and (x : Int32) {m : Int32} (k : Nat) (hm : m.toBitVec.toNat = 2 ^ k - 1) : x &&& m = nI (x.toBitVec.toNat % 2 ^ k) := by
  apply Int32.toBitVec_inj.mp
  apply BitVec.eq_of_toNat_eq
  rw [Int32.toBitVec_and, BitVec.toNat_and, hm, Nat.and_two_pow_sub_one_eq_mod]
  show _ = (BitVec.ofNat 32 _).toNat
  rw [BitVec.toNat_ofNat]
  exact (Nat.mod_eq_of_lt (Nat.lt_of_le_of_lt (Nat.mod_le _ _) x.toBitVec.isLt)).symm
theorem pk_loop {σ : Type} (W : Nat → Nat → σ → Prop) (I : Nat → σ → Prop) (e i0 : Nat) (s : σ) (hi : i0 ≤ e) (h0 : I i0 s) (hx : ∀ n s, I e s → W (n + 1) e s)
    (hs : ∀ n i s, i < e → I i s → (∀ s', I (i + 1) s' → W n (i + 1) s') → W (n + 1) i s) : ∃ n, W n i0 s :=
  ⟨e + 1, loop_i W I e hx hs (e + 1) i0 s hi (by omega) h0⟩
theorem pk_loopD {σ : Type} (W : Nat → Nat → σ → Prop) (I : Nat → σ → Prop) (hx : ∀ n s, I 0 s → W (n + 1) 0 s)
    (hs : ∀ n i s, I (i + 1) s → (∀ s', I i s' → W n i s') → W (n + 1) (i + 1) s) : ∀ (e : Nat) (s : σ), I e s → W (e + 1) e s := by
  intro e
  induction e with
  | zero => exact fun s h => hx 0 s h
  | succ e ih => exact fun s h => hs (e + 1) e s h (fun s' h' => ih s' h')
theorem pk_least (P : Nat → Prop) (h : ∃ k, P k) : ∃ k, P k ∧ ∀ j, j < k → ¬ P j := by
  obtain ⟨k, hk⟩ := h
  induction k using Nat.strongRecOn with
  | ind k ih =>
    by_cases e : ∃ j, j < k ∧ P j
    · obtain ⟨j, hj, pj⟩ := e
      exact ih j hj pj
    · exact ⟨k, hk, fun j hj pj => e ⟨j, hj, pj⟩⟩
theorem sb_m1 {p : Nat} (h : 0 < p) : nI p + (-1) = nI (p - 1) := by
  obtain ⟨q, rfl⟩ : ∃ q, p = q + 1 := ⟨p - 1, by omega⟩
  exact pk_m1 q
theorem ts_nf {x : Bool} (h : ¬ x = false) : x = true := by cases x <;> first | rfl | exact absurd rfl h
theorem ts_nt {x : Bool} (h : ¬ x = true) : x = false := by cases x <;> first | rfl | exact absurd rfl h
theorem ts_bit {w : Int64} {s : UInt64} {j : Nat} (hj : j < 64) (hs : s.toNat = j) : ((w.toUInt64 >>> s).toInt64 &&& 1) = 0 ↔ w.toBitVec.getLsbD j = false := by
  have e : (w.toUInt64 >>> s).toInt64.toBitVec = w.toBitVec >>> j := by
    apply BitVec.eq_of_toNat_eq
    show (w.toUInt64 >>> s).toNat = _
    rw [UInt64.toNat_shiftRight, hs, Nat.mod_eq_of_lt hj, BitVec.toNat_ushiftRight]
    rfl
  rw [← Int64.toBitVec_inj, Int64.toBitVec_and, e]
  show w.toBitVec >>> j &&& 1#64 = 0#64 ↔ _
  constructor
  · intro h
    have t := congrArg (fun x => x.getLsbD 0) h
    simpa using t
  · intro h
    apply BitVec.eq_of_getLsbD_eq
    intro i hi
    cases i with
    | zero => simp [h]
    | succ i => simp
theorem ts_or {w m : Int64} {j : Nat} (hj : j < 64) (hm : m.toBitVec = BitVec.twoPow 64 j) : (w ||| m) = w ↔ w.toBitVec.getLsbD j = true := by
  rw [← Int64.toBitVec_inj, Int64.toBitVec_or, hm]
  constructor
  · intro h
    have t := congrArg (fun x => x.getLsbD j) h
    simp only [BitVec.getLsbD_or, BitVec.getLsbD_twoPow] at t
    simpa [hj] using t.symm
  · intro h
    apply BitVec.eq_of_getLsbD_eq
    intro i hi
    rw [BitVec.getLsbD_or, BitVec.getLsbD_twoPow]
    by_cases e : j = i
    · subst e; rw [h, Bool.true_or]
    · simp [e]
theorem ts_and {w m : Int64} {j : Nat} (hj : j < 64) (hm : m.toBitVec = BitVec.twoPow 64 j) : (w &&& (m ^^^ (-1))) = w ↔ w.toBitVec.getLsbD j = false := by
  have ha : (-1 : Int64).toBitVec = BitVec.allOnes 64 := by decide
  rw [← Int64.toBitVec_inj, Int64.toBitVec_and, Int64.toBitVec_xor, hm, ha]
  constructor
  · intro h
    have t := congrArg (fun x => x.getLsbD j) h
    simp only [BitVec.getLsbD_and, BitVec.getLsbD_xor, BitVec.getLsbD_twoPow, BitVec.getLsbD_allOnes] at t
    simpa [hj] using t.symm
  · intro h
    apply BitVec.eq_of_getLsbD_eq
    intro i hi
    rw [BitVec.getLsbD_and, BitVec.getLsbD_xor, BitVec.getLsbD_twoPow, BitVec.getLsbD_allOnes]
    by_cases e : j = i
    · subst e; rw [h, Bool.false_and]
    · simp [e, hi]
/-! ===== lN n to 2^64: shifts, and, or, masks, one bit ===== -/
theorem wb_tb (n : Nat) : (lN n).toBitVec = BitVec.ofNat 64 n := rfl
theorem wb_inj {a b : Int64} (h : a.toBitVec = b.toBitVec) : a = b := Int64.toBitVec_inj.mp h
theorem wb_tn {n : Nat} (h : n < 2 ^ 64) : (lN n).toBitVec.toNat = n := by rw [wb_tb, BitVec.toNat_ofNat, Nat.mod_eq_of_lt h]
theorem wb_of (x : Int64) : ∃ n, n < 2 ^ 64 ∧ x = lN n := ⟨x.toBitVec.toNat, x.toBitVec.isLt, wb_inj (by rw [wb_tb]; simp)⟩
theorem wb_of32 (x : Int32) : ∃ n, n < 2 ^ 32 ∧ x = nI n := ⟨x.toBitVec.toNat, x.toBitVec.isLt, Int32.toBitVec_inj.mp (by show _ = BitVec.ofNat 32 _; simp)⟩
theorem wb_c : ∀ k, k < 64 → ((nI k).toInt64 &&& 63) = lN k := by decide +kernel
theorem wb_cu : ∀ k, k < 64 → ((nI k).toInt64.toUInt64 &&& Int64.toUInt64 63) = UInt64.ofNat k := by decide +kernel
theorem wb_sm : ∀ k, k < 64 → (BitVec.ofNat 64 k).smod 64 = BitVec.ofNat 64 k := by decide +kernel
theorem wb_pw {a b : Nat} (h : a ≤ b) : 2 ^ b = 2 ^ a * 2 ^ (b - a) := by rw [← Nat.pow_add]; congr 1; omega
theorem wb_lt2 {a b : Nat} (h : a < b) : 2 ^ a < 2 ^ b := Nat.pow_lt_pow_right (by decide) h
theorem wb_mod (n : Nat) : lN n = lN (n % 2 ^ 64) := wb_inj (by rw [wb_tb, wb_tb]; apply BitVec.eq_of_toNat_eq; rw [BitVec.toNat_ofNat, BitVec.toNat_ofNat, Nat.mod_mod])
theorem wb_shr {n k : Nat} (hn : n < 2 ^ 64) (hk : k < 64) : ((lN n).toUInt64 >>> ((nI k).toInt64.toUInt64 &&& Int64.toUInt64 63)).toInt64 = lN (n / 2 ^ k) := by
  rw [wb_cu k hk]
  apply wb_inj
  apply BitVec.eq_of_toNat_eq
  show ((lN n).toUInt64 >>> UInt64.ofNat k).toNat = (BitVec.ofNat 64 _).toNat
  have h1 : (UInt64.ofNat k).toNat = k := by
    show (BitVec.ofNat 64 k).toNat = k
    rw [BitVec.toNat_ofNat, Nat.mod_eq_of_lt (by omega)]
  have h2 : (lN n).toUInt64.toNat = n := wb_tn hn
  rw [UInt64.toNat_shiftRight, h1, h2, Nat.mod_eq_of_lt hk, Nat.shiftRight_eq_div_pow, BitVec.toNat_ofNat, Nat.mod_eq_of_lt (Nat.lt_of_le_of_lt (Nat.div_le_self _ _) hn)]
theorem wb_shl (n : Nat) {k : Nat} (hk : k < 64) : lN n <<< ((nI k).toInt64 &&& 63) = lN (n * 2 ^ k) := by
  rw [wb_c k hk]
  apply wb_inj
  rw [Int64.toBitVec_shiftLeft, wb_tb, wb_tb, wb_tb, wb_sm k hk]
  apply BitVec.eq_of_toNat_eq
  rw [BitVec.shiftLeft_eq', BitVec.toNat_shiftLeft, BitVec.toNat_ofNat, BitVec.toNat_ofNat, BitVec.toNat_ofNat, Nat.mod_eq_of_lt (show k < 2 ^ 64 by omega), Nat.shiftLeft_eq, Nat.mul_mod, Nat.mod_mod, ← Nat.mul_mod]
end
section
/-! sets of codes as masks -/
def sm_b (x : Int64) (i : Nat) : Prop := x.toBitVec.getLsbD i = true
theorem sm_ext {x y : Int64} (h : ∀ i, i < 64 → (sm_b x i ↔ sm_b y i)) : x = y := by
  apply wb_inj
  apply BitVec.eq_of_getLsbD_eq
  intro i hi
  have := h i hi
  unfold sm_b at this
  cases a : x.toBitVec.getLsbD i <;> cases b : y.toBitVec.getLsbD i <;> simp_all
theorem sm_b0 (i : Nat) : ¬ sm_b 0 i := by
  unfold sm_b
  rw [show (0 : Int64).toBitVec = 0#64 from rfl]
  simp
theorem sm_band (x y : Int64) (i : Nat) : sm_b (x &&& y) i ↔ sm_b x i ∧ sm_b y i := by
  unfold sm_b
  rw [Int64.toBitVec_and, BitVec.getLsbD_and, Bool.and_eq_true]
theorem sm_bor (x y : Int64) (i : Nat) : sm_b (x ||| y) i ↔ sm_b x i ∨ sm_b y i := by
  unfold sm_b
  rw [Int64.toBitVec_or, BitVec.getLsbD_or, Bool.or_eq_true]
theorem sm_bnot (x : Int64) {i : Nat} (hi : i < 64) : sm_b (x ^^^ (-1)) i ↔ ¬ sm_b x i := by
  unfold sm_b
  have ha : (-1 : Int64).toBitVec = BitVec.allOnes 64 := by decide
  rw [Int64.toBitVec_xor, ha, BitVec.getLsbD_xor, BitVec.getLsbD_allOnes]
  cases x.toBitVec.getLsbD i <;> simp [hi]
theorem sm_sh1 : ∀ l, l < 64 → ((1 : Int64) <<< ((nI l).toInt64 &&& 63)).toBitVec = BitVec.twoPow 64 l := by decide +kernel
theorem sm_bsh {l : Nat} (hl : l < 64) (i : Nat) : sm_b ((1 : Int64) <<< ((nI l).toInt64 &&& 63)) i ↔ i = l := by
  unfold sm_b
  rw [sm_sh1 l hl, BitVec.getLsbD_twoPow]
  simp only [hl, decide_true, Bool.true_and, decide_eq_true_eq]
  exact ⟨Eq.symm, Eq.symm⟩
theorem sm_cu : ∀ k, k < 64 → ((nI k).toInt64.toUInt64 &&& Int64.toUInt64 63).toNat = k := by decide +kernel
theorem sm_btest (x : Int64) {k : Nat} (hk : k < 64) : ((x.toUInt64 >>> ((nI k).toInt64.toUInt64 &&& Int64.toUInt64 63)).toInt64 &&& 1) = 0 ↔ ¬ sm_b x k := by
  rw [ts_bit hk (sm_cu k hk)]
  unfold sm_b
  cases x.toBitVec.getLsbD k <;> simp
theorem sm_bushr (x : Int64) {k : Nat} (hk : k < 64) (i : Nat) : sm_b ((x.toUInt64 >>> ((nI k).toInt64.toUInt64 &&& Int64.toUInt64 63)).toInt64) i ↔ sm_b x (k + i) := by
  unfold sm_b
  have e : (x.toUInt64 >>> ((nI k).toInt64.toUInt64 &&& Int64.toUInt64 63)).toInt64.toBitVec = x.toBitVec >>> k := by
    apply BitVec.eq_of_toNat_eq
    show (x.toUInt64 >>> ((nI k).toInt64.toUInt64 &&& Int64.toUInt64 63)).toNat = _
    rw [UInt64.toNat_shiftRight, sm_cu k hk, Nat.mod_eq_of_lt hk, BitVec.toNat_ushiftRight]
    rfl
  rw [e, BitVec.getLsbD_ushiftRight]
theorem sm_exof (S : Nat → Prop) : ∀ N, ∃ x : Int64, ∀ i, i < 64 → (sm_b x i ↔ i < N ∧ S i)
  | 0 => ⟨0, fun i _ => ⟨fun h => absurd h (sm_b0 i), fun h => absurd h.1 (by omega)⟩⟩
  | N + 1 => by
    obtain ⟨x, hx⟩ := sm_exof S N
    by_cases h : N < 64 ∧ S N
    · refine ⟨x ||| ((1 : Int64) <<< ((nI N).toInt64 &&& 63)), fun i hi => ?_⟩
      rw [sm_bor, sm_bsh h.1, hx i hi]
      constructor
      · rintro (⟨a, b⟩ | rfl)
        · exact ⟨by omega, b⟩
        · exact ⟨by omega, h.2⟩
      · rintro ⟨a, b⟩
        by_cases e : i = N
        · exact Or.inr e
        · exact Or.inl ⟨by omega, b⟩
    · refine ⟨x, fun i hi => ?_⟩
      rw [hx i hi]
      constructor
      · rintro ⟨a, b⟩
        exact ⟨by omega, b⟩
      · rintro ⟨a, b⟩
        by_cases e : i = N
        · subst e
          exact absurd ⟨hi, b⟩ h
        · exact ⟨by omega, b⟩
/-- the mask of the codes below N that are in S -/
noncomputable def sm_of (N : Nat) (S : Nat → Prop) : Int64 := Classical.choose (sm_exof S N)
theorem sm_at {N : Nat} {S : Nat → Prop} {i : Nat} (hi : i < 64) : sm_b (sm_of N S) i ↔ i < N ∧ S i := Classical.choose_spec (sm_exof S N) i hi
noncomputable def sm_fl (N : Nat) : Int64 := sm_of N (fun _ => True)
theorem sm_cg {N : Nat} {S S' : Nat → Prop} (h : ∀ a, a < N → (S a ↔ S' a)) : sm_of N S = sm_of N S' :=
  sm_ext fun i hi => by
    rw [sm_at hi, sm_at hi]
    exact ⟨fun q => ⟨q.1, (h i q.1).mp q.2⟩, fun q => ⟨q.1, (h i q.1).mpr q.2⟩⟩
theorem sm_uq {x : Int64} {N : Nat} {S : Nat → Prop} (h : ∀ i, i < 64 → (sm_b x i ↔ i < N ∧ S i)) : x = sm_of N S :=
  sm_ext fun i hi => by rw [h i hi, sm_at hi]
theorem sm_z (N : Nat) : (0 : Int64) = sm_of N (fun _ => False) :=
  sm_uq fun i _ => ⟨fun h => absurd h (sm_b0 i), fun h => h.2.elim⟩
theorem sm_e0 {N : Nat} (hN : N ≤ 64) {S : Nat → Prop} : sm_of N S = 0 ↔ ∀ a, a < N → ¬ S a := by
  constructor
  · intro h a ha hs
    have : sm_b (sm_of N S) a := (sm_at (by omega)).mpr ⟨ha, hs⟩
    rw [h] at this
    exact sm_b0 a this
  · intro h
    rw [sm_z N]
    exact sm_cg fun a ha => ⟨fun q => h a ha q, False.elim⟩
theorem sm_and (N : Nat) (S S' : Nat → Prop) : sm_of N S &&& sm_of N S' = sm_of N (fun a => S a ∧ S' a) :=
  sm_uq fun i hi => by
    rw [sm_band, sm_at hi, sm_at hi]
    exact ⟨fun q => ⟨q.1.1, q.1.2, q.2.2⟩, fun q => ⟨⟨q.1, q.2.1⟩, q.1, q.2.2⟩⟩
theorem sm_or (N : Nat) (S S' : Nat → Prop) : sm_of N S ||| sm_of N S' = sm_of N (fun a => S a ∨ S' a) :=
  sm_uq fun i hi => by
    rw [sm_bor, sm_at hi, sm_at hi]
    exact ⟨fun q => q.elim (fun r => ⟨r.1, Or.inl r.2⟩) (fun r => ⟨r.1, Or.inr r.2⟩), fun q => q.2.elim (fun r => Or.inl ⟨q.1, r⟩) (fun r => Or.inr ⟨q.1, r⟩)⟩
theorem sm_andn (N : Nat) (S S' : Nat → Prop) : sm_of N S &&& (sm_of N S' ^^^ (-1)) = sm_of N (fun a => S a ∧ ¬ S' a) :=
  sm_uq fun i hi => by
    rw [sm_band, sm_bnot _ hi, sm_at hi, sm_at hi]
    exact ⟨fun q => ⟨q.1.1, q.1.2, fun z => q.2 ⟨q.1.1, z⟩⟩, fun q => ⟨⟨q.1, q.2.1⟩, fun z => q.2.2 z.2⟩⟩
theorem sm_set {N : Nat} (hN : N ≤ 64) (S : Nat → Prop) {l : Nat} (hl : l < N) : sm_of N S ||| ((1 : Int64) <<< ((nI l).toInt64 &&& 63)) = sm_of N (fun a => S a ∨ a = l) :=
  sm_uq fun i hi => by
    rw [sm_bor, sm_at hi, sm_bsh (by omega)]
    exact ⟨fun q => q.elim (fun r => ⟨r.1, Or.inl r.2⟩) (fun r => ⟨by omega, Or.inr r⟩), fun q => q.2.elim (fun r => Or.inl ⟨q.1, r⟩) (fun r => Or.inr r)⟩
theorem sm_test {N : Nat} (hN : N ≤ 64) (S : Nat → Prop) {k : Nat} (hk : k < N) : (((sm_of N S).toUInt64 >>> ((nI k).toInt64.toUInt64 &&& Int64.toUInt64 63)).toInt64 &&& 1) = 0 ↔ ¬ S k := by
  rw [sm_btest _ (by omega), sm_at (by omega)]
  exact ⟨fun q z => q ⟨hk, z⟩, fun q z => q z.2⟩
theorem sm_m1 : (-1 : Int64) = sm_fl 64 :=
  sm_uq fun i hi => by
    have h : sm_b (-1) i := by
      have := (sm_bnot 0 hi).mpr (sm_b0 i)
      rwa [show (0 : Int64) ^^^ (-1) = -1 from by decide] at this
    exact ⟨fun _ => ⟨hi, trivial⟩, fun _ => h⟩
theorem sm_lowb : ∀ n, n < 64 → ∀ i, i < 64 → (((((1 : Int64) <<< ((nI n).toInt64 &&& 63)) - 1).toBitVec.getLsbD i = true) ↔ i < n) := by decide +kernel
theorem sm_low {n : Nat} (hn : n < 64) : ((1 : Int64) <<< ((nI n).toInt64 &&& 63)) - 1 = sm_fl n :=
  sm_uq fun i hi => by
    unfold sm_b
    rw [sm_lowb n hn i hi]
    exact ⟨fun q => ⟨q, trivial⟩, fun q => q.1⟩
/-- m is the lowest bit -/
def sm_lb (x : Int64) (m : Nat) : Prop := sm_b x m ∧ ∀ j, j < m → ¬ sm_b x j
theorem sm_mk1 : ∀ i, i < 64 → (sm_b 1 i ↔ i < 1) := by unfold sm_b; decide +kernel
theorem sm_mk2 : ∀ i, i < 64 → (sm_b 3 i ↔ i < 2) := by unfold sm_b; decide +kernel
theorem sm_mk4 : ∀ i, i < 64 → (sm_b 15 i ↔ i < 4) := by unfold sm_b; decide +kernel
theorem sm_mk8 : ∀ i, i < 64 → (sm_b 255 i ↔ i < 8) := by unfold sm_b; decide +kernel
theorem sm_mk16 : ∀ i, i < 64 → (sm_b 65535 i ↔ i < 16) := by unfold sm_b; decide +kernel
theorem sm_mk32 : ∀ i, i < 64 → (sm_b 4294967295 i ↔ i < 32) := by unfold sm_b; decide +kernel
theorem sm_lbm {x mk : Int64} {m k : Nat} (hx : sm_lb x m) (hm : m < 64) (hk : ∀ i, i < 64 → (sm_b mk i ↔ i < k)) : (x &&& mk) = 0 ↔ k ≤ m := by
  constructor
  · intro h
    by_cases q : k ≤ m
    · exact q
    · have : sm_b (x &&& mk) m := (sm_band _ _ _).mpr ⟨hx.1, (hk m hm).mpr (by omega)⟩
      rw [h] at this
      exact absurd this (sm_b0 m)
  · intro h
    apply sm_ext
    intro i hi
    rw [sm_band, hk i hi]
    exact ⟨fun q => absurd q.1 (hx.2 i (by omega)), fun q => absurd q (sm_b0 i)⟩
theorem sm_lbs {x : Int64} {m k : Nat} (hx : sm_lb x m) (hm : k ≤ m) (hk : k < 64) : sm_lb ((x.toUInt64 >>> ((nI k).toInt64.toUInt64 &&& Int64.toUInt64 63)).toInt64) (m - k) := by
  constructor
  · rw [sm_bushr x hk, show k + (m - k) = m by omega]
    exact hx.1
  · intro j hj
    rw [sm_bushr x hk]
    exact hx.2 _ (by omega)
theorem sm_lbof {N : Nat} (hN : N ≤ 64) {S : Nat → Prop} {m : Nat} (hm : m < N) (hs : S m) (hl : ∀ j, j < m → ¬ S j) : sm_lb (sm_of N S) m :=
  ⟨(sm_at (by omega)).mpr ⟨hm, hs⟩, fun j hj q => hl j hj ((sm_at (by omega)).mp q).2⟩
theorem sm_least {N : Nat} {S : Nat → Prop} (h : ∃ a, a < N ∧ S a) : ∃ m, m < N ∧ S m ∧ ∀ j, j < m → ¬ S j := by
  obtain ⟨m, ⟨h1, h2⟩, h3⟩ := pk_least (fun a => a < N ∧ S a) h
  exact ⟨m, h1, h2, fun j hj q => h3 j hj ⟨by omega, q⟩⟩
end
section
/-! the pure picture: valuations, atoms, commands, words, classes, reach, layers, paths -/
def pg_oI : Option Nat → Int32
  | none => -3
  | some b => nI b
def pg_bI : Bool → Int32
  | false => 0
  | true => 1
theorem pg_oI_n {o : Option Nat} (h : o = none) : pg_oI o < 0 := by subst h; decide
theorem pg_oI_s {o : Option Nat} {b : Nat} (h : o = some b) : pg_oI o = nI b := by subst h; rfl
theorem pg_bI_0 {b : Bool} (h : ¬ b = true) : pg_bI b = 0 := by cases b <;> simp_all [pg_bI]
theorem pg_bI_1 {b : Bool} (h : b = true) : pg_bI b = 1 := by subst h; rfl
theorem pg_bI_z {b : Bool} : pg_bI b = 0 ↔ ¬ b = true := by cases b <;> decide
theorem pg_bI_inj {b c : Bool} : pg_bI b = pg_bI c ↔ b = c := by cases b <;> cases c <;> decide
theorem pg_bI_nar (b : Bool) : vp_nar .boolean (pg_bI b) = pg_bI b := by cases b <;> rfl
/-- the value of operand y at code a -/
def pg_op (B a : Nat) (y : Int32) : Int32 := if y < 0 then 0 else nI (a / B ^ y.toNatClampNeg % B)
def pg_cm (l rel r : Int32) : Bool :=
  if rel = 0 then !decide (r ≤ l) else if rel = 1 then !decide (r < l) else if rel = 2 then decide (l = r)
  else if rel = 3 then !decide (l = r) else if rel = 4 then !decide (l < r) else !decide (l ≤ r)
def pg_hA (B : Nat) (x rel y k : Int32) (a : Nat) : Bool := pg_cm (pg_op B a x) rel (pg_op B a y + k)
def pg_hd (B : Nat) (am : Nat → Int32) (i a : Nat) : Bool := pg_hA B (am (i * 4)) (am (i * 4 + 1)) (am (i * 4 + 2)) (am (i * 4 + 3)) a
def pg_fv (B : Nat) (pl mi ad : Nat → Int32) (c a x : Nat) : Int32 := pg_op B a (pl (c * 3 + x)) - pg_op B a (mi (c * 3 + x)) + ad (c * 3 + x)
def pg_ea (B T : Nat) (pl mi ad : Nat → Int32) (c a : Nat) : Nat → Option Nat
  | 0 => some 0
  | x + 1 => match pg_ea B T pl mi ad c a x with
    | none => none
    | some r => if pg_fv B pl mi ad c a x < 0 then none else if pg_fv B pl mi ad c a x ≤ nI T then some (r + (pg_fv B pl mi ad c a x).toNatClampNeg * B ^ x) else none
def pg_ga (B : Nat) (am : Nat → Int32) (c a : Nat) : Nat → Bool
  | 0 => true
  | g + 1 => pg_ga B am c a g && pg_hd B am (c * 3 + g) a
/-- the result of command c at code a -/
def pg_ex (V T : Nat) (gu am pl mi ad : Nat → Int32) (c a : Nat) : Option Nat :=
  if pg_ga (T + 1) am c a (gu c).toNatClampNeg = true then pg_ea (T + 1) T pl mi ad c a V else none
theorem pg_ea_none {B T : Nat} {pl mi ad : Nat → Int32} {c a x : Nat} (h : pg_ea B T pl mi ad c a x = none) : ∀ d, pg_ea B T pl mi ad c a (x + d) = none
  | 0 => h
  | d + 1 => by
    rw [← Nat.add_assoc, pg_ea, pg_ea_none h d]
theorem pg_ea_lt {B T : Nat} {pl mi ad : Nat → Int32} {c a : Nat} (hB : B = T + 1) (hT : T < 100) : ∀ {x r : Nat}, pg_ea B T pl mi ad c a x = some r → r < B ^ x
  | 0, r, h => by
    simp only [pg_ea, Option.some.injEq] at h
    subst h
    simp
  | x + 1, r, h => by
    rw [pg_ea] at h
    cases e : pg_ea B T pl mi ad c a x with
    | none => rw [e] at h; exact absurd h (by simp)
    | some q =>
      have hq := pg_ea_lt (x := x) hB hT e
      rw [e] at h
      simp only at h
      by_cases h1 : pg_fv B pl mi ad c a x < 0
      · rw [if_pos h1] at h; exact absurd h (by simp)
      · rw [if_neg h1] at h
        by_cases h2 : pg_fv B pl mi ad c a x ≤ nI T
        · rw [if_pos h2] at h
          obtain ⟨j, hj, ej⟩ := nI_of h1
          rw [ej] at h h2
          rw [nI_leI hj (by omega)] at h2
          rw [nI_clamp hj] at h
          have h3 : j * B ^ x ≤ T * B ^ x := Nat.mul_le_mul_right _ h2
          simp only [Option.some.injEq] at h
          rw [Nat.pow_succ, hB, Nat.mul_succ, Nat.mul_comm, ← hB]
          omega
        · rw [if_neg h2] at h; exact absurd h (by simp)
theorem pg_ex_lt {V T N : Nat} {gu am pl mi ad : Nat → Int32} {c a b : Nat} (hT : T < 100) (hN : N = (T + 1) ^ V) (h : pg_ex V T gu am pl mi ad c a = some b) : b < N := by
  unfold pg_ex at h
  split at h
  · rw [hN]; exact pg_ea_lt rfl hT h
  · exact absurd h (by simp)
/-- running n commands of the word row wd from place i on -/
def pg_rn (e : Nat → Nat → Option Nat) (w : Nat → Nat) : Nat → Nat → Nat → Option Nat
  | 0, _, a => some a
  | n + 1, i, a => match e (w i) a with
    | none => none
    | some b => pg_rn e w n (i + 1) b
theorem pg_rn_s {e : Nat → Nat → Option Nat} {w : Nat → Nat} {n i a b : Nat} (h : e (w i) a = some b) : pg_rn e w (n + 1) i a = pg_rn e w n (i + 1) b := by
  rw [pg_rn, h]
theorem pg_rn_n {e : Nat → Nat → Option Nat} {w : Nat → Nat} {n i a : Nat} (h : e (w i) a = none) : pg_rn e w (n + 1) i a = none := by
  rw [pg_rn, h]
theorem pg_rn_snoc (e : Nat → Nat → Option Nat) (w : Nat → Nat) : ∀ (n i a : Nat), pg_rn e w (n + 1) i a = (pg_rn e w n i a).bind (e (w (i + n)))
  | 0, i, a => by
    rw [pg_rn]
    cases h : e (w i) a <;> simp [pg_rn, h]
  | n + 1, i, a => by
    cases h : e (w i) a with
    | none => rw [pg_rn_n h, pg_rn_n h]; rfl
    | some b => rw [pg_rn_s h, pg_rn_s h, pg_rn_snoc e w n (i + 1) b, show i + 1 + n = i + (n + 1) by omega]
theorem pg_rn_cg {e : Nat → Nat → Option Nat} {w w' : Nat → Nat} : ∀ {n i i' : Nat}, (∀ j, j < n → w (i + j) = w' (i' + j)) → ∀ a, pg_rn e w n i a = pg_rn e w' n i' a
  | 0, _, _, _, _ => rfl
  | n + 1, i, i', h, a => by
    have h0 : w i = w' i' := h 0 (by omega)
    cases q : e (w i) a with
    | none => rw [pg_rn_n q, pg_rn_n (h0 ▸ q)]
    | some b =>
      rw [pg_rn_s q, pg_rn_s (i := i') (b := b) (h0 ▸ q)]
      exact pg_rn_cg (fun j hj => by have := h (j + 1) (by omega); rwa [show i + (j + 1) = i + 1 + j by omega, show i' + (j + 1) = i' + 1 + j by omega] at this) b
theorem pg_rn_lt {e : Nat → Nat → Option Nat} {w : Nat → Nat} {N nc : Nat} (he : ∀ c a b, c < nc → a < N → e c a = some b → b < N) : ∀ {n i a b : Nat}, (∀ j, j < n → w (i + j) < nc) → a < N → pg_rn e w n i a = some b → b < N
  | 0, i, a, b, _, ha, h => by
    rw [pg_rn] at h
    cases h
    exact ha
  | n + 1, i, a, b, hw, ha, h => by
    cases q : e (w i) a with
    | none => rw [pg_rn_n q] at h; exact absurd h (by simp)
    | some d =>
      rw [pg_rn_s q] at h
      exact pg_rn_lt he (fun j hj => by have := hw (j + 1) (by omega); rwa [show i + (j + 1) = i + 1 + j by omega] at this) (he _ _ _ (hw 0 (by omega)) ha q) h
theorem pg_rn_mono {e : Nat → Nat → Option Nat} {w : Nat → Nat} {n i a : Nat} (h : pg_rn e w n i a = none) : ∀ d, pg_rn e w (n + d) i a = none
  | 0 => h
  | d + 1 => by
    rw [← Nat.add_assoc, pg_rn_snoc, pg_rn_mono h d]
    rfl
/-- equivalence at a location -/
def pg_Q (ns nw : Nat) (sd : Nat → Nat → Bool) (sw : Nat → Nat) (wr : Nat → Nat → Bool) (l a b : Nat) : Prop :=
  (∀ s, s < ns → sd s a = sd s b) ∧ ∀ p, p < nw → sw p = l → wr p a = wr p b
def pg_eqv (Q : Nat → Nat → Nat → Prop) : Prop := (∀ l a, Q l a a) ∧ (∀ l a b, Q l a b → Q l b a) ∧ ∀ l a b c, Q l a b → Q l b c → Q l a c
theorem pg_Q_eqv (ns nw : Nat) (sd : Nat → Nat → Bool) (sw : Nat → Nat) (wr : Nat → Nat → Bool) : pg_eqv (pg_Q ns nw sd sw wr) :=
  ⟨fun _ _ => ⟨fun _ _ => rfl, fun _ _ _ => rfl⟩, fun _ _ _ h => ⟨fun s hs => (h.1 s hs).symm, fun p hp hl => (h.2 p hp hl).symm⟩,
    fun _ _ _ _ h k => ⟨fun s hs => (h.1 s hs).trans (k.1 s hs), fun p hp hl => (h.2 p hp hl).trans (k.2 p hp hl)⟩⟩
/-- images, preimages, closures -/
def pg_im (e : Nat → Nat → Option Nat) (N c : Nat) (S : Nat → Prop) (b : Nat) : Prop := ∃ a, a < N ∧ S a ∧ e c a = some b
def pg_pr (e : Nat → Nat → Option Nat) (c : Nat) (S : Nat → Prop) (a : Nat) : Prop := ∃ b, e c a = some b ∧ S b
def pg_cl (Q : Nat → Nat → Nat → Prop) (N l : Nat) (S : Nat → Prop) (b : Nat) : Prop := ∃ a, a < N ∧ S a ∧ Q l a b
theorem pg_cl_sub {Q : Nat → Nat → Nat → Prop} (hQ : pg_eqv Q) {N l : Nat} {S : Nat → Prop} {a : Nat} (ha : a < N) (h : S a) : pg_cl Q N l S a := ⟨a, ha, h, hQ.1 l a⟩
theorem pg_cl_Q {Q : Nat → Nat → Nat → Prop} (hQ : pg_eqv Q) {N l : Nat} {S : Nat → Prop} {a b : Nat} (h : pg_cl Q N l S a) (q : Q l a b) : pg_cl Q N l S b := by
  obtain ⟨x, hx, hs, hq⟩ := h
  exact ⟨x, hx, hs, hQ.2.2 l x a b hq q⟩
/-- the abstract reach: the least closed family -/
def pg_cd (e : Nat → Nat → Option Nat) (Q : Nat → Nat → Nat → Prop) (N nc : Nat) (src tgt : Nat → Nat) (ini : Nat → Prop) (S : Nat → Nat → Prop) : Prop :=
  (∀ a b, a < N → b < N → ini a → Q 0 a b → S 0 b) ∧ ∀ c a b d, c < nc → a < N → d < N → S (src c) a → e c a = some b → Q (tgt c) b d → S (tgt c) d
def pg_RR (e : Nat → Nat → Option Nat) (Q : Nat → Nat → Nat → Prop) (N nc : Nat) (src tgt : Nat → Nat) (ini : Nat → Prop) (l a : Nat) : Prop :=
  ∀ S : Nat → Nat → Prop, pg_cd e Q N nc src tgt ini S → S l a
theorem pg_RR_cd (e : Nat → Nat → Option Nat) (Q : Nat → Nat → Nat → Prop) (N nc : Nat) (src tgt : Nat → Nat) (ini : Nat → Prop) : pg_cd e Q N nc src tgt ini (pg_RR e Q N nc src tgt ini) :=
  ⟨fun a b ha hb hi hq _ hS => hS.1 a b ha hb hi hq, fun c a b d hc ha hd h he hq S hS => hS.2 c a b d hc ha hd (h S hS) he hq⟩
theorem pg_RR_Q {e : Nat → Nat → Option Nat} {Q : Nat → Nat → Nat → Prop} (hQ : pg_eqv Q) {N nc : Nat} {src tgt : Nat → Nat} {ini : Nat → Prop} {l a b : Nat} (ha : a < N) (hb : b < N) (h : pg_RR e Q N nc src tgt ini l a) (q : Q l a b) : pg_RR e Q N nc src tgt ini l b := by
  have key := h (fun l a => ∀ b, b < N → Q l a b → pg_RR e Q N nc src tgt ini l b) ?_
  · exact key b hb q
  · have R := pg_RR_cd e Q N nc src tgt ini
    refine ⟨fun x y hx _ hi hq z hz hz' => R.1 x z hx hz hi (hQ.2.2 _ _ _ _ hq hz'), fun c x y d hc hx _ hS he hq z hz hz' => ?_⟩
    exact R.2 c x y z hc hx hz (hS x hx (hQ.1 _ _)) he (hQ.2.2 _ _ _ _ hq hz')
/-- from (l, a) the error location is exactly d abstract commands away -/
def pg_ly (e : Nat → Nat → Option Nat) (Q : Nat → Nat → Nat → Prop) (N nc L : Nat) (src tgt : Nat → Nat) : Nat → Nat → Nat → Prop
  | 0, l, _ => l = L - 1
  | d + 1, l, a => ∃ c a' b, c < nc ∧ a' < N ∧ src c = l ∧ e c a' = some b ∧ pg_ly e Q N nc L src tgt d (tgt c) b ∧ Q l a' a
theorem pg_ly_Q {e : Nat → Nat → Option Nat} {Q : Nat → Nat → Nat → Prop} (hQ : pg_eqv Q) {N nc L : Nat} {src tgt : Nat → Nat} : ∀ {d l a b : Nat}, pg_ly e Q N nc L src tgt d l a → Q l a b → pg_ly e Q N nc L src tgt d l b
  | 0, _, _, _, h, _ => h
  | _ + 1, _, _, _, ⟨c, x, y, h1, h2, h3, h4, h5, h6⟩, q => ⟨c, x, y, h1, h2, h3, h4, h5, hQ.2.2 _ _ _ _ h6 q⟩
/-- one step of the least path: the set S at l, and d + 1 commands to go -/
def pg_ok (e : Nat → Nat → Option Nat) (Q : Nat → Nat → Nat → Prop) (N nc L : Nat) (src tgt : Nat → Nat) (d l : Nat) (S : Nat → Prop) (c : Nat) : Prop :=
  src c = l ∧ ∃ a b, a < N ∧ S a ∧ e c a = some b ∧ pg_ly e Q N nc L src tgt d (tgt c) b
def pg_st (e : Nat → Nat → Option Nat) (Q : Nat → Nat → Nat → Prop) (N nc L : Nat) (src tgt : Nat → Nat) (d l : Nat) (S : Nat → Prop) (c : Nat) : Prop :=
  c < nc ∧ pg_ok e Q N nc L src tgt d l S c ∧ ∀ j, j < c → ¬ pg_ok e Q N nc L src tgt d l S j
/-- the least path of k commands, with its locations and sets -/
def pg_pt (e : Nat → Nat → Option Nat) (Q : Nat → Nat → Nat → Prop) (N nc L : Nat) (src tgt : Nat → Nat) (S0 : Nat → Prop) (k : Nat) (pc lo : Nat → Nat) (SS : Nat → Nat → Prop) : Prop :=
  lo 0 = 0 ∧ SS 0 = S0 ∧ ∀ i, i < k → pg_st e Q N nc L src tgt (k - i - 1) (lo i) (SS i) (pc i) ∧ lo (i + 1) = tgt (pc i) ∧ SS (i + 1) = pg_cl Q N (tgt (pc i)) (pg_im e N (pc i) (SS i))
theorem pg_step {e : Nat → Nat → Option Nat} {Q : Nat → Nat → Nat → Prop} (hQ : pg_eqv Q) {N nc L : Nat} {src tgt : Nat → Nat} {d l : Nat} {S : Nat → Prop} (hS : ∀ a b, S a → Q l a b → S b) {a : Nat} (ha : S a) (hl : pg_ly e Q N nc L src tgt (d + 1) l a) : ∃ c, pg_st e Q N nc L src tgt d l S c := by
  obtain ⟨c, x, y, h1, h2, h3, h4, h5, h6⟩ := hl
  have hx : S x := hS a x ha (hQ.2.1 _ _ _ h6)
  obtain ⟨m, hm, hm2⟩ := pk_least (pg_ok e Q N nc L src tgt d l S) ⟨c, h3, x, y, h2, hx, h4, h5⟩
  refine ⟨m, ?_, hm, hm2⟩
  rcases Nat.lt_or_ge c m with z | z
  · exact absurd ⟨h3, x, y, h2, hx, h4, h5⟩ (hm2 c z)
  · omega
theorem pg_path {e : Nat → Nat → Option Nat} {Q : Nat → Nat → Nat → Prop} (hQ : pg_eqv Q) {N nc L : Nat} (hE : ∀ c a b, c < nc → a < N → e c a = some b → b < N) {src tgt : Nat → Nat} {S0 : Nat → Prop} {k : Nat} (hS0 : ∀ a b, S0 a → Q 0 a b → S0 b) {a : Nat} (ha : S0 a) (hk : pg_ly e Q N nc L src tgt k 0 a) : ∃ pc lo SS, pg_pt e Q N nc L src tgt S0 k pc lo SS := by
  -- the step chosen by choice
  have key : ∀ (d l : Nat) (S : Nat → Prop), (∀ a b, S a → Q l a b → S b) → (∃ a, S a ∧ pg_ly e Q N nc L src tgt d l a) → ∃ (pc lo : Nat → Nat) (SS : Nat → Nat → Prop), lo 0 = l ∧ SS 0 = S ∧ ∀ i, i < d → pg_st e Q N nc L src tgt (d - i - 1) (lo i) (SS i) (pc i) ∧ lo (i + 1) = tgt (pc i) ∧ SS (i + 1) = pg_cl Q N (tgt (pc i)) (pg_im e N (pc i) (SS i)) := by
    intro d
    induction d with
    | zero => exact fun l S _ _ => ⟨fun _ => 0, fun _ => l, fun _ => S, rfl, rfl, fun i hi => absurd hi (by omega)⟩
    | succ d ih =>
      intro l S hS hx
      obtain ⟨a, ha, hl⟩ := hx
      obtain ⟨c, hc⟩ := pg_step hQ hS ha hl
      obtain ⟨x, y, hx, hSx, hy, hly⟩ := hc.2.1.2
      have hyN : y < N := hE c x y hc.1 hx hy
      obtain ⟨pc, lo, SS, h0, h1, h2⟩ := ih (tgt c) (pg_cl Q N (tgt c) (pg_im e N c S)) (fun a b h q => pg_cl_Q hQ h q) ⟨y, pg_cl_sub hQ hyN ⟨x, hx, hSx, hy⟩, hly⟩
      refine ⟨fun i => if i = 0 then c else pc (i - 1), fun i => if i = 0 then l else lo (i - 1), fun i => if i = 0 then S else SS (i - 1), by simp, by simp, ?_⟩
      intro i hi
      cases i with
      | zero =>
        simp only [if_true, Nat.zero_add, Nat.add_sub_cancel, Nat.sub_zero, Nat.one_ne_zero, if_false, Nat.sub_self]
        exact ⟨hc, h0, h1⟩
      | succ j =>
        have h := h2 j (by omega)
        simp only [Nat.add_one_ne_zero, if_false, Nat.add_sub_cancel]
        rw [show d + 1 - (j + 1) - 1 = d - j - 1 by omega]
        exact h
  exact key k 0 S0 hS0 ⟨a, ha, hk⟩
/-- counting pairs -/
noncomputable def cn_1 (P : Prop) : Nat := @ite Nat P (Classical.propDecidable P) 1 0
theorem cn_1t {P : Prop} (h : P) : cn_1 P = 1 := by unfold cn_1; rw [if_pos h]
theorem cn_1f {P : Prop} (h : ¬ P) : cn_1 P = 0 := by unfold cn_1; rw [if_neg h]
theorem cn_1le (P : Prop) : cn_1 P ≤ 1 := by
  rcases Classical.em P with h | h
  · rw [cn_1t h]; omega
  · rw [cn_1f h]; omega
theorem cn_1m {P Q : Prop} (h : P → Q) : cn_1 P ≤ cn_1 Q := by
  rcases Classical.em P with hp | hp
  · rw [cn_1t hp, cn_1t (h hp)]; omega
  · rw [cn_1f hp]; omega
noncomputable def cn_n (P : Nat → Prop) : Nat → Nat
  | 0 => 0
  | k + 1 => cn_n P k + cn_1 (P k)
theorem cn_m {P Q : Nat → Prop} : ∀ {N : Nat}, (∀ k, k < N → P k → Q k) → cn_n P N ≤ cn_n Q N
  | 0, _ => Nat.le_refl _
  | N + 1, h => by
    have a := cn_m (P := P) (Q := Q) (N := N) (fun k hk => h k (by omega))
    have b := cn_1m (h N (by omega))
    simp only [cn_n]; omega
theorem cn_lt {P Q : Nat → Prop} {a : Nat} (hp : ¬ P a) (hq : Q a) : ∀ {N : Nat}, (∀ k, k < N → P k → Q k) → a < N → cn_n P N < cn_n Q N
  | 0, _, h => by omega
  | N + 1, h, ha => by
    simp only [cn_n]
    rcases Nat.lt_or_ge a N with z | z
    · have x := cn_lt hp hq (N := N) (fun k hk => h k (by omega)) z
      have b := cn_1m (h N (by omega))
      omega
    · have e : a = N := by omega
      subst e
      have x := cn_m (P := P) (Q := Q) (N := a) (fun k hk => h k (by omega))
      rw [cn_1t hq, cn_1f hp]; omega
theorem cn_le (P : Nat → Prop) : ∀ N, cn_n P N ≤ N
  | 0 => Nat.le_refl _
  | N + 1 => by have := cn_le P N; have := cn_1le (P N); simp only [cn_n]; omega
theorem cn_all {P : Nat → Prop} : ∀ {N : Nat}, N ≤ cn_n P N → ∀ k, k < N → P k
  | 0, _, k, hk => by omega
  | N + 1, h, k, hk => by
    have a := cn_le P N
    have b := cn_1le (P N)
    simp only [cn_n] at h
    rcases Nat.lt_or_ge k N with z | z
    · exact cn_all (N := N) (by omega) k z
    · have e : k = N := by omega
      subst e
      rcases Classical.em (P k) with q | q
      · exact q
      · rw [cn_1f q] at h; omega
/-- a family of sets as a set of pairs l * 64 + a -/
def cn_pr (R : Nat → Nat → Prop) (j : Nat) : Prop := R (j / 64) (j % 64)
theorem cn_pr_at {R : Nat → Nat → Prop} {l a : Nat} (ha : a < 64) : cn_pr R (l * 64 + a) ↔ R l a := by
  unfold cn_pr
  rw [show (l * 64 + a) / 64 = l by omega, show (l * 64 + a) % 64 = a by omega]
/-- loops with an outcome that stands ahead of the continuation -/
theorem lx_up {κ σ : Type} (W : κ → Nat → Nat → σ → Prop) (K : κ → σ → Prop) (I : Nat → σ → Prop) (e : Nat)
    (hx : ∀ p n s, I e s → K p s → W p (n + 1) e s)
    (hs : ∀ i s, i < e → I i s → ∃ s1, I (i + 1) s1 ∧ ∀ p n, W p n (i + 1) s1 → W p (n + 1) i s) :
    ∀ d i s, i + d = e → I i s → ∃ s', I e s' ∧ ∀ p n, d < n → K p s' → W p n i s := by
  intro d
  induction d with
  | zero =>
    intro i s hi hI
    have : i = e := by omega
    subst this
    refine ⟨s, hI, fun p n hn hK => ?_⟩
    obtain ⟨m, rfl⟩ : ∃ m, n = m + 1 := ⟨n - 1, by omega⟩
    exact hx p m s hI hK
  | succ d ih =>
    intro i s hi hI
    obtain ⟨s1, h1, w1⟩ := hs i s (by omega) hI
    obtain ⟨s', h2, w2⟩ := ih (i + 1) s1 (by omega) h1
    refine ⟨s', h2, fun p n hn hK => ?_⟩
    obtain ⟨m, rfl⟩ : ∃ m, n = m + 1 := ⟨n - 1, by omega⟩
    exact w1 p m (w2 p m (by omega) hK)
/-- indices -/
theorem ix_64 (c i : Nat) : nI c * 64 + nI i = nI (c * 64 + i) := by
  rw [show (64 : Int32) = nI 64 from rfl, pk_mul, nI_add]
theorem ix_24 (c i : Nat) : nI c * 24 + nI i = nI (c * 24 + i) := by
  rw [show (24 : Int32) = nI 24 from rfl, pk_mul, nI_add]
theorem ix_3 (c i : Nat) : nI c * 3 + nI i = nI (c * 3 + i) := by
  rw [show (3 : Int32) = nI 3 from rfl, pk_mul, nI_add]
theorem ix_4 (c : Nat) : nI c * 4 = nI (c * 4) := by
  rw [show (4 : Int32) = nI 4 from rfl, pk_mul]
theorem ix_8 (c : Nat) : nI c * 8 = nI (c * 8) := by
  rw [show (8 : Int32) = nI 8 from rfl, pk_mul]
theorem ix_k (k n : Nat) {x : Int32} (hx : x = nI k) : x + nI n = nI (k + n) := by subst hx; exact nI_add k n
/-- an array read at a computed index -/
theorem rd_i {f : Nat → Int32} {x : Int32} {n : Nat} {y : Int32} (hx : x = nI n) (hn : n < 2 ^ 31) (h : f n = y) : f x.toNatClampNeg = y := by
  subst hx; rw [nI_clamp hn]; exact h
theorem rd_l {f : Nat → Int64} {x : Int32} {n : Nat} {y : Int64} (hx : x = nI n) (hn : n < 2 ^ 31) (h : f n = y) : f x.toNatClampNeg = y := by
  subst hx; rw [nI_clamp hn]; exact h
theorem wr_i {f : Nat → Int32} {x : Int32} {n : Nat} {y z : Int32} (hx : x = nI n) (hn : n < 2 ^ 31) (h : y = z) : upd f x.toNatClampNeg y = upd f n z := by
  subst hx h; rw [nI_clamp hn]
theorem wr_l {f : Nat → Int64} {x : Int32} {n : Nat} {y z : Int64} (hx : x = nI n) (hn : n < 2 ^ 31) (h : y = z) : vp_updL f x.toNatClampNeg y = vp_updL f n z := by
  subst hx h; rw [nI_clamp hn]
end
section
/-! the component: bits, lowest code, closure, image, preimage -/
def cx_E (e : Nat → Nat → Option Nat) (nc N : Nat) (nx : Nat → Int32) : Prop := ∀ c a, c < nc → a < N → nx (c * 64 + a) = pg_oI (e c a)
def cx_B (e : Nat → Nat → Option Nat) (nc N : Nat) : Prop := ∀ c a b, c < nc → a < N → e c a = some b → b < N
def cx_C (Q : Nat → Nat → Nat → Prop) (L N : Nat) (ce : Nat → Int64) : Prop := ∀ l a, l < L → a < N → ce (l * 64 + a) = sm_of N (Q l a)
def cx_T (fo tt : Nat → Int32) (src tgt : Nat → Nat) (nc L : Nat) : Prop := ∀ c, c < nc → fo c = nI (src c) ∧ src c < L ∧ tt c = nI (tgt c) ∧ tgt c < L
section
variable {V T L M N nc ni ns nw : Nat} {rv st rc pn bp wt : Int32} {iS : Int64} {va we fo tt gc po mo co nx wc wl pa : Nat → Int32} {gs ss ws ce re fr ly : Nat → Int64}
theorem xw_contains {post : Int32 → Prop} {S : Nat → Prop} {a : Nat} (hN : N ≤ 64) (ha : a < N) (h1 : S a → post 1) (h0 : ¬ S a → post 0) : wpX_contains post (nI V, nI T, nI L, nI M, nI N, sm_fl N, nI nc, nI ni, iS, nI ns, nI nw, rv, st, rc, pn, bp, wt, va, we, fo, tt, gc, gs, po, mo, co, nx, ss, wc, wl, ws, ce, re, fr, ly, pa) (sm_of N S) (nI a) :=
  br_c (fun h => h0 ((sm_test hN S ha).mp h)) (fun h => h1 (Classical.not_not.mp (fun q => h ((sm_test hN S ha).mpr q))))
theorem xw_low93 {post : Int32 → Prop} {x : Int64} {m k : Nat} (hx : sm_lb x m) (hm : m < 2) (h : post (nI (k + m))) : wX_lowestCode_93 post x (nI k) (nI V) (nI T) (nI L) (nI M) (nI N) (sm_fl N) (nI nc) (nI ni) iS (nI ns) (nI nw) rv st rc pn bp wt va we fo tt gc gs po mo co nx ss wc wl ws ce re fr ly pa := by
  refine br_c (fun q => nm_r (nI_1 k) ?_) (fun q => ?_)
  · have := (sm_lbm hx (by omega) sm_mk1).mp q
    rw [show k + 1 = k + m by omega]
    exact h
  · have : ¬ 1 ≤ m := fun z => q ((sm_lbm hx (by omega) sm_mk1).mpr z)
    have e : m = 0 := by omega
    subst e
    exact h
theorem xw_low76 {post : Int32 → Prop} {x : Int64} {m k : Nat} (hx : sm_lb x m) (hm : m < 4) (h : post (nI (k + m))) : wX_lowestCode_76 post x (nI k) (nI V) (nI T) (nI L) (nI M) (nI N) (sm_fl N) (nI nc) (nI ni) iS (nI ns) (nI nw) rv st rc pn bp wt va we fo tt gc gs po mo co nx ss wc wl ws ce re fr ly pa := by
  refine br_c (fun q => ?_) (fun q => ?_)
  · have z := (sm_lbm hx (by omega) sm_mk2).mp q
    refine nm_r (nI_add k 2) (nm_e (xw_low93 (m := m - 2) (sm_lbs hx z (by decide)) (by omega) ?_))
    rw [show k + 2 + (m - 2) = k + m by omega]
    exact h
  · have : ¬ 2 ≤ m := fun z => q ((sm_lbm hx (by omega) sm_mk2).mpr z)
    exact xw_low93 hx (by omega) h
theorem xw_low59 {post : Int32 → Prop} {x : Int64} {m k : Nat} (hx : sm_lb x m) (hm : m < 8) (h : post (nI (k + m))) : wX_lowestCode_59 post x (nI k) (nI V) (nI T) (nI L) (nI M) (nI N) (sm_fl N) (nI nc) (nI ni) iS (nI ns) (nI nw) rv st rc pn bp wt va we fo tt gc gs po mo co nx ss wc wl ws ce re fr ly pa := by
  refine br_c (fun q => ?_) (fun q => ?_)
  · have z := (sm_lbm hx (by omega) sm_mk4).mp q
    refine nm_r (nI_add k 4) (nm_e (xw_low76 (m := m - 4) (sm_lbs hx z (by decide)) (by omega) ?_))
    rw [show k + 4 + (m - 4) = k + m by omega]
    exact h
  · have : ¬ 4 ≤ m := fun z => q ((sm_lbm hx (by omega) sm_mk4).mpr z)
    exact xw_low76 hx (by omega) h
theorem xw_low41 {post : Int32 → Prop} {x : Int64} {m k : Nat} (hx : sm_lb x m) (hm : m < 16) (h : post (nI (k + m))) : wX_lowestCode_41 post x (nI k) (nI V) (nI T) (nI L) (nI M) (nI N) (sm_fl N) (nI nc) (nI ni) iS (nI ns) (nI nw) rv st rc pn bp wt va we fo tt gc gs po mo co nx ss wc wl ws ce re fr ly pa := by
  refine br_c (fun q => ?_) (fun q => ?_)
  · have z := (sm_lbm hx (by omega) sm_mk8).mp q
    refine nm_r (nI_add k 8) (nm_e (xw_low59 (m := m - 8) (sm_lbs hx z (by decide)) (by omega) ?_))
    rw [show k + 8 + (m - 8) = k + m by omega]
    exact h
  · have : ¬ 8 ≤ m := fun z => q ((sm_lbm hx (by omega) sm_mk8).mpr z)
    exact xw_low59 hx (by omega) h
theorem xw_low23 {post : Int32 → Prop} {x : Int64} {m k : Nat} (hx : sm_lb x m) (hm : m < 32) (h : post (nI (k + m))) : wX_lowestCode_23 post x (nI k) (nI V) (nI T) (nI L) (nI M) (nI N) (sm_fl N) (nI nc) (nI ni) iS (nI ns) (nI nw) rv st rc pn bp wt va we fo tt gc gs po mo co nx ss wc wl ws ce re fr ly pa := by
  refine br_c (fun q => ?_) (fun q => ?_)
  · have z := (sm_lbm hx (by omega) sm_mk16).mp q
    refine nm_r (nI_add k 16) (nm_e (xw_low41 (m := m - 16) (sm_lbs hx z (by decide)) (by omega) ?_))
    rw [show k + 16 + (m - 16) = k + m by omega]
    exact h
  · have : ¬ 16 ≤ m := fun z => q ((sm_lbm hx (by omega) sm_mk16).mpr z)
    exact xw_low41 hx (by omega) h
theorem xw_lowb {post : Int32 → Prop} {x : Int64} {m : Nat} (hx : sm_lb x m) (hm : m < 64) (h : post (nI m)) : wpX_lowestCode post (nI V, nI T, nI L, nI M, nI N, sm_fl N, nI nc, nI ni, iS, nI ns, nI nw, rv, st, rc, pn, bp, wt, va, we, fo, tt, gc, gs, po, mo, co, nx, ss, wc, wl, ws, ce, re, fr, ly, pa) x := by
  refine br_c (fun q => ?_) (fun q => ?_)
  · have z := (sm_lbm hx (by omega) sm_mk32).mp q
    refine nm_r (nI_add 0 32) (nm_e (xw_low23 (k := 0 + 32) (m := m - 32) (sm_lbs hx z (by decide)) (by omega) ?_))
    rw [show 0 + 32 + (m - 32) = m by omega]
    exact h
  · have : ¬ 32 ≤ m := fun z => q ((sm_lbm hx (by omega) sm_mk32).mpr z)
    refine xw_low23 (k := 0) hx (by omega) ?_
    rw [Nat.zero_add]
    exact h
theorem xw_low {post : Int32 → Prop} {S : Nat → Prop} {m : Nat} (hN : N ≤ 64) (hm : m < N) (hs : S m) (hl : ∀ j, j < m → ¬ S j) (h : post (nI m)) : wpX_lowestCode post (nI V, nI T, nI L, nI M, nI N, sm_fl N, nI nc, nI ni, iS, nI ns, nI nw, rv, st, rc, pn, bp, wt, va, we, fo, tt, gc, gs, po, mo, co, nx, ss, wc, wl, ws, ce, re, fr, ly, pa) (sm_of N S) :=
  xw_lowb (sm_lbof hN hm hs hl) (by omega) h
theorem xw_closure {post : Int64 → Prop} {S : Nat → Prop} {Q : Nat → Nat → Nat → Prop} {l : Nat} (hN : N ≤ 64) (hL : L ≤ 8) (hl : l < L) (hQ : pg_eqv Q) (hC : cx_C Q L N ce) (h : post (sm_of N (pg_cl Q N l S))) : wpX_closure post (nI V, nI T, nI L, nI M, nI N, sm_fl N, nI nc, nI ni, iS, nI ns, nI nw, rv, st, rc, pn, bp, wt, va, we, fo, tt, gc, gs, po, mo, co, nx, ss, wc, wl, ws, ce, re, fr, ly, pa) (nI l) (sm_of N S) := by
  refine Exists.intro (N + 1) ?_
  suffices H : ∀ n i (D : Nat → Prop) (rest res : Int64), N - i < n → i ≤ N → rest = sm_of N (fun a => S a ∧ ¬ D a) → res = sm_of N D → (∀ a b, D a → Q l a b → D b) → (∀ a, a < N → D a → pg_cl Q N l S a) → (∀ a, a < N → S a → ¬ D a → i ≤ a) → wX_closure_9 post (nI l) (nI V) (nI T) (nI L) (nI M) (nI N) (sm_fl N) (nI nc) (nI ni) iS (nI ns) (nI nw) rv st rc pn bp wt va we fo tt gc gs po mo co nx ss wc wl ws ce re fr ly pa n rest res (nI i) from
    H (N + 1) 0 (fun _ => False) _ _ (by omega) (by omega) (sm_cg fun a _ => ⟨fun q => ⟨q, id⟩, fun q => q.1⟩) (sm_z N) (fun _ _ q _ => q) (fun _ _ q => q.elim) (fun _ _ _ _ => Nat.zero_le _)
  intro n
  induction n with
  | zero => intro i D rest res hn; omega
  | succ n ih =>
    intro i D rest res hn hi hr he h1 h2 h3
    subst hr he
    have fin : (∀ a, a < N → S a → D a) → post (sm_of N D) := fun q => by
      rw [sm_cg (S' := pg_cl Q N l S) (fun a ha => ⟨h2 a ha, fun ⟨x, hx, hs, hq⟩ => h1 x a (q x hx hs) hq⟩)]
      exact h
    refine pk_le N i (fun z => fin (fun a ha hs => Classical.byContradiction fun hd => by have := h3 a ha hs hd; omega)) (fun z => br_c (fun q => fin (fun a ha hs => Classical.byContradiction fun hd => (sm_e0 hN).mp q a ha ⟨hs, hd⟩)) (fun q => ?_))
    obtain ⟨m, hm, ⟨hs, hd⟩, hlow⟩ := sm_least (N := N) (S := fun a => S a ∧ ¬ D a) (Classical.byContradiction fun hh => q ((sm_e0 hN).mpr fun a ha hs => hh ⟨a, ha, hs⟩))
    have hi2 : i ≤ m := h3 m hm hs hd
    refine xw_low hN hm ⟨hs, hd⟩ hlow ?_
    refine And.intro (pk_in (l * 64 + m) 512 (by omega) (ix_64 l m)) ?_
    refine nm_r (rd_l (ix_64 l m) (by omega) (hC l m hl hm)) ?_
    refine nm_e (nm_e (nm_r (nI_1 i) ?_))
    refine ih (i + 1) (fun a => D a ∨ Q l m a) _ _ (by omega) (by omega) ?_ (sm_or _ _ _) ?_ ?_ ?_
    · rw [sm_andn]
      exact sm_cg fun a _ => ⟨fun q => ⟨q.1.1, fun z => z.elim q.1.2 q.2⟩, fun q => ⟨⟨q.1, fun z => q.2 (Or.inl z)⟩, fun z => q.2 (Or.inr z)⟩⟩
    · exact fun a b q r => q.elim (fun x => Or.inl (h1 a b x r)) (fun x => Or.inr (hQ.2.2 _ _ _ _ x r))
    · exact fun a ha q => q.elim (h2 a ha) (fun x => ⟨m, hm, hs, x⟩)
    · intro a ha hsa hda
      have h4 : ¬ a < m := fun q => hlow a q ⟨hsa, fun z => hda (Or.inl z)⟩
      have h5 : a ≠ m := fun q => hda (Or.inr (q ▸ hQ.1 l m))
      omega
theorem xw_post {post : Int64 → Prop} {S : Nat → Prop} {e : Nat → Nat → Option Nat} {c : Nat} (hN : N ≤ 64) (hnc : nc ≤ 16) (hc : c < nc) (hE : cx_E e nc N nx) (hB : cx_B e nc N) (h : post (sm_of N (pg_im e N c S))) : wpX_post post (nI V, nI T, nI L, nI M, nI N, sm_fl N, nI nc, nI ni, iS, nI ns, nI nw, rv, st, rc, pn, bp, wt, va, we, fo, tt, gc, gs, po, mo, co, nx, ss, wc, wl, ws, ce, re, fr, ly, pa) (nI c) (sm_of N S) := by
  refine Exists.intro (N + 1) ?_
  suffices H : ∀ n i (r : Int64), N - i < n → i ≤ N → r = sm_of N (fun b => ∃ a, a < i ∧ S a ∧ e c a = some b) → wX_post_6 post (nI c) (sm_of N S) (nI V) (nI T) (nI L) (nI M) (nI N) (sm_fl N) (nI nc) (nI ni) iS (nI ns) (nI nw) rv st rc pn bp wt va we fo tt gc gs po mo co nx ss wc wl ws ce re fr ly pa n r (nI i) from
    H (N + 1) 0 _ (by omega) (by omega) ((sm_z N).trans (sm_cg fun b _ => ⟨False.elim, fun ⟨_, q, _⟩ => by omega⟩))
  intro n
  induction n with
  | zero => intro i r hn; omega
  | succ n ih =>
    intro i r hn hi hr
    refine pk_le N i (fun z => ?_) (fun z => ?_)
    · have : i = N := by omega
      subst this
      subst hr
      exact h
    · refine And.intro (pk_in (c * 64 + i) 1024 (by omega) (ix_64 c i)) (nm_r (rd_i (ix_64 c i) (by omega) (hE c i hc z)) ?_)
      cases q : e c i with
      | none =>
        refine br_t (by decide) (nm_r (nI_1 i) (ih (i + 1) r (by omega) (by omega) ?_))
        rw [hr]
        refine sm_cg fun b _ => ⟨fun ⟨a, h1, h2⟩ => ⟨a, by omega, h2⟩, fun ⟨a, h1, h2, h3⟩ => ⟨a, ?_, h2, h3⟩⟩
        have : a ≠ i := fun w => by subst w; rw [q] at h3; exact absurd h3 (by simp)
        omega
      | some d =>
        have hd := hB c i d hc z q
        refine br_f (nI_pos (show d < 2 ^ 31 by omega)) (xw_contains hN z (fun hs => ?_) (fun hs => ?_))
        · refine br_f (by decide) (nm_e (nm_r (nI_1 i) (ih (i + 1) _ (by omega) (by omega) ?_)))
          rw [hr]
          refine (sm_set hN _ hd).trans (sm_cg fun b _ => ⟨fun w => w.elim (fun ⟨a, h1, h2⟩ => ⟨a, by omega, h2⟩) (fun w => ⟨i, by omega, hs, by rw [w]; exact q⟩), fun ⟨a, h1, h2, h3⟩ => ?_⟩)
          by_cases w : a = i
          · subst w
            rw [q] at h3
            cases h3
            exact Or.inr rfl
          · exact Or.inl ⟨a, by omega, h2, h3⟩
        · refine br_t rfl (nm_r (nI_1 i) (ih (i + 1) r (by omega) (by omega) ?_))
          rw [hr]
          refine sm_cg fun b _ => ⟨fun ⟨a, h1, h2⟩ => ⟨a, by omega, h2⟩, fun ⟨a, h1, h2, h3⟩ => ⟨a, ?_, h2, h3⟩⟩
          have : a ≠ i := fun w => by subst w; exact hs h2
          omega
theorem xw_pre {post : Int64 → Prop} {S : Nat → Prop} {e : Nat → Nat → Option Nat} {c : Nat} (hN : N ≤ 64) (hnc : nc ≤ 16) (hc : c < nc) (hE : cx_E e nc N nx) (hB : cx_B e nc N) (h : post (sm_of N (pg_pr e c S))) : wpX_pre post (nI V, nI T, nI L, nI M, nI N, sm_fl N, nI nc, nI ni, iS, nI ns, nI nw, rv, st, rc, pn, bp, wt, va, we, fo, tt, gc, gs, po, mo, co, nx, ss, wc, wl, ws, ce, re, fr, ly, pa) (nI c) (sm_of N S) := by
  refine Exists.intro (N + 1) ?_
  suffices H : ∀ n i (r : Int64), N - i < n → i ≤ N → r = sm_of N (fun a => a < i ∧ pg_pr e c S a) → wX_pre_6 post (nI c) (sm_of N S) (nI V) (nI T) (nI L) (nI M) (nI N) (sm_fl N) (nI nc) (nI ni) iS (nI ns) (nI nw) rv st rc pn bp wt va we fo tt gc gs po mo co nx ss wc wl ws ce re fr ly pa n r (nI i) from
    H (N + 1) 0 _ (by omega) (by omega) ((sm_z N).trans (sm_cg fun b _ => ⟨False.elim, fun q => by omega⟩))
  intro n
  induction n with
  | zero => intro i r hn; omega
  | succ n ih =>
    intro i r hn hi hr
    have sk : ¬ pg_pr e c S i → i < N → r = sm_of N (fun a => a < i + 1 ∧ pg_pr e c S a) := fun w z => by
      rw [hr]
      refine sm_cg fun a _ => ⟨fun q => ⟨by omega, q.2⟩, fun q => ⟨?_, q.2⟩⟩
      have : a ≠ i := fun y => w (y ▸ q.2)
      omega
    refine pk_le N i (fun z => ?_) (fun z => ?_)
    · have : i = N := by omega
      subst this
      rw [hr, sm_cg (S' := pg_pr e c S) (fun a ha => ⟨fun q => q.2, fun q => ⟨ha, q⟩⟩)]
      exact h
    · refine And.intro (pk_in (c * 64 + i) 1024 (by omega) (ix_64 c i)) (nm_r (rd_i (ix_64 c i) (by omega) (hE c i hc z)) ?_)
      cases q : e c i with
      | none =>
        exact br_t (by decide) (nm_r (nI_1 i) (ih (i + 1) r (by omega) (by omega) (sk (fun ⟨b, h1, _⟩ => by rw [q] at h1; exact absurd h1 (by simp)) z)))
      | some d =>
        have hd := hB c i d hc z q
        refine br_f (nI_pos (show d < 2 ^ 31 by omega)) (xw_contains hN hd (fun hs => ?_) (fun hs => ?_))
        · refine br_f (by decide) (nm_e (nm_r (nI_1 i) (ih (i + 1) _ (by omega) (by omega) ?_)))
          rw [hr]
          refine (sm_set hN _ z).trans (sm_cg fun a _ => ⟨fun w => w.elim (fun w => ⟨by omega, w.2⟩) (fun w => ⟨by omega, ⟨d, by rw [w]; exact q, hs⟩⟩), fun w => ?_⟩)
          by_cases y : a = i
          · exact Or.inr y
          · exact Or.inl ⟨by omega, w.2⟩
        · refine br_t rfl (nm_r (nI_1 i) (ih (i + 1) r (by omega) (by omega) (sk (fun ⟨b, h1, h2⟩ => ?_) z)))
          rw [q] at h1
          cases h1
          exact hs h2
end
end
section
/-! the component: propagate, ensureReach -/
def rc_I (e : Nat → Nat → Option Nat) (Q : Nat → Nat → Nat → Prop) (N nc L : Nat) (src tgt : Nat → Nat) (ini : Nat → Prop) (exc : Nat → Nat → Prop) (R F : Nat → Nat → Prop) : Prop :=
  (∀ l a, l < L → a < N → F l a → R l a) ∧ (∀ l a, l < L → a < N → R l a → pg_RR e Q N nc src tgt ini l a) ∧
  (∀ a b, a < N → b < N → ini a → Q 0 a b → R 0 b) ∧
  (∀ c a b d, c < nc → a < N → d < N → R (src c) a → ¬ F (src c) a → ¬ exc c a → e c a = some b → Q (tgt c) b d → R (tgt c) d)
theorem rc_fin {e : Nat → Nat → Option Nat} {Q : Nat → Nat → Nat → Prop} {N nc L : Nat} {src tgt : Nat → Nat} {ini : Nat → Prop} {R F : Nat → Nat → Prop} (hL : 0 < L) (hT : ∀ c, c < nc → src c < L ∧ tgt c < L) (hI : rc_I e Q N nc L src tgt ini (fun _ _ => False) R F) (hF : ∀ l a, l < L → a < N → ¬ F l a) {l : Nat} (hl : l < L) : sm_of N (R l) = sm_of N (pg_RR e Q N nc src tgt ini l) := by
  refine sm_cg fun a ha => ⟨hI.2.1 l a hl ha, fun h => ?_⟩
  refine h (fun l a => l < L → a < N → R l a) ⟨fun x y hx hy hi hq _ _ => hI.2.2.1 x y hx hy hi hq, fun c x y d hc hx hd hS he hq _ _ => ?_⟩ hl ha
  exact hI.2.2.2 c x y d hc hx hd (hS (hT c hc).1 hx) (hF _ _ (hT c hc).1 hx) id he hq
section
variable {V T L M N nc ni ns nw : Nat} {rv st rc pn bp wt : Int32} {iS : Int64} {va we fo tt gc po mo co nx wc wl pa : Nat → Int32} {gs ss ws ce re fr ly : Nat → Int64} {e : Nat → Nat → Option Nat} {Q : Nat → Nat → Nat → Prop} {src tgt : Nat → Nat} {ini : Nat → Prop}
theorem xw_prop {post : SX → Prop} {R F : Nat → Nat → Prop} {l : Nat} (hN : N ≤ 64) (hL : L ≤ 8) (hnc : nc ≤ 16) (hE : cx_E e nc N nx) (hB : cx_B e nc N) (hQ : pg_eqv Q) (hC : cx_C Q L N ce) (hT : cx_T fo tt src tgt nc L) (hl : l < L)
    (hre : ∀ l, l < L → re l = sm_of N (R l)) (hfr : ∀ l, l < L → fr l = sm_of N (F l)) (hI : rc_I e Q N nc L src tgt ini (fun _ _ => False) R F)
    (h : ∀ re' fr' R' F', (∀ l, l < L → re' l = sm_of N (R' l)) → (∀ l, l < L → fr' l = sm_of N (F' l)) → rc_I e Q N nc L src tgt ini (fun _ _ => False) R' F' → (∀ l a, l < L → a < N → R l a → ¬ F l a → R' l a ∧ ¬ F' l a) → (∀ a, a < N → F l a → R' l a ∧ ¬ F' l a) → post (nI V, nI T, nI L, nI M, nI N, sm_fl N, nI nc, nI ni, iS, nI ns, nI nw, rv, st, rc, pn, bp, wt, va, we, fo, tt, gc, gs, po, mo, co, nx, ss, wc, wl, ws, ce, re', fr', ly, pa)) :
    wpX_propagate post (nI V, nI T, nI L, nI M, nI N, sm_fl N, nI nc, nI ni, iS, nI ns, nI nw, rv, st, rc, pn, bp, wt, va, we, fo, tt, gc, gs, po, mo, co, nx, ss, wc, wl, ws, ce, re, fr, ly, pa) (nI l) := by
  refine And.intro (pk_in l 8 (by omega)) (nm_r (rd_l rfl (by omega) (hfr l hl)) ?_)
  refine And.intro (pk_in l 8 (by omega)) (nm_r (wr_l (n := l) rfl (by omega) (sm_z N)) ?_)
  refine Exists.intro (nc + 1) ?_
  suffices H : ∀ n c0 (re fr : Nat → Int64) (R' F' : Nat → Nat → Prop), nc - c0 < n → c0 ≤ nc → (∀ l, l < L → re l = sm_of N (R' l)) → (∀ l, l < L → fr l = sm_of N (F' l)) →
      rc_I e Q N nc L src tgt ini (fun c a => src c = l ∧ c0 ≤ c ∧ F l a) R' F' → (∀ l a, l < L → a < N → R l a → ¬ F l a → R' l a ∧ ¬ F' l a) → (∀ a, a < N → F l a → R' l a ∧ ¬ F' l a) → wX_propagate_17 post (nI l) (sm_of N (F l)) (nI V) (nI T) (nI L) (nI M) (nI N) (sm_fl N) (nI nc) (nI ni) iS (nI ns) (nI nw) rv st rc pn bp wt n (nI c0) va we fo tt gc gs po mo co nx ss wc wl ws ce re fr ly pa by
    refine H (nc + 1) 0 re _ R (fun x a => F x a ∧ x ≠ l) (by omega) (by omega) hre ?_ ?_ ?_ ?_
    · intro x hx
      by_cases w : x = l
      · subst w
        rw [pk_uLs]
        exact sm_cg fun a _ => ⟨False.elim, fun q => q.2 rfl⟩
      · rw [pk_uLn w, hfr x hx]
        exact sm_cg fun a _ => ⟨fun q => ⟨q, w⟩, fun q => q.1⟩
    · refine ⟨fun x a hx ha q => hI.1 x a hx ha q.1, hI.2.1, hI.2.2.1, fun c a b d hc ha hd h1 h2 h3 h4 h5 => ?_⟩
      refine hI.2.2.2 c a b d hc ha hd h1 (fun q => ?_) id h4 h5
      by_cases w : src c = l
      · exact h3 ⟨w, Nat.zero_le _, w ▸ q⟩
      · exact h2 ⟨q, w⟩
    · exact fun x a _ _ h1 h2 => ⟨h1, fun q => h2 q.1⟩
    · exact fun a ha h1 => ⟨hI.1 l a hl ha h1, fun q => q.2 rfl⟩
  intro n
  induction n with
  | zero => intro c0 re fr R' F' hn; omega
  | succ n ih =>
    intro c0 re fr R' F' hn hc hre hfr hJ hP hP2
    refine pk_le nc c0 (fun z => ?_) (fun z => ?_)
    · refine h re fr R' F' hre hfr ⟨hJ.1, hJ.2.1, hJ.2.2.1, fun c a b d hc ha hd h1 h2 _ h4 h5 => hJ.2.2.2 c a b d hc ha hd h1 h2 (fun q => ?_) h4 h5⟩ hP hP2
      have := q.2.1
      omega
    · obtain ⟨t1, t2, t3, t4⟩ := hT c0 z
      refine And.intro (pk_in c0 16 (by omega)) (br_c (fun q => ?_) (fun q => ?_))
      · have hs : src c0 = l := by
          rw [nI_clamp (by omega), t1, nI_eq (by omega) (by omega)] at q
          exact q
        refine And.intro (pk_in c0 16 (by omega)) (nm_r (rd_i rfl (by omega) t3) ?_)
        refine xw_post hN hnc z hE hB (xw_closure hN hL t4 hQ hC ?_)
        have vi : vp_in (nI (tgt c0)) 8 := pk_in (tgt c0) 8 (by omega)
        have ce1 : (nI (tgt c0)).toNatClampNeg = tgt c0 := nI_clamp (by omega)
        rw [ce1, hre _ t4, hfr _ t4]
        refine And.intro vi (nm_r (sm_andn _ _ _) (And.intro vi (And.intro vi (nm_r (congrArg _ (sm_or _ _ _)) (And.intro vi (And.intro vi (nm_r (congrArg _ (sm_or _ _ _)) (nm_r (nI_1 c0) ?_))))))))
        have HA : ∀ a, a < N → pg_cl Q N (tgt c0) (pg_im e N c0 (F l)) a → pg_RR e Q N nc src tgt ini (tgt c0) a := by
          rintro a ha ⟨b, hb, ⟨x, hx, hf, he⟩, hq⟩
          refine (pg_RR_cd e Q N nc src tgt ini).2 c0 x b a z hx ha ?_ he hq
          rw [hs]
          exact hI.2.1 l x hl hx (hI.1 l x hl hx hf)
        refine ih (c0 + 1) _ _ (fun x a => R' x a ∨ x = tgt c0 ∧ pg_cl Q N (tgt c0) (pg_im e N c0 (F l)) a ∧ ¬ R' (tgt c0) a) (fun x a => F' x a ∨ x = tgt c0 ∧ pg_cl Q N (tgt c0) (pg_im e N c0 (F l)) a ∧ ¬ R' (tgt c0) a) (by omega) (by omega) ?_ ?_ ?_ ?_ ?_
        · intro x hx
          by_cases w : x = tgt c0
          · subst w
            rw [pk_uLs]
            exact sm_cg fun a _ => ⟨fun q => q.elim Or.inl (fun r => Or.inr ⟨rfl, r⟩), fun q => q.elim Or.inl (fun r => Or.inr r.2)⟩
          · rw [pk_uLn w, hre x hx]
            exact sm_cg fun a _ => ⟨Or.inl, fun q => q.elim id (fun r => absurd r.1 w)⟩
        · intro x hx
          by_cases w : x = tgt c0
          · subst w
            rw [pk_uLs]
            exact sm_cg fun a _ => ⟨fun q => q.elim Or.inl (fun r => Or.inr ⟨rfl, r⟩), fun q => q.elim Or.inl (fun r => Or.inr r.2)⟩
          · rw [pk_uLn w, hfr x hx]
            exact sm_cg fun a _ => ⟨Or.inl, fun q => q.elim id (fun r => absurd r.1 w)⟩
        · refine ⟨fun x a hx ha q => q.elim (fun r => Or.inl (hJ.1 x a hx ha r)) Or.inr, fun x a hx ha q => q.elim (hJ.2.1 x a hx ha) (fun r => ?_), fun a b ha hb hi hq => Or.inl (hJ.2.2.1 a b ha hb hi hq), fun c a b d hc ha hd h1 h2 h3 h4 h5 => ?_⟩
          · rw [r.1]
            exact HA a ha r.2.1
          · have h1' : R' (src c) a := h1.elim id (fun r => absurd (Or.inr r) h2)
            by_cases w : src c = l ∧ c0 ≤ c ∧ F l a
            · have e1 : c = c0 := by
                by_cases y : c = c0
                · exact y
                · exact absurd ⟨w.1, by omega, w.2.2⟩ h3
              subst e1
              rcases Classical.em (R' (tgt c) d) with y | y
              · exact Or.inl y
              · exact Or.inr ⟨rfl, ⟨b, hB c a b z ha h4, ⟨a, ha, w.2.2, h4⟩, h5⟩, y⟩
            · exact Or.inl (hJ.2.2.2 c a b d hc ha hd h1' (fun r => h2 (Or.inl r)) w h4 h5)
        · intro x a hx ha h1 h2
          have w := hP x a hx ha h1 h2
          exact ⟨Or.inl w.1, fun q => q.elim w.2 (fun r => by rw [r.1] at w; exact r.2.2 w.1)⟩
        · intro a ha h1
          have w := hP2 a ha h1
          exact ⟨Or.inl w.1, fun q => q.elim w.2 (fun r => by rw [r.1] at w; exact r.2.2 w.1)⟩
      · have hs : src c0 ≠ l := fun w => q (by rw [nI_clamp (by omega), t1, w])
        refine nm_r (nI_1 c0) (ih (c0 + 1) re fr R' F' (by omega) (by omega) hre hfr ⟨hJ.1, hJ.2.1, hJ.2.2.1, fun c a b d hc ha hd h1 h2 h3 h4 h5 => hJ.2.2.2 c a b d hc ha hd h1 h2 (fun q => ?_) h4 h5⟩ hP hP2)
        by_cases y : c = c0
        · subst y
          exact hs q.1
        · exact h3 ⟨q.1, by have := q.2.1; omega, q.2.2⟩
/-- the pairs that are propagated -/
def rc_P (L N : Nat) (R F : Nat → Nat → Prop) : Nat → Nat → Prop := fun l a => l < L ∧ a < N ∧ R l a ∧ ¬ F l a
theorem xw_er94 {post : SX → Prop} (hN : N ≤ 64) (hL : L ≤ 8) (hnc : nc ≤ 16) (hE : cx_E e nc N nx) (hB : cx_B e nc N) (hQ : pg_eqv Q) (hC : cx_C Q L N ce) (hT : cx_T fo tt src tgt nc L) {k : Nat}
    {J : Int32 → Int32 → Int32 → Int32 → Int32 → Int32 → Int32 → Int64 → Int32 → Int32 → Int64 → Int32 → Int32 → Int32 → Int32 → Int32 → Int32 → Int32 → Int32 → (Nat → Int32) → (Nat → Int32) → (Nat → Int32) → (Nat → Int32) → (Nat → Int32) → (Nat → Int64) → (Nat → Int32) → (Nat → Int32) → (Nat → Int32) → (Nat → Int32) → (Nat → Int64) → (Nat → Int32) → (Nat → Int32) → (Nat → Int64) → (Nat → Int64) → (Nat → Int64) → (Nat → Int64) → (Nat → Int64) → (Nat → Int32) → Prop}
    (h : ∀ re' fr' R' F' (x : Int32), (∀ l, l < L → re' l = sm_of N (R' l)) → (∀ l, l < L → fr' l = sm_of N (F' l)) → rc_I e Q N nc L src tgt ini (fun _ _ => False) R' F' →
      ((x = 0 ∧ ∀ l a, l < L → a < N → ¬ F' l a) ∨ (x = 1 ∧ k + 1 ≤ cn_n (cn_pr (rc_P L N R' F')) 512)) → J x (nI (k + 1)) (nI V) (nI T) (nI L) (nI M) (nI N) (sm_fl N) (nI nc) (nI ni) iS (nI ns) (nI nw) rv st rc pn bp wt va we fo tt gc gs po mo co nx ss wc wl ws ce re' fr' ly pa) :
    ∀ n l (x : Int32) (re fr : Nat → Int64) (R F : Nat → Nat → Prop), L - l < n → l ≤ L → (∀ l, l < L → re l = sm_of N (R l)) → (∀ l, l < L → fr l = sm_of N (F l)) → rc_I e Q N nc L src tgt ini (fun _ _ => False) R F → k ≤ cn_n (cn_pr (rc_P L N R F)) 512 →
      ((x = 0 ∧ ∀ l' a, l' < l → a < N → ¬ F l' a) ∨ (x = 1 ∧ k + 1 ≤ cn_n (cn_pr (rc_P L N R F)) 512)) → wX_ensureReach_94 post J (nI k) n x (nI l) (nI V) (nI T) (nI L) (nI M) (nI N) (sm_fl N) (nI nc) (nI ni) iS (nI ns) (nI nw) rv st rc pn bp wt va we fo tt gc gs po mo co nx ss wc wl ws ce re fr ly pa := by
  intro n
  induction n with
  | zero => intro l x re fr R F hn; omega
  | succ n ih =>
    intro l x re fr R F hn hl hre hfr hI hk hx
    refine pk_le L l (fun z => nm_r (nI_1 k) (h re fr R F x hre hfr hI ?_)) (fun z => ?_)
    · have : l = L := by omega
      subst this
      exact hx
    · refine And.intro (pk_in l 8 (by omega)) (br_c (fun q => ?_) (fun q => ?_))
      · rw [nI_clamp (by omega), hfr l z, sm_e0 hN] at q
        refine nm_r (nI_1 l) (ih (l + 1) x re fr R F (by omega) (by omega) hre hfr hI hk (hx.elim (fun w => Or.inl ⟨w.1, fun l' a hl' ha => ?_⟩) Or.inr))
        by_cases y : l' = l
        · subst y
          exact q a ha
        · exact w.2 l' a (by omega) ha
      · rw [nI_clamp (by omega), hfr l z] at q
        obtain ⟨a0, ha0, hf0⟩ : ∃ a, a < N ∧ F l a := Classical.byContradiction fun hh => q ((sm_e0 hN).mpr fun a ha hs => hh ⟨a, ha, hs⟩)
        refine xw_prop hN hL hnc hE hB hQ hC hT z hre hfr hI (fun re' fr' R' F' h1 h2 h3 h4 h5 => ?_)
        have lt : cn_n (cn_pr (rc_P L N R F)) 512 < cn_n (cn_pr (rc_P L N R' F')) 512 := by
          refine cn_lt (a := l * 64 + a0) ?_ ?_ ?_ (by omega)
          · rw [cn_pr_at (by omega)]
            exact fun w => w.2.2.2 hf0
          · rw [cn_pr_at (by omega)]
            exact ⟨z, ha0, h5 a0 ha0 hf0⟩
          · intro j _ w
            exact ⟨w.1, w.2.1, h4 _ _ w.1 w.2.1 w.2.2.1 w.2.2.2⟩
        exact nm_r (nI_1 l) (ih (l + 1) 1 re' fr' R' F' (by omega) (by omega) h1 h2 h3 (by omega) (Or.inr ⟨rfl, by omega⟩))
theorem xw_er77 {post : SX → Prop} (hN : N ≤ 64) (hL : L ≤ 8) (hL0 : 0 < L) (hnc : nc ≤ 16) (hE : cx_E e nc N nx) (hB : cx_B e nc N) (hQ : pg_eqv Q) (hC : cx_C Q L N ce) (hT : cx_T fo tt src tgt nc L)
    (h : ∀ re' fr' : Nat → Int64, (∀ l, l < L → re' l = sm_of N (pg_RR e Q N nc src tgt ini l)) → post (nI V, nI T, nI L, nI M, nI N, sm_fl N, nI nc, nI ni, iS, nI ns, nI nw, 1, st, rc, pn, bp, wt, va, we, fo, tt, gc, gs, po, mo, co, nx, ss, wc, wl, ws, ce, re', fr', ly, pa)) :
    ∀ n k (x : Int32) (re fr : Nat → Int64) (R F : Nat → Nat → Prop), 512 - k < n → k ≤ 512 → (∀ l, l < L → re l = sm_of N (R l)) → (∀ l, l < L → fr l = sm_of N (F l)) → rc_I e Q N nc L src tgt ini (fun _ _ => False) R F →
      ((x = 0 ∧ ∀ l a, l < L → a < N → ¬ F l a) ∨ (x = 1 ∧ k ≤ cn_n (cn_pr (rc_P L N R F)) 512)) → wX_ensureReach_77 post n x (nI k) (nI V) (nI T) (nI L) (nI M) (nI N) (sm_fl N) (nI nc) (nI ni) iS (nI ns) (nI nw) rv st rc pn bp wt va we fo tt gc gs po mo co nx ss wc wl ws ce re fr ly pa := by
  have hT' : ∀ c, c < nc → src c < L ∧ tgt c < L := fun c hc => ⟨(hT c hc).2.1, (hT c hc).2.2.2⟩
  intro n
  induction n with
  | zero => intro k x re fr R F hn; omega
  | succ n ih =>
    intro k x re fr R F hn hk hre hfr hI hx
    refine pk_le 512 k (fun z => ?_) (fun z => br_c (fun q => ?_) (fun q => ?_))
    · refine h re fr (fun l hl => (hre l hl).trans (rc_fin hL0 hT' hI (fun l a hl ha hf => ?_) hl))
      rcases hx with w | w
      · exact w.2 l a hl ha hf
      · have := cn_all (N := 512) (P := cn_pr (rc_P L N R F)) (by omega) (l * 64 + a) (by omega)
        rw [cn_pr_at (by omega)] at this
        exact this.2.2.2 hf
    · refine h re fr (fun l hl => (hre l hl).trans (rc_fin hL0 hT' hI (fun l a hl ha hf => ?_) hl))
      rcases hx with w | w
      · exact w.2 l a hl ha hf
      · rw [w.1] at q
        exact absurd q (by decide)
    · have hk2 : k ≤ cn_n (cn_pr (rc_P L N R F)) 512 := by
        rcases hx with w | w
        · exact absurd w.1 q
        · exact w.2
      exact Exists.intro (L + 1) (xw_er94 hN hL hnc hE hB hQ hC hT (fun re' fr' R' F' x' h1 h2 h3 h4 => ih (k + 1) x' re' fr' R' F' (by omega) (by omega) h1 h2 h3 h4) (L + 1) 0 0 re fr R F (by omega) (by omega) hre hfr hI hk2 (Or.inl ⟨rfl, fun l' a hl' => by omega⟩))
theorem xw_reach {post : SX → Prop} (hN : N ≤ 64) (hL : L ≤ 8) (hL0 : 0 < L) (hnc : nc ≤ 16) (hE : cx_E e nc N nx) (hB : cx_B e nc N) (hQ : pg_eqv Q) (hC : cx_C Q L N ce) (hT : cx_T fo tt src tgt nc L) (hi : iS = sm_of N ini)
    (hv : rv = 0 ∨ rv = 1 ∧ ∀ l, l < L → re l = sm_of N (pg_RR e Q N nc src tgt ini l))
    (h : ∀ re' fr' : Nat → Int64, (∀ l, l < L → re' l = sm_of N (pg_RR e Q N nc src tgt ini l)) → post (nI V, nI T, nI L, nI M, nI N, sm_fl N, nI nc, nI ni, iS, nI ns, nI nw, 1, st, rc, pn, bp, wt, va, we, fo, tt, gc, gs, po, mo, co, nx, ss, wc, wl, ws, ce, re', fr', ly, pa)) : wpX_ensureReach post (nI V, nI T, nI L, nI M, nI N, sm_fl N, nI nc, nI ni, iS, nI ns, nI nw, rv, st, rc, pn, bp, wt, va, we, fo, tt, gc, gs, po, mo, co, nx, ss, wc, wl, ws, ce, re, fr, ly, pa) := by
  subst hi
  rcases hv with hv | ⟨hv, hr⟩
  · subst hv
    refine br_t rfl (Exists.intro (L + 1) ?_)
    suffices H : ∀ n l (re fr : Nat → Int64), L - l < n → l ≤ L → (∀ x, x < l → re x = 0 ∧ fr x = 0) → wX_ensureReach_10 post (nI V) (nI T) (nI L) (nI M) (nI N) (sm_fl N) (nI nc) (nI ni) (sm_of N ini) (nI ns) (nI nw) 0 st rc pn bp wt n (nI l) va we fo tt gc gs po mo co nx ss wc wl ws ce re fr ly pa from
      H (L + 1) 0 re fr (by omega) (by omega) (fun x hx => by omega)
    intro n
    induction n with
    | zero => intro l re fr hn; omega
    | succ n ih =>
      intro l re fr hn hl hz
      refine pk_le L l (fun z => ?_) (fun z => ?_)
      · have : L = l := by omega
        subst this
        refine xw_closure hN hL hL0 hQ hC (nm_e (nm_e ?_))
        have key : ∀ x : Int32, ((x = 0 ∧ ∀ a, a < N → ¬ pg_cl Q N 0 ini a) ∨ x = 1) → wX_ensureReach_77 post 513 x (nI 0) (nI V) (nI T) (nI L) (nI M) (nI N) (sm_fl N) (nI nc) (nI ni) (sm_of N ini) (nI ns) (nI nw) 0 st rc pn bp wt va we fo tt gc gs po mo co nx ss wc wl ws ce (vp_updL re 0 (sm_of N (pg_cl Q N 0 ini))) (vp_updL fr 0 (sm_of N (pg_cl Q N 0 ini))) ly pa := by
          intro x hx
          refine xw_er77 hN hL hL0 hnc hE hB hQ hC hT h 513 0 x _ _ (fun l a => l = 0 ∧ pg_cl Q N 0 ini a) (fun l a => l = 0 ∧ pg_cl Q N 0 ini a) (by omega) (by omega) ?_ ?_ ?_ ?_
          · intro x hx
            by_cases w : x = 0
            · subst w
              rw [pk_uLs]
              exact sm_cg fun a _ => ⟨fun q => ⟨rfl, q⟩, fun q => q.2⟩
            · rw [pk_uLn w, (hz x hx).1, sm_z N]
              exact sm_cg fun a _ => ⟨False.elim, fun q => w q.1⟩
          · intro x hx
            by_cases w : x = 0
            · subst w
              rw [pk_uLs]
              exact sm_cg fun a _ => ⟨fun q => ⟨rfl, q⟩, fun q => q.2⟩
            · rw [pk_uLn w, (hz x hx).2, sm_z N]
              exact sm_cg fun a _ => ⟨False.elim, fun q => w q.1⟩
          · refine ⟨fun _ _ _ _ q => q, fun x a hx ha q => ?_, fun a b ha hb hi hq => ⟨rfl, a, ha, hi, hq⟩, fun c a b d _ _ _ h1 h2 => absurd h1 h2⟩
            obtain ⟨rfl, y, hy, hi, hq⟩ := q
            exact (pg_RR_cd e Q N nc src tgt ini).1 y a hy ha hi hq
          · rcases hx with hx | hx
            · exact Or.inl ⟨hx.1, fun x a _ ha q => hx.2 a ha q.2⟩
            · exact Or.inr ⟨hx, Nat.zero_le _⟩
        refine br_c (fun q => Exists.intro 513 (key 0 (Or.inl ⟨rfl, (sm_e0 hN).mp q⟩))) (fun q => Exists.intro 513 (key 1 (Or.inr rfl)))
      · refine And.intro (pk_in l 8 (by omega)) (nm_r (wr_l (n := l) rfl (by omega) rfl) ?_)
        refine And.intro (pk_in l 8 (by omega)) (nm_r (wr_l (n := l) rfl (by omega) rfl) (nm_r (nI_1 l) ?_))
        refine ih (l + 1) _ _ (by omega) (by omega) (fun x hx => ?_)
        by_cases w : x = l
        · subst w
          exact ⟨pk_uLs, pk_uLs⟩
        · rw [pk_uLn w, pk_uLn w]
          exact hz x (by omega)
  · subst hv
    exact br_f (by decide) (h re fr hr)
end
end
section
/-! the component: fillLayer, shortestLength -/
section
variable {V T L M N nc ni ns nw : Nat} {rv st rc pn bp wt : Int32} {iS : Int64} {va we fo tt gc po mo co nx wc wl pa : Nat → Int32} {gs ss ws ce re fr ly : Nat → Int64} {e : Nat → Nat → Option Nat} {Q : Nat → Nat → Nat → Prop} {src tgt : Nat → Nat} {ini : Nat → Prop}
theorem xw_fl100 {post : SX → Prop} {d : Nat} {ly0 : Nat → Int64} (hN : N ≤ 64) (hL : L ≤ 8) (hQ : pg_eqv Q) (hC : cx_C Q L N ce) (hd : d < 24)
    (h : ∀ ly' : Nat → Int64, (∀ j, j < (d + 1) * 8 → ly' j = ly0 j) → (∀ l, l < L → ly' ((d + 1) * 8 + l) = sm_of N (pg_ly e Q N nc L src tgt (d + 1) l)) → post (nI V, nI T, nI L, nI M, nI N, sm_fl N, nI nc, nI ni, iS, nI ns, nI nw, rv, st, rc, pn, bp, wt, va, we, fo, tt, gc, gs, po, mo, co, nx, ss, wc, wl, ws, ce, re, fr, ly', pa)) :
    ∀ n l (ly : Nat → Int64), L - l < n → l ≤ L → (∀ j, j < (d + 1) * 8 → ly j = ly0 j) → (∀ x, x < l → ly ((d + 1) * 8 + x) = sm_of N (pg_ly e Q N nc L src tgt (d + 1) x)) →
      (∀ x, l ≤ x → x < L → ly ((d + 1) * 8 + x) = sm_of N (fun a => ∃ c, c < nc ∧ src c = x ∧ pg_pr e c (pg_ly e Q N nc L src tgt d (tgt c)) a)) → wX_fillLayer_100 post (nI ((d + 1) * 8)) (nI V) (nI T) (nI L) (nI M) (nI N) (sm_fl N) (nI nc) (nI ni) iS (nI ns) (nI nw) rv st rc pn bp wt n (nI l) va we fo tt gc gs po mo co nx ss wc wl ws ce re fr ly pa := by
  intro n
  induction n with
  | zero => intro l ly hn; omega
  | succ n ih =>
    intro l ly hn hl h1 h2 h3
    refine pk_le L l (fun z => ?_) (fun z => ?_)
    · have : l = L := by omega
      subst this
      exact h ly h1 h2
    · have ei := nI_add ((d + 1) * 8) l
      refine And.intro (pk_in ((d + 1) * 8 + l) 200 (by omega) ei) ?_
      rw [rd_l (f := ly) ei (by omega) (h3 l (Nat.le_refl _) z)]
      refine xw_closure hN hL z hQ hC ?_
      refine And.intro (pk_in ((d + 1) * 8 + l) 200 (by omega) ei) (nm_r (wr_l ei (by omega) rfl) (nm_r (nI_1 l) (ih (l + 1) _ (by omega) (by omega) ?_ ?_ ?_)))
      · intro j hj
        rw [pk_uLn (by omega)]
        exact h1 j hj
      · intro x hx
        by_cases w : x = l
        · subst w
          rw [pk_uLs]
          refine sm_cg fun a _ => ⟨?_, ?_⟩
          · rintro ⟨y, hy, ⟨c, hc, hs, b, hb, hly⟩, hq⟩
            exact ⟨c, y, b, hc, hy, hs, hb, hly, hq⟩
          · rintro ⟨c, y, b, hc, hy, hs, hb, hly, hq⟩
            exact ⟨y, hy, ⟨c, hc, hs, b, hb, hly⟩, hq⟩
        · rw [pk_uLn (by omega)]
          exact h2 x (by omega)
      · intro x hx hx2
        rw [pk_uLn (by omega)]
        exact h3 x (by omega) hx2
theorem xw_fl41 {post : SX → Prop} {d : Nat} {ly0 : Nat → Int64} (hN : N ≤ 64) (hL : L ≤ 8) (hnc : nc ≤ 16) (hE : cx_E e nc N nx) (hB : cx_B e nc N) (hQ : pg_eqv Q) (hC : cx_C Q L N ce) (hT : cx_T fo tt src tgt nc L) (hd : d < 24) (h0 : ∀ l, l < L → ly0 (d * 8 + l) = sm_of N (pg_ly e Q N nc L src tgt d l))
    (h : ∀ ly' : Nat → Int64, (∀ j, j < (d + 1) * 8 → ly' j = ly0 j) → (∀ l, l < L → ly' ((d + 1) * 8 + l) = sm_of N (pg_ly e Q N nc L src tgt (d + 1) l)) → post (nI V, nI T, nI L, nI M, nI N, sm_fl N, nI nc, nI ni, iS, nI ns, nI nw, rv, st, rc, pn, bp, wt, va, we, fo, tt, gc, gs, po, mo, co, nx, ss, wc, wl, ws, ce, re, fr, ly', pa)) :
    ∀ n c (ly : Nat → Int64), nc - c < n → c ≤ nc → (∀ j, j < (d + 1) * 8 → ly j = ly0 j) →
      (∀ x, x < L → ly ((d + 1) * 8 + x) = sm_of N (fun a => ∃ c', c' < c ∧ src c' = x ∧ pg_pr e c' (pg_ly e Q N nc L src tgt d (tgt c')) a)) → wX_fillLayer_41 post (nI ((d + 1) * 8)) (nI (d * 8)) (nI V) (nI T) (nI L) (nI M) (nI N) (sm_fl N) (nI nc) (nI ni) iS (nI ns) (nI nw) rv st rc pn bp wt n (nI c) va we fo tt gc gs po mo co nx ss wc wl ws ce re fr ly pa := by
  intro n
  induction n with
  | zero => intro c ly hn; omega
  | succ n ih =>
    intro c ly hn hc h1 h2
    refine pk_le nc c (fun z => ?_) (fun z => ?_)
    · have : c = nc := by omega
      subst this
      exact Exists.intro (L + 1) (xw_fl100 hN hL hQ hC hd h (L + 1) 0 ly (by omega) (by omega) h1 (fun x hx => by omega) (fun x _ hx => h2 x hx))
    · obtain ⟨t1, t2, t3, t4⟩ := hT c z
      have ec : (nI c).toNatClampNeg = c := nI_clamp (by omega)
      have ei := nI_add ((d + 1) * 8) (src c)
      have ej := nI_add (d * 8) (tgt c)
      rw [ec, t1, t3]
      refine And.intro (pk_in c 16 (by omega)) (And.intro (pk_in (d * 8 + tgt c) 200 (by omega) ej) ?_)
      rw [rd_l (f := ly) ej (by omega) ((h1 _ (by omega)).trans (h0 _ t4))]
      refine xw_pre hN hnc z hE hB ?_
      refine And.intro (pk_in c 16 (by omega)) (And.intro (pk_in ((d + 1) * 8 + src c) 200 (by omega) ei) (And.intro (pk_in ((d + 1) * 8 + src c) 200 (by omega) ei) ?_))
      refine nm_r (wr_l ei (by omega) ((congrArg (· ||| _) (rd_l ei (by omega) (h2 _ t2))).trans (sm_or _ _ _))) (nm_r (nI_1 c) (ih (c + 1) _ (by omega) (by omega) ?_ ?_))
      · intro j hj
        rw [pk_uLn (by omega)]
        exact h1 j hj
      · intro x hx
        by_cases w : x = src c
        · subst w
          rw [pk_uLs]
          refine sm_cg fun a _ => ⟨fun q => q.elim (fun ⟨c', h3, h4⟩ => ⟨c', by omega, h4⟩) (fun q => ⟨c, by omega, rfl, q⟩), fun ⟨c', h3, h4, h5⟩ => ?_⟩
          by_cases y : c' = c
          · subst y
            exact Or.inr h5
          · exact Or.inl ⟨c', by omega, h4, h5⟩
        · rw [pk_uLn (by omega), h2 x hx]
          refine sm_cg fun a _ => ⟨fun ⟨c', h3, h4⟩ => ⟨c', by omega, h4⟩, fun ⟨c', h3, h4, h5⟩ => ⟨c', ?_, h4, h5⟩⟩
          have : c' ≠ c := fun y => w (by rw [← h4, y])
          omega
theorem xw_fill {post : SX → Prop} {d : Nat} (hN : N ≤ 64) (hL : L ≤ 8) (hnc : nc ≤ 16) (hE : cx_E e nc N nx) (hB : cx_B e nc N) (hQ : pg_eqv Q) (hC : cx_C Q L N ce) (hT : cx_T fo tt src tgt nc L) (hd : d < 24) (h0 : ∀ l, l < L → ly (d * 8 + l) = sm_of N (pg_ly e Q N nc L src tgt d l))
    (h : ∀ ly' : Nat → Int64, (∀ j, j < (d + 1) * 8 → ly' j = ly j) → (∀ l, l < L → ly' ((d + 1) * 8 + l) = sm_of N (pg_ly e Q N nc L src tgt (d + 1) l)) → post (nI V, nI T, nI L, nI M, nI N, sm_fl N, nI nc, nI ni, iS, nI ns, nI nw, rv, st, rc, pn, bp, wt, va, we, fo, tt, gc, gs, po, mo, co, nx, ss, wc, wl, ws, ce, re, fr, ly', pa)) : wpX_fillLayer post (nI V, nI T, nI L, nI M, nI N, sm_fl N, nI nc, nI ni, iS, nI ns, nI nw, rv, st, rc, pn, bp, wt, va, we, fo, tt, gc, gs, po, mo, co, nx, ss, wc, wl, ws, ce, re, fr, ly, pa) (nI (d + 1)) := by
  have e3 : nI ((d + 1) * 8) - 8 = nI (d * 8) := by
    rw [show (8 : Int32) = nI 8 from rfl, pk_sub (by omega)]
    exact congrArg nI (by omega)
  refine nm_r (ix_8 (d + 1)) (nm_r e3 (Exists.intro (L + 1) ?_))
  suffices H : ∀ n l (ly' : Nat → Int64), L - l < n → l ≤ L → (∀ j, j < (d + 1) * 8 → ly' j = ly j) → (∀ x, x < l → ly' ((d + 1) * 8 + x) = 0) → wX_fillLayer_13 post (nI ((d + 1) * 8)) (nI (d * 8)) (nI V) (nI T) (nI L) (nI M) (nI N) (sm_fl N) (nI nc) (nI ni) iS (nI ns) (nI nw) rv st rc pn bp wt n (nI l) va we fo tt gc gs po mo co nx ss wc wl ws ce re fr ly' pa from
    H (L + 1) 0 ly (by omega) (by omega) (fun _ _ => rfl) (fun x hx => by omega)
  intro n
  induction n with
  | zero => intro l ly' hn; omega
  | succ n ih =>
    intro l ly' hn hl h1 h2
    refine pk_le L l (fun z => ?_) (fun z => ?_)
    · refine Exists.intro (nc + 1) (xw_fl41 hN hL hnc hE hB hQ hC hT hd h0 h (nc + 1) 0 ly' (by omega) (by omega) h1 (fun x hx => ?_))
      rw [h2 x (by omega), sm_z N]
      exact sm_cg fun a _ => ⟨False.elim, fun ⟨c', q, _⟩ => by omega⟩
    · have ei := nI_add ((d + 1) * 8) l
      refine And.intro (pk_in ((d + 1) * 8 + l) 200 (by omega) ei) (nm_r (wr_l ei (by omega) rfl) (nm_r (nI_1 l) (ih (l + 1) _ (by omega) (by omega) ?_ ?_)))
      · intro j hj
        rw [pk_uLn (by omega)]
        exact h1 j hj
      · intro x hx
        by_cases w : x = l
        · subst w
          exact pk_uLs
        · rw [pk_uLn (by omega)]
          exact h2 x (by omega)
theorem xw_sl50 {post : Int32 → SX → Prop} {S0 : Nat → Prop} (hN : N ≤ 64) (hL : L ≤ 8) (hL0 : 0 < L) (hnc : nc ≤ 16) (hE : cx_E e nc N nx) (hB : cx_B e nc N) (hQ : pg_eqv Q) (hC : cx_C Q L N ce) (hT : cx_T fo tt src tgt nc L)
    (h1 : ∀ k (ly' : Nat → Int64), 1 ≤ k → k ≤ 24 → (∃ a, a < N ∧ S0 a ∧ pg_ly e Q N nc L src tgt k 0 a) → (∀ j, 1 ≤ j → j < k → ¬ ∃ a, a < N ∧ S0 a ∧ pg_ly e Q N nc L src tgt j 0 a) → (∀ d l, d ≤ k → l < L → ly' (d * 8 + l) = sm_of N (pg_ly e Q N nc L src tgt d l)) → post (nI k) (nI V, nI T, nI L, nI M, nI N, sm_fl N, nI nc, nI ni, iS, nI ns, nI nw, rv, st, rc, pn, bp, wt, va, we, fo, tt, gc, gs, po, mo, co, nx, ss, wc, wl, ws, ce, re, fr, ly', pa))
    (h0 : (∀ j, 1 ≤ j → j ≤ 24 → ¬ ∃ a, a < N ∧ S0 a ∧ pg_ly e Q N nc L src tgt j 0 a) → ∀ ly' : Nat → Int64, post 0 (nI V, nI T, nI L, nI M, nI N, sm_fl N, nI nc, nI ni, iS, nI ns, nI nw, rv, st, rc, pn, bp, wt, va, we, fo, tt, gc, gs, po, mo, co, nx, ss, wc, wl, ws, ce, re, fr, ly', pa)) :
    ∀ n k (ly : Nat → Int64), 24 - k < n → k ≤ 24 → (∀ j, 1 ≤ j → j ≤ k → ¬ ∃ a, a < N ∧ S0 a ∧ pg_ly e Q N nc L src tgt j 0 a) → (∀ d l, d ≤ k → l < L → ly (d * 8 + l) = sm_of N (pg_ly e Q N nc L src tgt d l)) → wX_shortestLength_50 post (sm_of N S0) n (nI (k + 1)) (nI V) (nI T) (nI L) (nI M) (nI N) (sm_fl N) (nI nc) (nI ni) iS (nI ns) (nI nw) rv st rc pn bp wt va we fo tt gc gs po mo co nx ss wc wl ws ce re fr ly pa := by
  intro n
  induction n with
  | zero => intro k ly hn; omega
  | succ n ih =>
    intro k ly hn hk h2 h3
    refine pk_lt 24 (k + 1) (fun z => ?_) (fun z => ?_)
    · exact h0 (fun j hj hj2 => h2 j hj (by omega)) ly
    · refine xw_fill (d := k) hN hL hnc hE hB hQ hC hT (by omega) (fun l hl => h3 k l (Nat.le_refl _) hl) (fun ly' h4 h5 => ?_)
      have h6 : ∀ d l, d ≤ k + 1 → l < L → ly' (d * 8 + l) = sm_of N (pg_ly e Q N nc L src tgt d l) := by
        intro d l hd hl
        by_cases w : d = k + 1
        · subst w
          exact h5 l hl
        · rw [h4 _ (by omega)]
          exact h3 d l (by omega) hl
      have e1 : ly' (nI (k + 1) * 8).toNatClampNeg = sm_of N (pg_ly e Q N nc L src tgt (k + 1) 0) := rd_l (ix_8 (k + 1)) (by omega) (h5 0 hL0)
      refine And.intro (pk_in ((k + 1) * 8) 200 (by omega) (ix_8 (k + 1))) ?_
      rw [e1, sm_and]
      refine br_c (fun q => ?_) (fun q => ?_)
      · rw [sm_e0 hN] at q
        have h7 : ∀ j, 1 ≤ j → j ≤ k + 1 → ¬ ∃ a, a < N ∧ S0 a ∧ pg_ly e Q N nc L src tgt j 0 a := by
          intro j hj hj2
          by_cases w : j = k + 1
          · subst w
            exact fun ⟨a, ha, hs, hl⟩ => q a ha ⟨hl, hs⟩
          · exact h2 j hj (by omega)
        refine nm_r (nI_1 (k + 1)) ?_
        by_cases w : k = 24
        · omega
        · exact ih (k + 1) ly' (by omega) (by omega) h7 h6
      · refine h1 (k + 1) ly' (by omega) (by omega) (Classical.byContradiction fun hh => q ((sm_e0 hN).mpr fun a ha hs => hh ⟨a, ha, hs.2, hs.1⟩)) (fun j hj hj2 => h2 j hj (by omega)) h6
theorem xw_short {post : Int32 → SX → Prop} (hN : N ≤ 64) (hL : L ≤ 8) (hL0 : 0 < L) (hnc : nc ≤ 16) (hE : cx_E e nc N nx) (hB : cx_B e nc N) (hQ : pg_eqv Q) (hC : cx_C Q L N ce) (hT : cx_T fo tt src tgt nc L) (hi : iS = sm_of N ini)
    (h1 : ∀ k (ly' : Nat → Int64), 1 ≤ k → k ≤ 24 → (∃ a, a < N ∧ pg_cl Q N 0 ini a ∧ pg_ly e Q N nc L src tgt k 0 a) → (∀ j, 1 ≤ j → j < k → ¬ ∃ a, a < N ∧ pg_cl Q N 0 ini a ∧ pg_ly e Q N nc L src tgt j 0 a) → (∀ d l, d ≤ k → l < L → ly' (d * 8 + l) = sm_of N (pg_ly e Q N nc L src tgt d l)) → post (nI k) (nI V, nI T, nI L, nI M, nI N, sm_fl N, nI nc, nI ni, iS, nI ns, nI nw, rv, st, rc, pn, bp, wt, va, we, fo, tt, gc, gs, po, mo, co, nx, ss, wc, wl, ws, ce, re, fr, ly', pa))
    (h0 : (∀ j, 1 ≤ j → j ≤ 24 → ¬ ∃ a, a < N ∧ pg_cl Q N 0 ini a ∧ pg_ly e Q N nc L src tgt j 0 a) → ∀ ly' : Nat → Int64, post 0 (nI V, nI T, nI L, nI M, nI N, sm_fl N, nI nc, nI ni, iS, nI ns, nI nw, rv, st, rc, pn, bp, wt, va, we, fo, tt, gc, gs, po, mo, co, nx, ss, wc, wl, ws, ce, re, fr, ly', pa)) : wpX_shortestLength post (nI V, nI T, nI L, nI M, nI N, sm_fl N, nI nc, nI ni, iS, nI ns, nI nw, rv, st, rc, pn, bp, wt, va, we, fo, tt, gc, gs, po, mo, co, nx, ss, wc, wl, ws, ce, re, fr, ly, pa) := by
  subst hi
  refine xw_closure (l := 0) hN hL hL0 hQ hC (Exists.intro (L + 1) ?_)
  suffices H : ∀ n l (ly' : Nat → Int64), L - l < n → l ≤ L → (∀ x, x < l → ly' x = 0) → wX_shortestLength_12 post (sm_of N (pg_cl Q N 0 ini)) (nI V) (nI T) (nI L) (nI M) (nI N) (sm_fl N) (nI nc) (nI ni) (sm_of N ini) (nI ns) (nI nw) rv st rc pn bp wt n (nI l) va we fo tt gc gs po mo co nx ss wc wl ws ce re fr ly' pa from
    H (L + 1) 0 ly (by omega) (by omega) (fun x hx => by omega)
  intro n
  induction n with
  | zero => intro l ly' hn; omega
  | succ n ih =>
    intro l ly' hn hl hz
    refine pk_le L l (fun z => ?_) (fun z => ?_)
    · have em : nI L - 1 = nI (L - 1) := pk_sub (b := 1) (by omega)
      refine And.intro (pk_in (L - 1) 200 (by omega) em) (nm_r (wr_l em (by omega) rfl) (Exists.intro 25 ?_))
      refine xw_sl50 hN hL hL0 hnc hE hB hQ hC hT h1 h0 25 0 _ (by omega) (by omega) (fun j hj hj2 => by omega) (fun d x hd hx => ?_)
      have : d = 0 := by omega
      subst this
      rw [Nat.zero_mul, Nat.zero_add]
      by_cases w : x = L - 1
      · rw [w, pk_uLs]
        exact sm_cg fun a _ => ⟨fun _ => rfl, fun _ => trivial⟩
      · rw [pk_uLn w, hz x (by omega), sm_z N]
        exact sm_cg fun a _ => ⟨False.elim, fun q => w q⟩
    · refine And.intro (pk_in l 200 (by omega)) (nm_r (wr_l (n := l) rfl (by omega) rfl) (nm_r (nI_1 l) (ih (l + 1) _ (by omega) (by omega) (fun x hx => ?_))))
      by_cases w : x = l
      · subst w
        exact pk_uLs
      · rw [pk_uLn w]
        exact hz x (by omega)
end
end
section
/-! the component: extractPath, pathExecutors, findBreak -/
theorem pj_1 (j : Nat) : nI (j + 1) - 1 + (-1) = nI j - 1 := by
  rw [nI_pred, Int32.sub_eq_add_neg]
theorem pj_0 : nI 0 - 1 < 0 := by decide
theorem pj_s {j : Nat} (h : j < 2 ^ 31) : ¬ nI (j + 1) - 1 < 0 := by rw [nI_pred]; exact nI_pos h
section
variable {V T L M N nc ni ns nw : Nat} {rv st rc pn bp wt : Int32} {iS : Int64} {va we fo tt gc po mo co nx wc wl pa : Nat → Int32} {gs ss ws ce re fr ly : Nat → Int64} {e : Nat → Nat → Option Nat} {Q : Nat → Nat → Nat → Prop} {src tgt : Nat → Nat} {ini : Nat → Prop}
theorem xw_ep49 {post : SX → Prop} {x1 : Int32} {J : Int32 → Int64 → Int32 → (Nat → Int32) → (Nat → Int32) → (Nat → Int32) → (Nat → Int32) → (Nat → Int32) → (Nat → Int64) → (Nat → Int32) → (Nat → Int32) → (Nat → Int32) → (Nat → Int32) → (Nat → Int64) → (Nat → Int32) → (Nat → Int32) → (Nat → Int64) → (Nat → Int64) → (Nat → Int64) → (Nat → Int64) → (Nat → Int64) → (Nat → Int32) → Prop} {d lo i cs : Nat} {S : Nat → Prop} (hN : N ≤ 64) (hL : L ≤ 8) (hnc : nc ≤ 16) (hE : cx_E e nc N nx) (hB : cx_B e nc N) (hQ : pg_eqv Q) (hC : cx_C Q L N ce) (hT : cx_T fo tt src tgt nc L) (hd : d < 24) (hi : i < 24) (hlo : lo < L)
    (hly : ∀ l, l < L → ly (d * 8 + l) = sm_of N (pg_ly e Q N nc L src tgt d l)) (hst : pg_st e Q N nc L src tgt d lo S cs)
    (hJ : J (nI (tgt cs)) (sm_of N (pg_cl Q N (tgt cs) (pg_im e N cs S))) (nI (i + 1)) va we fo tt gc gs po mo co nx ss wc wl ws ce re fr ly (upd pa i (nI cs))) :
    ∀ n c, nc - c < n → c ≤ cs → wX_extractPath_49 post J x1 (nI i) (nI (d * 8)) (nI lo) (sm_of N S) (nI V) (nI T) (nI L) (nI M) (nI N) (sm_fl N) (nI nc) (nI ni) iS (nI ns) (nI nw) rv st rc pn bp wt n (nI lo) (sm_of N S) 0 (nI c) va we fo tt gc gs po mo co nx ss wc wl ws ce re fr ly pa := by
  have hcs := hst.1
  intro n
  induction n with
  | zero => intro c hn; omega
  | succ n ih =>
    intro c hn hc
    obtain ⟨t1, t2, t3, t4⟩ := hT c (by omega)
    have ec : (nI c).toNatClampNeg = c := nI_clamp (by omega)
    have iff1 : pg_ok e Q N nc L src tgt d lo S c ↔ src c = lo ∧ ∃ a, a < N ∧ pg_cl Q N (tgt c) (pg_im e N c S) a ∧ pg_ly e Q N nc L src tgt d (tgt c) a := by
      constructor
      · rintro ⟨h1, a, b, h2, h3, h4, h5⟩
        have hb := hB c a b (by omega) h2 h4
        exact ⟨h1, b, hb, pg_cl_sub hQ hb ⟨a, h2, h3, h4⟩, h5⟩
      · rintro ⟨h1, b, h2, ⟨x, hx, ⟨a, ha, hs, he⟩, hq⟩, h5⟩
        exact ⟨h1, a, x, ha, hs, he, pg_ly_Q hQ h5 (hQ.2.1 _ _ _ hq)⟩
    refine br_f (nI_ge (show c < nc by omega) (by omega)) (br_t rfl (And.intro (pk_in c 16 (by omega)) ?_))
    rw [ec, t1, t3]
    refine pk_eq (src c) lo (fun hs => ?_) (fun hs => ?_)
    · refine And.intro (pk_in c 16 (by omega)) (nm_e ?_)
      refine xw_post hN hnc (by omega) hE hB (xw_closure hN hL t4 hQ hC ?_)
      have ej := nI_add (d * 8) (tgt c)
      refine And.intro (pk_in (d * 8 + tgt c) 200 (by omega) ej) ?_
      rw [rd_l (f := ly) ej (by omega) (hly _ t4), sm_and]
      by_cases w : c = cs
      · subst w
        refine br_f (fun q => ?_) ?_
        · obtain ⟨-, a, ha, h1, h2⟩ := iff1.mp hst.2.1
          exact (sm_e0 hN).mp q a ha ⟨h1, h2⟩
        · refine And.intro (pk_in i 24 hi) (nm_r (wr_i (n := i) rfl (by omega) rfl) (nm_r (nI_1 c) ?_))
          obtain ⟨m, rfl⟩ : ∃ m, n = m + 1 := ⟨n - 1, by omega⟩
          exact br_c (fun _ => nm_r (nI_1 i) hJ) (fun _ => br_f (by decide) (nm_r (nI_1 i) hJ))
      · refine br_t ((sm_e0 hN).mpr fun a ha q => ?_) (nm_r (nI_1 c) (ih (c + 1) (by omega) (by omega)))
        exact hst.2.2 c (by omega) (iff1.mpr ⟨hs, a, ha, q.1, q.2⟩)
    · have w : c ≠ cs := fun q => hs (by rw [q]; exact hst.2.1.1)
      exact nm_r (nI_1 c) (ih (c + 1) (by omega) (by omega))
theorem xw_extract {post : SX → Prop} {k : Nat} {pc lo : Nat → Nat} {SS : Nat → Nat → Prop} (hN : N ≤ 64) (hL : L ≤ 8) (hL0 : 0 < L) (hnc : nc ≤ 16) (hE : cx_E e nc N nx) (hB : cx_B e nc N) (hQ : pg_eqv Q) (hC : cx_C Q L N ce) (hT : cx_T fo tt src tgt nc L) (hi : iS = sm_of N ini) (hk : k ≤ 24)
    (hly : ∀ d l, d ≤ k → l < L → ly (d * 8 + l) = sm_of N (pg_ly e Q N nc L src tgt d l)) (hpt : pg_pt e Q N nc L src tgt (pg_cl Q N 0 ini) k pc lo SS)
    (h : ∀ pa' : Nat → Int32, (∀ j, j < k → pa' j = nI (pc j)) → (∀ j, k ≤ j → pa' j = pa j) → post (nI V, nI T, nI L, nI M, nI N, sm_fl N, nI nc, nI ni, iS, nI ns, nI nw, rv, st, rc, nI k, bp, wt, va, we, fo, tt, gc, gs, po, mo, co, nx, ss, wc, wl, ws, ce, re, fr, ly, pa')) : wpX_extractPath post (nI V, nI T, nI L, nI M, nI N, sm_fl N, nI nc, nI ni, iS, nI ns, nI nw, rv, st, rc, pn, bp, wt, va, we, fo, tt, gc, gs, po, mo, co, nx, ss, wc, wl, ws, ce, re, fr, ly, pa) (nI k) := by
  subst hi
  refine xw_closure (l := 0) hN hL hL0 hQ hC (Exists.intro (k + 1) ?_)
  suffices H : ∀ n i (pa' : Nat → Int32), k - i < n → i ≤ k → lo i < L → (∀ j, j < i → pa' j = nI (pc j)) → (∀ j, i ≤ j → pa' j = pa j) → wX_extractPath_20 post (nI k) (nI V) (nI T) (nI L) (nI M) (nI N) (sm_fl N) (nI nc) (nI ni) (sm_of N ini) (nI ns) (nI nw) rv st rc (nI k) bp wt n (nI (lo i)) (sm_of N (SS i)) (nI i) va we fo tt gc gs po mo co nx ss wc wl ws ce re fr ly pa' by
    have := H (k + 1) 0 pa (by omega) (by omega) (by rw [hpt.1]; exact hL0) (fun j hj => by omega) (fun _ _ => rfl)
    rw [hpt.1, hpt.2.1] at this
    exact this
  intro n
  induction n with
  | zero => intro i pa' hn; omega
  | succ n ih =>
    intro i pa' hn hi hlo h1 h2
    refine pk_le k i (fun z => ?_) (fun z => ?_)
    · have : i = k := by omega
      subst this
      exact h pa' h1 h2
    · obtain ⟨p1, p2, p3⟩ := hpt.2.2 i z
      have e6 : (nI k - nI i - 1) * 8 = nI ((k - i - 1) * 8) := by
        rw [pk_sub (by omega), show (1 : Int32) = nI 1 from rfl, pk_sub (by omega), ix_8]
      refine nm_r e6 (Exists.intro (nc + 1) ?_)
      have hc := p1.1
      refine xw_ep49 hN hL hnc hE hB hQ hC hT (by omega) (by omega) hlo (fun l hl => hly _ l (by omega) hl) p1 ?_ (nc + 1) 0 (by omega) (by omega)
      have := ih (i + 1) (upd pa' i (nI (pc i))) (by omega) (by omega) (by rw [p2]; exact (hT _ hc).2.2.2) (fun j hj => ?_) (fun j hj => ?_)
      · rw [p2, p3] at this
        exact this
      · by_cases w : j = i
        · subst w
          exact pk_us
        · rw [pk_un w]
          exact h1 j (by omega)
      · rw [pk_un (by omega)]
        exact h2 j (by omega)
theorem xw_exec {post : Int64 → Prop} {k : Nat} {pc : Nat → Nat} (hN : N ≤ 64) (hnc : nc ≤ 16) (hE : cx_E e nc N nx) (hB : cx_B e nc N) (hk : k ≤ 24) (hp : pn = nI k) (hpa : ∀ j, j < k → pa j = nI (pc j) ∧ pc j < nc)
    (h : post (sm_of N (fun a => (pg_rn e pc k 0 a).isSome = true))) : wpX_pathExecutors post (nI V, nI T, nI L, nI M, nI N, sm_fl N, nI nc, nI ni, iS, nI ns, nI nw, rv, st, rc, pn, bp, wt, va, we, fo, tt, gc, gs, po, mo, co, nx, ss, wc, wl, ws, ce, re, fr, ly, pa) := by
  subst hp
  refine nm_e (Exists.intro (k + 1) ?_)
  suffices H : ∀ i (x : Int64), i ≤ k → x = sm_of N (fun a => (pg_rn e pc (k - i) i a).isSome = true) → wX_pathExecutors_12 post (nI V) (nI T) (nI L) (nI M) (nI N) (sm_fl N) (nI nc) (nI ni) iS (nI ns) (nI nw) rv st rc (nI k) bp wt va we fo tt gc gs po mo co nx ss wc wl ws ce re fr ly pa (i + 1) x (nI i - 1) from
    H k _ (Nat.le_refl _) (sm_cg fun a _ => ⟨fun _ => by rw [Nat.sub_self, pg_rn]; rfl, fun _ => trivial⟩)
  intro i
  induction i with
  | zero =>
    intro x _ hx
    subst hx
    exact br_t pj_0 h
  | succ i ih =>
    intro x hi hx
    subst hx
    obtain ⟨p1, p2⟩ := hpa i (by omega)
    refine br_f (pj_s (by omega)) ?_
    rw [pj_1, nI_pred, nI_clamp (by omega), p1]
    refine And.intro (pk_in i 24 (by omega)) (xw_pre hN hnc p2 hE hB (nm_e (ih _ (by omega) (sm_cg fun a _ => ?_))))
    rw [show k - i = k - (i + 1) + 1 by omega]
    unfold pg_pr
    cases q : e (pc i) a with
    | none =>
      rw [pg_rn_n q]
      simp
    | some b =>
      rw [pg_rn_s q]
      simp
theorem xw_break {post : Int32 → Prop} {k jb : Nat} {pc : Nat → Nat} (hN : N ≤ 64) (hnc : nc ≤ 16) (hE : cx_E e nc N nx) (hB : cx_B e nc N) (hk : k ≤ 24) (hp : pn = nI k) (hi : iS = sm_of N ini) (hpa : ∀ j, j < k → pa j = nI (pc j) ∧ pc j < nc)
    (hj1 : 1 ≤ jb) (hj2 : jb ≤ k) (hb1 : ∀ a, a < N → ini a → pg_rn e pc jb 0 a = none) (hb2 : ∀ j, j < jb → ∃ a, a < N ∧ ini a ∧ (pg_rn e pc j 0 a).isSome = true) (h : post (nI jb)) : wpX_findBreak post (nI V, nI T, nI L, nI M, nI N, sm_fl N, nI nc, nI ni, iS, nI ns, nI nw, rv, st, rc, pn, bp, wt, va, we, fo, tt, gc, gs, po, mo, co, nx, ss, wc, wl, ws, ce, re, fr, ly, pa) := by
  subst hp hi
  refine Exists.intro (k + 1) ?_
  suffices H : ∀ n i (x : Int64), k - i < n → i < jb → x = sm_of N (fun b => ∃ a, a < N ∧ ini a ∧ pg_rn e pc i 0 a = some b) → wX_findBreak_7 post (nI V) (nI T) (nI L) (nI M) (nI N) (sm_fl N) (nI nc) (nI ni) (sm_of N ini) (nI ns) (nI nw) rv st rc (nI k) bp wt va we fo tt gc gs po mo co nx ss wc wl ws ce re fr ly pa n x (nI i) from
    H (k + 1) 0 _ (by omega) (by omega) (sm_cg fun b hb => ⟨fun q => ⟨b, hb, q, by rw [pg_rn]⟩, fun ⟨a, ha, h1, h2⟩ => by rw [pg_rn] at h2; cases h2; exact h1⟩)
  intro n
  induction n with
  | zero => intro i x hn; omega
  | succ n ih =>
    intro i x hn hi hx
    subst hx
    obtain ⟨p1, p2⟩ := hpa i (by omega)
    have eq1 : sm_of N (pg_im e N (pc i) (fun b => ∃ a, a < N ∧ ini a ∧ pg_rn e pc i 0 a = some b)) = sm_of N (fun b => ∃ a, a < N ∧ ini a ∧ pg_rn e pc (i + 1) 0 a = some b) := by
      refine sm_cg fun b _ => ⟨?_, ?_⟩
      · rintro ⟨y, hy, ⟨a, ha, h1, h2⟩, h3⟩
        refine ⟨a, ha, h1, ?_⟩
        rw [pg_rn_snoc, h2, Nat.zero_add]
        exact h3
      · rintro ⟨a, ha, h1, h2⟩
        rw [pg_rn_snoc, Nat.zero_add] at h2
        cases q : pg_rn e pc i 0 a with
        | none => rw [q] at h2; exact absurd h2 (by simp)
        | some y =>
          rw [q] at h2
          exact ⟨y, pg_rn_lt hB (fun j hj => by rw [Nat.zero_add]; exact (hpa j (by omega)).2) ha q, ⟨a, ha, h1, q⟩, h2⟩
    refine br_f (nI_ge (show i < k by omega) (by omega)) (And.intro (pk_in i 24 (by omega)) ?_)
    rw [nI_clamp (by omega), p1]
    refine xw_post hN hnc p2 hE hB ?_
    rw [eq1]
    refine br_c (fun q => ?_) (fun q => nm_r (nI_1 i) (ih (i + 1) _ (by omega) ?_ rfl))
    · rw [sm_e0 hN] at q
      have : i + 1 = jb := by
        rcases Nat.lt_or_ge (i + 1) jb with w | w
        · obtain ⟨a, ha, h1, h2⟩ := hb2 _ w
          obtain ⟨b, hb⟩ := Option.isSome_iff_exists.mp h2
          exact absurd ⟨a, ha, h1, hb⟩ (q b (pg_rn_lt hB (fun j hj => by rw [Nat.zero_add]; exact (hpa j (by omega)).2) ha hb))
        · omega
      rw [nI_1, this]
      exact h
    · rcases Nat.lt_or_ge (i + 1) jb with w | w
      · exact w
      · have : i + 1 = jb := by omega
        refine absurd ((sm_e0 hN).mpr fun b _ ⟨a, ha, h1, h2⟩ => ?_) q
        rw [this, hb1 a ha h1] at h2
        exact absurd h2 (by simp)
end
end
section
/-! the component: sameWord, isLearned, splitCells, appendWord -/
def xl_LD (nw : Nat) (wc wl pa : Nat → Int32) (f len : Nat) : Prop := ∃ p, p < nw ∧ wl p = nI len ∧ ∀ m, m < len → wc (p * 24 + m) = pa (f + m)
section
variable {V T L M N nc ni ns nw : Nat} {rv st rc pn bp wt : Int32} {iS : Int64} {va we fo tt gc po mo co nx wc wl pa : Nat → Int32} {gs ss ws ce re fr ly : Nat → Int64} {e : Nat → Nat → Option Nat} {Q : Nat → Nat → Nat → Prop} {src tgt : Nat → Nat} {ini : Nat → Prop}
theorem xw_same {post : Int32 → Prop} {p f len : Nat} (hp : p < 32) (hf : f + len ≤ 24) (h1 : (∀ m, m < len → wc (p * 24 + m) = pa (f + m)) → post 1) (h0 : (¬ ∀ m, m < len → wc (p * 24 + m) = pa (f + m)) → post 0) : wpX_sameWord post (nI V, nI T, nI L, nI M, nI N, sm_fl N, nI nc, nI ni, iS, nI ns, nI nw, rv, st, rc, pn, bp, wt, va, we, fo, tt, gc, gs, po, mo, co, nx, ss, wc, wl, ws, ce, re, fr, ly, pa) (nI p) (nI f) (nI len) := by
  refine Exists.intro (len + 1) ?_
  suffices H : ∀ n i, len - i < n → i ≤ len → (∀ m, m < i → wc (p * 24 + m) = pa (f + m)) → wX_sameWord_3 post (nI p) (nI f) (nI len) (nI V) (nI T) (nI L) (nI M) (nI N) (sm_fl N) (nI nc) (nI ni) iS (nI ns) (nI nw) rv st rc pn bp wt va we fo tt gc gs po mo co nx ss wc wl ws ce re fr ly pa n (nI i) from
    H (len + 1) 0 (by omega) (by omega) (fun m hm => by omega)
  intro n
  induction n with
  | zero => intro i hn; omega
  | succ n ih =>
    intro i hn hi hm
    refine pk_le len i (fun z => ?_) (fun z => ?_)
    · have : i = len := by omega
      subst this
      exact h1 hm
    · have e1 := ix_24 p i
      have e2 := nI_add f i
      refine And.intro (pk_in (p * 24 + i) 768 (by omega) e1) (And.intro (pk_in (f + i) 24 (by omega) e2) ?_)
      rw [e1, e2, nI_clamp (by omega), nI_clamp (by omega)]
      refine br_c (fun q => nm_r (nI_1 i) (ih (i + 1) (by omega) (by omega) (fun m hm2 => ?_))) (fun q => h0 (fun w => q (w i z)))
      by_cases w : m = i
      · subst w
        exact q
      · exact hm m (by omega)
theorem xw_isl {post : Int32 → Prop} {f en : Nat} (hw : nw ≤ 32) (hf : f ≤ en) (he : en ≤ 24) (h1 : xl_LD nw wc wl pa f (en - f) → post 1) (h0 : ¬ xl_LD nw wc wl pa f (en - f) → post 0) : wpX_isLearned post (nI V, nI T, nI L, nI M, nI N, sm_fl N, nI nc, nI ni, iS, nI ns, nI nw, rv, st, rc, pn, bp, wt, va, we, fo, tt, gc, gs, po, mo, co, nx, ss, wc, wl, ws, ce, re, fr, ly, pa) (nI f) (nI en) := by
  refine nm_r (pk_sub hf) (Exists.intro (nw + 1) ?_)
  suffices H : ∀ n i, nw - i < n → i ≤ nw → (∀ p, p < i → ¬ (wl p = nI (en - f) ∧ ∀ m, m < en - f → wc (p * 24 + m) = pa (f + m))) → wX_isLearned_7 post (nI f) (nI (en - f)) (nI V) (nI T) (nI L) (nI M) (nI N) (sm_fl N) (nI nc) (nI ni) iS (nI ns) (nI nw) rv st rc pn bp wt va we fo tt gc gs po mo co nx ss wc wl ws ce re fr ly pa n (nI i) from
    H (nw + 1) 0 (by omega) (by omega) (fun m hm => by omega)
  intro n
  induction n with
  | zero => intro i hn; omega
  | succ n ih =>
    intro i hn hi hm
    have nx : ¬ (wl i = nI (en - f) ∧ ∀ m, m < en - f → wc (i * 24 + m) = pa (f + m)) → i < nw → wX_isLearned_7 post (nI f) (nI (en - f)) (nI V) (nI T) (nI L) (nI M) (nI N) (sm_fl N) (nI nc) (nI ni) iS (nI ns) (nI nw) rv st rc pn bp wt va we fo tt gc gs po mo co nx ss wc wl ws ce re fr ly pa n (nI (i + 1)) := fun q z => ih (i + 1) (by omega) (by omega) (fun p hp => by
      by_cases w : p = i
      · subst w
        exact q
      · exact hm p (by omega))
    refine pk_le nw i (fun z => h0 ?_) (fun z => ?_)
    · rintro ⟨p, hp, q⟩
      exact hm p (by omega) q
    · refine And.intro (pk_in i 32 (by omega)) ?_
      rw [nI_clamp (by omega)]
      refine br_c (fun q => xw_same (by omega) (by omega) (fun w => br_f (by decide) (h1 ⟨i, z, q, w⟩)) (fun w => br_t rfl (nm_r (nI_1 i) (nx (fun y => w y.2) z)))) (fun q => nm_r (nI_1 i) (nx (fun y => q y.1) z))
theorem xw_split {post : SX → Prop} {H : Nat → Prop} {l : Nat} {G : Nat → Nat → Prop} (hN : N ≤ 64) (hl : l < 8) (hC : ∀ a, a < N → ce (l * 64 + a) = sm_of N (G a))
    (h : ∀ ce' : Nat → Int64, (∀ a, a < N → ce' (l * 64 + a) = sm_of N (fun b => G a b ∧ (H a ↔ H b))) → (∀ j, (∀ a, a < N → j ≠ l * 64 + a) → ce' j = ce j) → post (nI V, nI T, nI L, nI M, nI N, sm_fl N, nI nc, nI ni, iS, nI ns, nI nw, rv, st, rc, pn, bp, wt, va, we, fo, tt, gc, gs, po, mo, co, nx, ss, wc, wl, ws, ce', re, fr, ly, pa)) : wpX_splitCells post (nI V, nI T, nI L, nI M, nI N, sm_fl N, nI nc, nI ni, iS, nI ns, nI nw, rv, st, rc, pn, bp, wt, va, we, fo, tt, gc, gs, po, mo, co, nx, ss, wc, wl, ws, ce, re, fr, ly, pa) (nI l) (sm_of N H) := by
  refine Exists.intro (N + 1) ?_
  suffices W : ∀ n i (ce' : Nat → Int64), N - i < n → i ≤ N → (∀ a, a < i → ce' (l * 64 + a) = sm_of N (fun b => G a b ∧ (H a ↔ H b))) → (∀ j, (∀ a, a < i → j ≠ l * 64 + a) → ce' j = ce j) → wX_splitCells_3 post (nI l) (sm_of N H) (nI V) (nI T) (nI L) (nI M) (nI N) (sm_fl N) (nI nc) (nI ni) iS (nI ns) (nI nw) rv st rc pn bp wt n (nI i) va we fo tt gc gs po mo co nx ss wc wl ws ce' re fr ly pa from
    W (N + 1) 0 ce (by omega) (by omega) (fun a ha => by omega) (fun _ _ => rfl)
  intro n
  induction n with
  | zero => intro i ce' hn; omega
  | succ n ih =>
    intro i ce' hn hi h1 h2
    refine pk_le N i (fun z => ?_) (fun z => ?_)
    · have : i = N := by omega
      subst this
      exact h ce' h1 h2
    · have e1 := ix_64 l i
      have e2 : ce' (nI l * 64 + nI i).toNatClampNeg = sm_of N (G i) := rd_l e1 (by omega) ((h2 _ (fun a ha => by omega)).trans (hC i z))
      have vi : vp_in (nI l * 64 + nI i) 512 := pk_in (l * 64 + i) 512 (by omega) e1
      have nx : ∀ x, x = sm_of N (fun b => G i b ∧ (H i ↔ H b)) → wX_splitCells_3 post (nI l) (sm_of N H) (nI V) (nI T) (nI L) (nI M) (nI N) (sm_fl N) (nI nc) (nI ni) iS (nI ns) (nI nw) rv st rc pn bp wt n (nI (i + 1)) va we fo tt gc gs po mo co nx ss wc wl ws (vp_updL ce' (l * 64 + i) x) re fr ly pa := by
        intro x hx
        refine ih (i + 1) _ (by omega) (by omega) (fun a ha => ?_) (fun j hj => ?_)
        · by_cases w : a = i
          · subst w
            rw [pk_uLs]
            exact hx
          · rw [pk_uLn (by omega)]
            exact h1 a (by omega)
        · rw [pk_uLn (hj i (by omega))]
          exact h2 j (fun a ha => hj a (by omega))
      refine xw_contains hN z (fun hs => br_f (by decide) (And.intro vi (And.intro vi ?_))) (fun hs => br_t rfl (And.intro vi (And.intro vi ?_)))
      · rw [e2, e1, nI_clamp (by omega)]
        refine nm_e (nm_r (nI_1 i) (nx _ ((sm_and _ _ _).trans (sm_cg fun b _ => ⟨fun q => ⟨q.1, fun _ => q.2, fun _ => hs⟩, fun q => ⟨q.1, q.2.mp hs⟩⟩))))
      · rw [e2, e1, nI_clamp (by omega)]
        refine nm_e (nm_r (nI_1 i) (nx _ ((sm_andn _ _ _).trans (sm_cg fun b _ => ⟨fun q => ⟨q.1, fun w => absurd w hs, fun w => absurd w q.2⟩, fun q => ⟨q.1, fun w => hs (q.2.mpr w)⟩⟩))))
theorem xw_append {post : SX → Prop} {f en c : Nat} {H : Nat → Prop} {G : Nat → Nat → Prop} (hN : N ≤ 64) (hL : L ≤ 8) (hnc : nc ≤ 16) (hT : cx_T fo tt src tgt nc L) (hw : nw < 32) (hf : f < en) (he : en ≤ 24) (hpa : pa f = nI c) (hc : c < nc) (hC : ∀ a, a < N → ce (src c * 64 + a) = sm_of N (G a))
    (h : ∀ (wc' : Nat → Int32) (ce' : Nat → Int64), (∀ m, m < en - f → wc' (nw * 24 + m) = pa (f + m)) → (∀ j, (∀ m, m < en - f → j ≠ nw * 24 + m) → wc' j = wc j) → (∀ a, a < N → ce' (src c * 64 + a) = sm_of N (fun b => G a b ∧ (H a ↔ H b))) → (∀ j, (∀ a, a < N → j ≠ src c * 64 + a) → ce' j = ce j) →
      post (nI V, nI T, nI L, nI M, nI N, sm_fl N, nI nc, nI ni, iS, nI ns, nI (nw + 1), rv, st, rc, pn, bp, wt, va, we, fo, tt, gc, gs, po, mo, co, nx, ss, wc', upd wl nw (nI (en - f)), vp_updL ws nw (sm_of N H), ce', re, fr, ly, pa)) : wpX_appendWord post (nI V, nI T, nI L, nI M, nI N, sm_fl N, nI nc, nI ni, iS, nI ns, nI nw, rv, st, rc, pn, bp, wt, va, we, fo, tt, gc, gs, po, mo, co, nx, ss, wc, wl, ws, ce, re, fr, ly, pa) (nI f) (nI en) (sm_of N H) := by
  obtain ⟨t1, t2, t3, t4⟩ := hT c hc
  refine nm_r (nI_1 nw) (nm_r (pk_sub (by omega)) ?_)
  refine And.intro (pk_in nw 32 hw) (nm_r (wr_i (n := nw) rfl (by omega) rfl) ?_)
  refine And.intro (pk_in nw 32 hw) (nm_r (wr_l (n := nw) rfl (by omega) rfl) (Exists.intro (en - f + 1) ?_))
  suffices W : ∀ n i (wc' : Nat → Int32), en - f - i < n → i ≤ en - f → (∀ m, m < i → wc' (nw * 24 + m) = pa (f + m)) → (∀ j, (∀ m, m < i → j ≠ nw * 24 + m) → wc' j = wc j) → wX_appendWord_41 post (nI f) (sm_of N H) (nI nw) (nI (en - f)) (nI V) (nI T) (nI L) (nI M) (nI N) (sm_fl N) (nI nc) (nI ni) iS (nI ns) (nI (nw + 1)) rv st rc pn bp wt n (nI i) va we fo tt gc gs po mo co nx ss wc' (upd wl nw (nI (en - f))) (vp_updL ws nw (sm_of N H)) ce re fr ly pa from
    W (en - f + 1) 0 wc (by omega) (by omega) (fun a ha => by omega) (fun _ _ => rfl)
  intro n
  induction n with
  | zero => intro i wc' hn; omega
  | succ n ih =>
    intro i wc' hn hi h1 h2
    refine pk_le (en - f) i (fun z => ?_) (fun z => ?_)
    · have : i = en - f := by omega
      subst this
      have ef : pa (nI f).toNatClampNeg = nI c := rd_i rfl (by omega) hpa
      have eg : fo (nI c).toNatClampNeg = nI (src c) := rd_i rfl (by omega) t1
      rw [ef, eg]
      exact And.intro (pk_in f 24 (by omega)) (And.intro (pk_in c 16 (by omega)) (xw_split hN (by omega) hC (fun ce' h3 h4 => h wc' ce' h1 h2 h3 h4)))
    · have e1 := nI_add f i
      have e2 := ix_24 nw i
      refine And.intro (pk_in (f + i) 24 (by omega) e1) (And.intro (pk_in (nw * 24 + i) 768 (by omega) e2) (nm_r (wr_i e2 (by omega) (rd_i e1 (by omega) rfl)) (nm_r (nI_1 i) (ih (i + 1) _ (by omega) (by omega) (fun m hm => ?_) (fun j hj => ?_)))))
      · by_cases w : m = i
        · subst w
          exact pk_us
        · rw [pk_un (by omega)]
          exact h1 m (by omega)
      · rw [pk_un (hj i (by omega))]
        exact h2 j (fun a ha => hj a (by omega))
end
end
section
/-! the reference: digits, atoms, execution, initial codes, runs -/
def pg_wo (V : Nat) (y : Int32) : Prop := y = -1 ∨ ∃ j, j < V ∧ y = nI j
def pg_wa (V : Nat) (am : Nat → Int32) (i : Nat) : Prop := pg_wo V (am (i * 4)) ∧ pg_wo V (am (i * 4 + 2))
def pg_wc (V : Nat) (gu am pl mi : Nat → Int32) (c : Nat) : Prop := (∃ g, g ≤ 3 ∧ gu c = nI g ∧ ∀ i, i < g → pg_wa V am (c * 3 + i)) ∧ ∀ x, x < V → pg_wo V (pl (c * 3 + x)) ∧ pg_wo V (mi (c * 3 + x))
def yd_D (V T N L nc : Nat) : Prop := V ≤ 3 ∧ T ≤ 7 ∧ N = (T + 1) ^ V ∧ N ≤ 64 ∧ L ≤ 8 ∧ 0 < L ∧ nc ≤ 16
def pg_w (wd : Nat → Int32) (i : Nat) : Nat := (wd i).toNatClampNeg
def pg_in (T ni : Nat) (am : Nat → Int32) (a : Nat) : Prop := ∀ i, i < ni → pg_hd (T + 1) am (48 + i) a = true
theorem pg_op_m1 (B a : Nat) : pg_op B a (-1) = 0 := if_pos (by decide)
theorem pg_op_nI (B a : Nat) {j : Nat} (hj : j < 2 ^ 31) : pg_op B a (nI j) = nI (a / B ^ j % B) := by
  unfold pg_op
  rw [if_neg (nI_pos hj), nI_clamp hj]
theorem yd_B {V T N L nc : Nat} {gu am pl mi ad : Nat → Int32} (hD : yd_D V T N L nc) : cx_B (pg_ex V T gu am pl mi ad) nc N := fun _ _ _ _ _ h => pg_ex_lt (by have := hD.2.1; omega) hD.2.2.1 h
theorem cm_br {post : Int32 → Prop} {l rel r : Int32} (h : post (pg_bI (pg_cm l rel r))) :
    ((rel = 0 → (((r ≤ l → (post 0)) ∧ (¬ r ≤ l → (post 1))))) ∧ (¬ rel = 0 → (((rel = 1 → (((r < l → (post 0)) ∧ (¬ r < l → (post 1))))) ∧ (¬ rel = 1 → (((rel = 2 → (((l = r → (post 1)) ∧ (¬ l = r → (post 0))))) ∧ (¬ rel = 2 → (((rel = 3 → (((l = r → (post 0)) ∧ (¬ l = r → (post 1))))) ∧ (¬ rel = 3 → (((rel = 4 → (((l < r → (post 0)) ∧ (¬ l < r → (post 1))))) ∧ (¬ rel = 4 → (((l ≤ r → (post 0)) ∧ (¬ l ≤ r → (post 1)))))))))))))))))) := by
  unfold pg_cm at h
  refine br_c (fun q => ?_) (fun q => ?_)
  · rw [if_pos q] at h
    exact br_c (fun w => by simpa [w, pg_bI] using h) (fun w => by simpa [w, pg_bI] using h)
  rw [if_neg q] at h
  refine br_c (fun q => ?_) (fun q => ?_)
  · rw [if_pos q] at h
    exact br_c (fun w => by simpa [w, pg_bI] using h) (fun w => by simpa [w, pg_bI] using h)
  rw [if_neg q] at h
  refine br_c (fun q => ?_) (fun q => ?_)
  · rw [if_pos q] at h
    exact br_c (fun w => by simpa [w, pg_bI] using h) (fun w => by simpa [w, pg_bI] using h)
  rw [if_neg q] at h
  refine br_c (fun q => ?_) (fun q => ?_)
  · rw [if_pos q] at h
    exact br_c (fun w => by simpa [w, pg_bI] using h) (fun w => by simpa [w, pg_bI] using h)
  rw [if_neg q] at h
  refine br_c (fun q => ?_) (fun q => ?_)
  · rw [if_pos q] at h
    exact br_c (fun w => by simpa [w, pg_bI] using h) (fun w => by simpa [w, pg_bI] using h)
  rw [if_neg q] at h
  exact br_c (fun w => by simpa [w, pg_bI] using h) (fun w => by simpa [w, pg_bI] using h)
theorem ix_4k (i k : Nat) {x : Int32} (hx : x = nI k) : nI i * 4 + x = nI (i * 4 + k) := by rw [ix_4, hx, nI_add]
section
variable {V T N L M nc ni ns nw : Nat} {st rc bp wy : Int32} {so ta gu am pl mi ad wd ln sp fa le ma : Nat → Int32}
theorem yw_digit {post : Int32 → Prop} {a : Nat} {y : Int32} (hV : V ≤ 3) (hT : T ≤ 7) (ha : a < 64) (hy : pg_wo V y) (h : post (pg_op (T + 1) a y)) : wpY_digit post (nI V, nI T, nI (T + 1), nI N, nI L, nI M, nI nc, nI ni, nI ns, nI nw, st, rc, bp, wy, so, ta, gu, am, pl, mi, ad, wd, ln, sp, fa, le, ma) (nI a) y := by
  rcases hy with rfl | ⟨j, hj, rfl⟩
  · rw [pg_op_m1] at h
    exact br_f (by decide) h
  · rw [pg_op_nI _ _ (by omega)] at h
    refine br_t (nI_pos' (by omega)) (Exists.intro (j + 1) ?_)
    have hB : ¬ nI (T + 1) = 0 := nI_ne0 (by omega) (by omega)
    suffices H : ∀ n i, j - i < n → i ≤ j → wY_digit_11 post (nI j) (nI V) (nI T) (nI (T + 1)) (nI N) (nI L) (nI M) (nI nc) (nI ni) (nI ns) (nI nw) st rc bp wy so ta gu am pl mi ad wd ln sp fa le ma n (nI (a / (T + 1) ^ i)) (nI i) by
      have := H (j + 1) 0 (by omega) (by omega)
      rw [Nat.pow_zero, Nat.div_one] at this
      exact this
    intro n
    induction n with
    | zero => intro i hn; omega
    | succ n ih =>
      intro i hn hi
      have hq : a / (T + 1) ^ i ≤ a := Nat.div_le_self _ _
      refine pk_le j i (fun z => And.intro hB ?_) (fun z => And.intro hB ?_)
      · have : i = j := by omega
        subst this
        rw [pk_rem (by omega) (by omega) (by omega)]
        exact h
      · refine nm_r (pk_div (by omega) (by omega) (by omega)) (nm_r (nI_1 i) ?_)
        rw [Nat.div_div_eq_div_mul, ← Nat.pow_succ]
        exact ih (i + 1) (by omega) (by omega)
theorem yw_holds {post : Int32 → Prop} {a i : Nat} (hV : V ≤ 3) (hT : T ≤ 7) (ha : a < 64) (hi : i < 56) (hw : pg_wa V am i) (h : post (pg_bI (pg_hd (T + 1) am i a))) : wpY_holds post (nI V, nI T, nI (T + 1), nI N, nI L, nI M, nI nc, nI ni, nI ns, nI nw, st, rc, bp, wy, so, ta, gu, am, pl, mi, ad, wd, ln, sp, fa, le, ma) (nI i) (nI a) := by
  have e0 := ix_4 i
  have e1 : nI i * 4 + 1 = nI (i * 4 + 1) := ix_4k i 1 rfl
  have e2 : nI i * 4 + 2 = nI (i * 4 + 2) := ix_4k i 2 rfl
  have e3 : nI i * 4 + 3 = nI (i * 4 + 3) := ix_4k i 3 rfl
  refine And.intro (pk_in (i * 4) 224 (by omega) e0) ?_
  rw [e3, e2, e1, e0, nI_clamp (by omega), nI_clamp (by omega), nI_clamp (by omega), nI_clamp (by omega)]
  refine yw_digit hV hT ha hw.1 (And.intro (pk_in (i * 4 + 2) 224 (by omega)) (yw_digit hV hT ha hw.2 ?_))
  refine And.intro (pk_in (i * 4 + 3) 224 (by omega)) (nm_e (And.intro (pk_in (i * 4 + 1) 224 (by omega)) (nm_e ?_)))
  exact cm_br h
theorem yw_ex69 {post : Int32 → Prop} {c a : Nat} (hD : yd_D V T N L nc) (ha : a < N) (hc : c < nc) (hw : pg_wc V gu am pl mi c) (h : post (pg_oI (pg_ea (T + 1) T pl mi ad c a V))) :
    ∀ n x r, V - x < n → x ≤ V → pg_ea (T + 1) T pl mi ad c a x = some r → wY_execute_69 post (nI c) (nI a) (nI V) (nI T) (nI (T + 1)) (nI N) (nI L) (nI M) (nI nc) (nI ni) (nI ns) (nI nw) st rc bp wy so ta gu am pl mi ad wd ln sp fa le ma n (nI r) (nI ((T + 1) ^ x)) (nI x) := by
  obtain ⟨hV, hT, hN, hN64, hL, hL0, hnc⟩ := hD
  intro n
  induction n with
  | zero => intro x r hn; omega
  | succ n ih =>
    intro x r hn hx hr
    refine pk_le V x (fun z => ?_) (fun z => ?_)
    · have : x = V := by omega
      subst this
      rw [hr] at h
      exact h
    · have e1 := ix_3 c x
      obtain ⟨w1, w2⟩ := hw.2 x z
      have v1 : vp_in (nI (c * 3 + x)) 48 := pk_in (c * 3 + x) 48 (by omega)
      have cl : (nI (c * 3 + x)).toNatClampNeg = c * 3 + x := nI_clamp (by omega)
      refine nm_r e1 (And.intro v1 ?_)
      rw [cl]
      refine yw_digit hV hT (by omega) w1 (And.intro v1 (yw_digit hV hT (by omega) w2 (And.intro v1 (nm_e ?_))))
      have hs : pg_ea (T + 1) T pl mi ad c a (x + 1) = if pg_fv (T + 1) pl mi ad c a x < 0 then none else if pg_fv (T + 1) pl mi ad c a x ≤ nI T then some (r + (pg_fv (T + 1) pl mi ad c a x).toNatClampNeg * (T + 1) ^ x) else none := by
        rw [pg_ea, hr]
      have bad : pg_ea (T + 1) T pl mi ad c a (x + 1) = none → post (-3) := fun q => by
        have := pg_ea_none q (V - (x + 1))
        rw [show x + 1 + (V - (x + 1)) = V by omega] at this
        rw [this] at h
        exact h
      refine br_c (fun q => bad (by rw [hs]; exact if_pos q)) (fun q => br_c (fun q2 => ?_) (fun q2 => bad (hs.trans ((if_neg q).trans (if_neg q2)))))
      have q' : ¬ pg_fv (T + 1) pl mi ad c a x < 0 := q
      have q2' : pg_fv (T + 1) pl mi ad c a x ≤ nI T := q2
      obtain ⟨j, hj, ej⟩ := nI_of q'
      rw [if_neg q', if_pos q2', ej, nI_clamp hj] at hs
      have ej' : pg_op (T + 1) a (pl (c * 3 + x)) - pg_op (T + 1) a (mi (c * 3 + x)) + ad (c * 3 + x) = nI j := ej
      rw [ej']
      refine nm_r (e' := nI (r + j * (T + 1) ^ x)) (by rw [pk_mul, nI_add]) (nm_r (e' := nI ((T + 1) ^ (x + 1))) (by rw [pk_mul, Nat.pow_succ]) (nm_r (nI_1 x) ?_))
      exact ih (x + 1) _ (by omega) (by omega) hs
theorem pg_ga_f {B : Nat} {am : Nat → Int32} {c a : Nat} : ∀ {g i : Nat}, i < g → ¬ pg_hd B am (c * 3 + i) a = true → ¬ pg_ga B am c a g = true
  | 0, i, h, _ => by omega
  | g + 1, i, h, q => fun w => by
    rw [pg_ga, Bool.and_eq_true] at w
    by_cases e : i = g
    · subst e
      exact q w.2
    · exact pg_ga_f (g := g) (by omega) q w.1
theorem pg_ga_t {B : Nat} {am : Nat → Int32} {c a : Nat} : ∀ {g : Nat}, (∀ i, i < g → pg_hd B am (c * 3 + i) a = true) → pg_ga B am c a g = true
  | 0, _ => rfl
  | g + 1, h => by
    rw [pg_ga, Bool.and_eq_true]
    exact ⟨pg_ga_t (g := g) (fun i hi => h i (by omega)), h g (by omega)⟩
theorem yw_exec {post : Int32 → Prop} {c a : Nat} (hD : yd_D V T N L nc) (hc : c < nc) (ha : a < N) (hw : pg_wc V gu am pl mi c) (h : post (pg_oI ((pg_ex V T gu am pl mi ad) c a))) : wpY_execute post (nI V, nI T, nI (T + 1), nI N, nI L, nI M, nI nc, nI ni, nI ns, nI nw, st, rc, bp, wy, so, ta, gu, am, pl, mi, ad, wd, ln, sp, fa, le, ma) (nI c) (nI a) := by
  have hD' := hD
  obtain ⟨hV, hT, hN, hN64, hL, hL0, hnc⟩ := hD
  obtain ⟨g, hg, eg, hga⟩ := hw.1
  refine br_f (nI_pos (by omega)) (br_f (nI_ge hc (by omega)) (br_f (nI_pos (by omega)) (br_t (nI_lt ha (by omega)) (Exists.intro (g + 1) ?_))))
  have ec : gu (nI c).toNatClampNeg = nI g := rd_i rfl (by omega) eg
  unfold pg_ex at h
  rw [eg, nI_clamp (by omega)] at h
  suffices H : ∀ n i, g - i < n → i ≤ g → (∀ j, j < i → pg_hd (T + 1) am (c * 3 + j) a = true) → wY_execute_29 post (nI c) (nI a) (nI V) (nI T) (nI (T + 1)) (nI N) (nI L) (nI M) (nI nc) (nI ni) (nI ns) (nI nw) st rc bp wy so ta gu am pl mi ad wd ln sp fa le ma n (nI i) from
    H (g + 1) 0 (by omega) (by omega) (fun j hj => by omega)
  intro n
  induction n with
  | zero => intro i hn; omega
  | succ n ih =>
    intro i hn hi hj
    refine And.intro (pk_in c 16 (by omega)) ?_
    rw [ec]
    refine pk_le g i (fun z => ?_) (fun z => ?_)
    · have : i = g := by omega
      subst this
      rw [if_pos (pg_ga_t hj)] at h
      refine Exists.intro (V + 1) ?_
      have := yw_ex69 (so := so) (ta := ta) (wd := wd) (ln := ln) (sp := sp) (fa := fa) (le := le) (ma := ma) (M := M) (ni := ni) (ns := ns) (nw := nw) (st := st) (rc := rc) (bp := bp) (wy := wy) hD' ha hc hw h (V + 1) 0 0 (by omega) (by omega) rfl
      rw [Nat.pow_zero] at this
      exact this
    · rw [ix_3 c i]
      refine yw_holds hV hT (by omega) (by omega) (hga i z) ?_
      by_cases q : pg_hd (T + 1) am (c * 3 + i) a = true
      · rw [pg_bI_1 q]
        refine br_f (by decide) (nm_r (nI_1 i) (ih (i + 1) (by omega) (by omega) (fun j hj2 => ?_)))
        by_cases w : j = i
        · subst w
          exact q
        · exact hj j (by omega)
      · rw [pg_bI_0 q]
        rw [if_neg (pg_ga_f z q)] at h
        exact br_t rfl h
theorem yw_init {post : Int32 → Prop} {a : Nat} (hD : yd_D V T N L nc) (ha : a < N) (hni : ni ≤ 4) (hw : ∀ i, i < ni → pg_wa V am (48 + i)) (h1 : pg_in T ni am a → post 1) (h0 : ¬ pg_in T ni am a → post 0) : wpY_initial post (nI V, nI T, nI (T + 1), nI N, nI L, nI M, nI nc, nI ni, nI ns, nI nw, st, rc, bp, wy, so, ta, gu, am, pl, mi, ad, wd, ln, sp, fa, le, ma) (nI a) := by
  obtain ⟨hV, hT, hN, hN64, hL, hL0, hnc⟩ := hD
  refine br_f (nI_pos (by omega)) (br_t (nI_lt ha (by omega)) (Exists.intro (ni + 1) ?_))
  suffices H : ∀ n i, ni - i < n → i ≤ ni → (∀ j, j < i → pg_hd (T + 1) am (48 + j) a = true) → wY_initial_17 post (nI a) (nI V) (nI T) (nI (T + 1)) (nI N) (nI L) (nI M) (nI nc) (nI ni) (nI ns) (nI nw) st rc bp wy so ta gu am pl mi ad wd ln sp fa le ma n (nI i) from
    H (ni + 1) 0 (by omega) (by omega) (fun j hj => by omega)
  intro n
  induction n with
  | zero => intro i hn; omega
  | succ n ih =>
    intro i hn hi hj
    refine pk_le ni i (fun z => h1 (fun j hj2 => hj j (by omega))) (fun z => ?_)
    rw [ix_k 48 i (x := 48) rfl]
    refine yw_holds hV hT (by omega) (by omega) (hw i z) ?_
    by_cases q : pg_hd (T + 1) am (48 + i) a = true
    · rw [pg_bI_1 q]
      refine br_f (by decide) (nm_r (nI_1 i) (ih (i + 1) (by omega) (by omega) (fun j hj2 => ?_)))
      by_cases w : j = i
      · subst w
        exact q
      · exact hj j (by omega)
    · rw [pg_bI_0 q]
      exact br_t rfl (h0 (fun w => q (w i z)))
theorem yw_runs {post : Int32 → Prop} {row len a : Nat} (hD : yd_D V T N L nc) (hW : ∀ c, c < nc → pg_wc V gu am pl mi c) (ha : a < N) (hr : row < 33) (hl : len ≤ 24) (hw : ∀ m, m < len → ∃ c, c < nc ∧ wd (row * 24 + m) = nI c)
    (h : post (pg_bI (pg_rn (pg_ex V T gu am pl mi ad) (pg_w wd) len (row * 24) a).isSome)) : wpY_runs post (nI V, nI T, nI (T + 1), nI N, nI L, nI M, nI nc, nI ni, nI ns, nI nw, st, rc, bp, wy, so, ta, gu, am, pl, mi, ad, wd, ln, sp, fa, le, ma) (nI row) (nI len) (nI a) := by
  have hB := yd_B (gu := gu) (am := am) (pl := pl) (mi := mi) (ad := ad) hD
  have hD' := hD
  obtain ⟨hV, hT, hN, hN64, hL, hL0, hnc⟩ := hD
  refine Exists.intro (len + 1) ?_
  suffices H : ∀ n i b, len - i < n → i ≤ len → b < N → post (pg_bI (pg_rn (pg_ex V T gu am pl mi ad) (pg_w wd) (len - i) (row * 24 + i) b).isSome) → wY_runs_6 post (nI row) (nI len) (nI V) (nI T) (nI (T + 1)) (nI N) (nI L) (nI M) (nI nc) (nI ni) (nI ns) (nI nw) st rc bp wy so ta gu am pl mi ad wd ln sp fa le ma n (nI b) (nI i) from
    H (len + 1) 0 a (by omega) (by omega) ha h
  intro n
  induction n with
  | zero => intro i b hn; omega
  | succ n ih =>
    intro i b hn hi hb hp
    refine pk_le len i (fun z => ?_) (fun z => br_f (nI_pos (by omega)) ?_)
    · rw [show len - i = 0 by omega, pg_rn] at hp
      exact br_f (nI_pos (by omega)) hp
    · obtain ⟨c, hc, ec⟩ := hw i z
      have e1 := ix_24 row i
      refine And.intro (pk_in (row * 24 + i) 792 (by omega) e1) ?_
      rw [rd_i (f := wd) e1 (by omega) ec]
      have ew : pg_w wd (row * 24 + i) = c := by
        unfold pg_w
        rw [ec, nI_clamp (by omega)]
      rw [show len - i = len - (i + 1) + 1 by omega] at hp
      refine yw_exec hD' hc hb (hW c hc) (nm_r (nI_1 i) ?_)
      cases q : (pg_ex V T gu am pl mi ad) c b with
      | none =>
        rw [pg_rn_n (by rw [ew]; exact q)] at hp
        obtain ⟨m, rfl⟩ : ∃ m, n = m + 1 := ⟨n - 1, by omega⟩
        have ng : pg_oI none < 0 := by decide
        exact br_c (fun _ => br_t ng hp) (fun _ => br_t ng (br_t ng hp))
      | some d =>
        rw [pg_rn_s (by rw [ew]; exact q)] at hp
        exact ih (i + 1) d (by omega) (by omega) (hB c b d hc hb q) hp
theorem yw_runner {post : Int32 → Prop} {k : Nat} (hD : yd_D V T N L nc) (hW : ∀ c, c < nc → pg_wc V gu am pl mi c) (hni : ni ≤ 4) (hwi : ∀ i, i < ni → pg_wa V am (48 + i)) (hk : k ≤ 24) (hw : ∀ m, m < k → ∃ c, c < nc ∧ wd (768 + m) = nI c)
    (h1 : ∀ m, m < N → pg_in T ni am m → (pg_rn (pg_ex V T gu am pl mi ad) (pg_w wd) k 768 m).isSome = true → (∀ j, j < m → ¬ (pg_in T ni am j ∧ (pg_rn (pg_ex V T gu am pl mi ad) (pg_w wd) k 768 j).isSome = true)) → post (nI m))
    (h0 : (∀ j, j < N → ¬ (pg_in T ni am j ∧ (pg_rn (pg_ex V T gu am pl mi ad) (pg_w wd) k 768 j).isSome = true)) → post (-3)) : wpY_runner post (nI V, nI T, nI (T + 1), nI N, nI L, nI M, nI nc, nI ni, nI ns, nI nw, st, rc, bp, wy, so, ta, gu, am, pl, mi, ad, wd, ln, sp, fa, le, ma) (nI k) := by
  have hD' := hD
  obtain ⟨hV, hT, hN, hN64, hL, hL0, hnc⟩ := hD
  refine Exists.intro (N + 1) ?_
  suffices H : ∀ n i, N - i < n → i ≤ N → (∀ j, j < i → ¬ (pg_in T ni am j ∧ (pg_rn (pg_ex V T gu am pl mi ad) (pg_w wd) k 768 j).isSome = true)) → wY_runner_2 post (nI k) (nI V) (nI T) (nI (T + 1)) (nI N) (nI L) (nI M) (nI nc) (nI ni) (nI ns) (nI nw) st rc bp wy so ta gu am pl mi ad wd ln sp fa le ma n (nI i) from
    H (N + 1) 0 (by omega) (by omega) (fun j hj => by omega)
  intro n
  induction n with
  | zero => intro i hn; omega
  | succ n ih =>
    intro i hn hi hj
    have nx : i < N → ¬ (pg_in T ni am i ∧ (pg_rn (pg_ex V T gu am pl mi ad) (pg_w wd) k 768 i).isSome = true) → wY_runner_2 post (nI k) (nI V) (nI T) (nI (T + 1)) (nI N) (nI L) (nI M) (nI nc) (nI ni) (nI ns) (nI nw) st rc bp wy so ta gu am pl mi ad wd ln sp fa le ma n (nI (i + 1)) := fun z q => ih (i + 1) (by omega) (by omega) (fun j hj2 => by
      by_cases w : j = i
      · subst w
        exact q
      · exact hj j (by omega))
    refine pk_le N i (fun z => h0 (fun j hj2 => hj j (by omega))) (fun z => ?_)
    refine yw_init hD' z hni hwi (fun hin => br_t rfl ?_) (fun hin => br_f (by decide) (nm_r (nI_1 i) (nx z (fun q => hin q.1))))
    refine yw_runs (row := 32) hD' hW z (by omega) hk hw ?_
    by_cases q : (pg_rn (pg_ex V T gu am pl mi ad) (pg_w wd) k (32 * 24) i).isSome = true
    · rw [pg_bI_1 q]
      exact br_f (by decide) (h1 i z hin q hj)
    · rw [pg_bI_0 q]
      exact br_t rfl (nm_r (nI_1 i) (nx z (fun w => q w.2)))
end
end
section
/-! the reference: learned words, equivalence, prepare -/
def yl_LD (nw : Nat) (wd ln : Nat → Int32) (f len : Nat) : Prop := ∃ p, p < nw ∧ ln p = nI len ∧ ∀ m, m < len → wd (p * 24 + m) = wd (768 + f + m)
def yd_W (nw nc : Nat) (wd ln : Nat → Int32) : Prop := nw ≤ 32 ∧ ∀ p, p < nw → ∃ len, 1 ≤ len ∧ len ≤ 24 ∧ ln p = nI len ∧ ∀ m, m < len → ∃ c, c < nc ∧ wd (p * 24 + m) = nI c
def yd_wr (V T : Nat) (gu am pl mi ad wd ln : Nat → Int32) (p a : Nat) : Bool := (pg_rn (pg_ex V T gu am pl mi ad) (pg_w wd) (ln p).toNatClampNeg (p * 24) a).isSome
def yd_Q (V T ns nw : Nat) (gu am pl mi ad so wd ln : Nat → Int32) : Nat → Nat → Nat → Prop :=
  pg_Q ns nw (fun s a => pg_hd (T + 1) am (52 + s) a) (fun p => (so (pg_w wd (p * 24))).toNatClampNeg) (yd_wr V T gu am pl mi ad wd ln)
theorem yd_Qe {V T ns nw : Nat} {gu am pl mi ad so wd ln : Nat → Int32} : pg_eqv (yd_Q V T ns nw gu am pl mi ad so wd ln) := pg_Q_eqv _ _ _ _ _
/-- the table of facts: seeds in rows 0 to 3, words from row 4 on -/
def yd_fr (V T : Nat) (gu am pl mi ad wd ln : Nat → Int32) (r a : Nat) : Bool := if r < 4 then pg_hd (T + 1) am (52 + r) a else yd_wr V T gu am pl mi ad wd ln (r - 4) a
def yd_rw (ns nw r : Nat) : Prop := r < ns ∨ 4 ≤ r ∧ r < 4 + nw
theorem ix_4p (p a : Nat) : (4 + nI p) * 64 + nI a = nI ((4 + p) * 64 + a) := by
  rw [ix_k 4 p (x := 4) rfl, ix_64]
section
variable {V T N L M nc ni ns nw : Nat} {st rc bp wy : Int32} {so ta gu am pl mi ad wd ln sp fa le ma : Nat → Int32}
theorem yw_ld34 {post : Int32 → Prop} {J : Int32 → Prop} {f en p : Nat} (hf : f < en) (he : en ≤ 24) (hp : p < 32) (h1 : (∀ m, m < en - f → wd (p * 24 + m) = wd (768 + f + m)) → post 1) (h0 : (¬ ∀ m, m < en - f → wd (p * 24 + m) = wd (768 + f + m)) → J (nI (p + 1))) :
    ∀ n m, en - f - m < n → m ≤ en - f → (∀ i, i < m → wd (p * 24 + i) = wd (768 + f + i)) → wY_learned_34 post J (nI (f + 1)) (nI en) (nI p) (nI V) (nI T) (nI (T + 1)) (nI N) (nI L) (nI M) (nI nc) (nI ni) (nI ns) (nI nw) st rc bp wy so ta gu am pl mi ad wd ln sp fa le ma n 1 (nI m) := by
  intro n
  induction n with
  | zero => intro m hn; omega
  | succ n ih =>
    intro m hn hm hi
    have e0 : nI en - nI (f + 1) = nI (en - f - 1) := (pk_sub (by omega)).trans (congrArg nI (by omega))
    refine pk_lt (en - f - 1) m (fun z => br_f (by decide) (h1 (fun i hi2 => hi i (by omega)))) (fun z => br_f (by decide) ?_) e0
    have e1 := ix_24 p m
    have e2 : (768 + nI (f + 1)) - 1 + nI m = nI (768 + f + m) := by
      rw [ix_k 768 (f + 1) (x := 768) rfl, ← Nat.add_assoc, nI_pred, nI_add]
    rw [e1, e2, nI_clamp (by omega), nI_clamp (by omega)]
    refine And.intro (pk_in (p * 24 + m) 792 (by omega)) (And.intro (pk_in (768 + f + m) 792 (by omega)) (br_c (fun q => ?_) (fun q => ?_)))
    · refine nm_r (nI_1 m) (ih (m + 1) (by omega) (by omega) (fun i hi2 => ?_))
      by_cases w : i = m
      · subst w
        exact q
      · exact hi i (by omega)
    · refine nm_r (nI_1 m) ?_
      obtain ⟨k, rfl⟩ : ∃ k, n = k + 1 := ⟨n - 1, by omega⟩
      have hz : wY_learned_90 post J (nI (f + 1)) (nI en) (nI p) 0 (nI V) (nI T) (nI (T + 1)) (nI N) (nI L) (nI M) (nI nc) (nI ni) (nI ns) (nI nw) st rc bp wy so ta gu am pl mi ad wd ln sp fa le ma := br_t rfl (nm_r (nI_1 p) (h0 (fun w => q (w m (by omega)))))
      exact br_c (fun _ => hz) (fun _ => br_t rfl hz)
theorem yw_learned {post : Int32 → Prop} {f en : Nat} (hw : nw ≤ 32) (hf : f < en) (he : en ≤ 24) (h1 : yl_LD nw wd ln f (en - f) → post 1) (h0 : ¬ yl_LD nw wd ln f (en - f) → post 0) : wpY_learned post (nI V, nI T, nI (T + 1), nI N, nI L, nI M, nI nc, nI ni, nI ns, nI nw, st, rc, bp, wy, so, ta, gu, am, pl, mi, ad, wd, ln, sp, fa, le, ma) (nI (f + 1)) (nI en) := by
  refine Exists.intro (nw + 1) ?_
  suffices H : ∀ n i, nw - i < n → i ≤ nw → (∀ p, p < i → ¬ (ln p = nI (en - f) ∧ ∀ m, m < en - f → wd (p * 24 + m) = wd (768 + f + m))) → wY_learned_2 post (nI (f + 1)) (nI en) (nI V) (nI T) (nI (T + 1)) (nI N) (nI L) (nI M) (nI nc) (nI ni) (nI ns) (nI nw) st rc bp wy so ta gu am pl mi ad wd ln sp fa le ma n (nI i) from
    H (nw + 1) 0 (by omega) (by omega) (fun m hm => by omega)
  intro n
  induction n with
  | zero => intro i hn; omega
  | succ n ih =>
    intro i hn hi hm
    have nx : ¬ (ln i = nI (en - f) ∧ ∀ m, m < en - f → wd (i * 24 + m) = wd (768 + f + m)) → i < nw → wY_learned_2 post (nI (f + 1)) (nI en) (nI V) (nI T) (nI (T + 1)) (nI N) (nI L) (nI M) (nI nc) (nI ni) (nI ns) (nI nw) st rc bp wy so ta gu am pl mi ad wd ln sp fa le ma n (nI (i + 1)) := fun q z => ih (i + 1) (by omega) (by omega) (fun p hp => by
      by_cases w : p = i
      · subst w
        exact q
      · exact hm p (by omega))
    refine pk_le nw i (fun z => h0 ?_) (fun z => And.intro (pk_in i 33 (by omega)) ?_)
    · rintro ⟨p, hp, q⟩
      exact hm p (by omega) q
    · have e0 : nI en - nI (f + 1) + 1 = nI (en - f) := by
        rw [pk_sub (by omega), nI_1]
        exact congrArg nI (by omega)
      rw [nI_clamp (by omega), e0]
      refine br_c (fun q => Exists.intro (en - f + 1) ?_) (fun q => Exists.intro 1 ?_)
      · exact yw_ld34 hf he (by omega) (fun w => h1 ⟨i, z, q, w⟩) (fun w => nx (fun y => w y.2) z) (en - f + 1) 0 (by omega) (by omega) (fun i hi => by omega)
      · have hz : wY_learned_90 post (wY_learned_2 post (nI (f + 1)) (nI en) (nI V) (nI T) (nI (T + 1)) (nI N) (nI L) (nI M) (nI nc) (nI ni) (nI ns) (nI nw) st rc bp wy so ta gu am pl mi ad wd ln sp fa le ma n) (nI (f + 1)) (nI en) (nI i) 0 (nI V) (nI T) (nI (T + 1)) (nI N) (nI L) (nI M) (nI nc) (nI ni) (nI ns) (nI nw) st rc bp wy so ta gu am pl mi ad wd ln sp fa le ma := br_t rfl (nm_r (nI_1 i) (nx (fun y => q y.1) z))
        exact br_c (fun _ => hz) (fun _ => br_t rfl hz)
theorem yw_eq50 {post : Int32 → Prop} {l a b : Nat} (hN : N ≤ 64) (hnc : nc ≤ 16) (hl : l < 8) (ha : a < N) (hb : b < N) (hW : yd_W nw nc wd ln) (hso : ∀ c, c < nc → ∃ s, s < 8 ∧ so c = nI s)
    (hf : ∀ r a, yd_rw ns nw r → a < N → fa (r * 64 + a) = pg_bI (yd_fr V T gu am pl mi ad wd ln r a))
    (h1 : (∀ p, p < nw → (so (pg_w wd (p * 24))).toNatClampNeg = l → yd_wr V T gu am pl mi ad wd ln p a = yd_wr V T gu am pl mi ad wd ln p b) → post 1)
    (h0 : (¬ ∀ p, p < nw → (so (pg_w wd (p * 24))).toNatClampNeg = l → yd_wr V T gu am pl mi ad wd ln p a = yd_wr V T gu am pl mi ad wd ln p b) → post 0) :
    ∀ n i, nw - i < n → i ≤ nw → (∀ p, p < i → (so (pg_w wd (p * 24))).toNatClampNeg = l → yd_wr V T gu am pl mi ad wd ln p a = yd_wr V T gu am pl mi ad wd ln p b) → wY_equivalent_50 post (nI l) (nI a) (nI b) (nI V) (nI T) (nI (T + 1)) (nI N) (nI L) (nI M) (nI nc) (nI ni) (nI ns) (nI nw) st rc bp wy so ta gu am pl mi ad wd ln sp fa le ma n (nI i) := by
  intro n
  induction n with
  | zero => intro i hn; omega
  | succ n ih =>
    intro i hn hi hm
    have hw32 := hW.1
    refine pk_le nw i (fun z => h1 (fun p hp => hm p (by omega))) (fun z => ?_)
    obtain ⟨len, hl1, hl2, -, hc⟩ := hW.2 i z
    obtain ⟨c, hc, ec⟩ := hc 0 (by omega)
    obtain ⟨s, hs, es⟩ := hso c hc
    have e0 : nI i * 24 = nI (i * 24) := pk_mul i 24
    have ew : wd (nI i * 24).toNatClampNeg = nI c := rd_i e0 (by omega) ec
    have eq0 : pg_w wd (i * 24) = c := by
      unfold pg_w
      rw [show i * 24 = i * 24 + 0 by omega, ec, nI_clamp (by omega)]
    have frv : ∀ x, yd_fr V T gu am pl mi ad wd ln (4 + i) x = yd_wr V T gu am pl mi ad wd ln i x := fun x => by
      unfold yd_fr
      rw [if_neg (by omega), Nat.add_sub_cancel_left]
    have rok : yd_rw ns nw (4 + i) := Or.inr ⟨by omega, by omega⟩
    have nx : ((so (pg_w wd (i * 24))).toNatClampNeg = l → yd_wr V T gu am pl mi ad wd ln i a = yd_wr V T gu am pl mi ad wd ln i b) → wY_equivalent_50 post (nI l) (nI a) (nI b) (nI V) (nI T) (nI (T + 1)) (nI N) (nI L) (nI M) (nI nc) (nI ni) (nI ns) (nI nw) st rc bp wy so ta gu am pl mi ad wd ln sp fa le ma n (nI (i + 1)) := fun q => ih (i + 1) (by omega) (by omega) (fun p hp => by
      by_cases w : p = i
      · subst w
        exact q
      · exact hm p (by omega))
    refine And.intro (pk_in (i * 24) 792 (by omega) e0) ?_
    rw [ew]
    refine And.intro (pk_in c 16 (by omega)) ?_
    rw [rd_i (f := so) (x := nI c) rfl (by omega) es]
    refine pk_eq s l (fun q => ?_) (fun q => ?_)
    · rw [ix_4p, ix_4p, nI_clamp (by omega), nI_clamp (by omega), hf _ _ rok ha, hf _ _ rok hb, frv, frv]
      refine And.intro (pk_in ((4 + i) * 64 + a) 2304 (by omega)) (And.intro (pk_in ((4 + i) * 64 + b) 2304 (by omega)) (br_c (fun w => ?_) (fun w => h0 (fun y => w ?_))))
      · exact nm_r (nI_1 i) (nx (fun _ => pg_bI_inj.mp w))
      · exact pg_bI_inj.mpr (y i z (by rw [eq0, es, nI_clamp (by omega)]; exact q))
    · refine nm_r (nI_1 i) (nx (fun w => absurd ?_ q))
      rw [eq0, es, nI_clamp (by omega)] at w
      exact w
theorem yw_equiv {post : Int32 → Prop} {l a b : Nat} (hN : N ≤ 64) (hnc : nc ≤ 16) (hns : ns ≤ 4) (hl : l < 8) (ha : a < N) (hb : b < N) (hW : yd_W nw nc wd ln) (hso : ∀ c, c < nc → ∃ s, s < 8 ∧ so c = nI s)
    (hf : ∀ r a, yd_rw ns nw r → a < N → fa (r * 64 + a) = pg_bI (yd_fr V T gu am pl mi ad wd ln r a)) (h1 : (yd_Q V T ns nw gu am pl mi ad so wd ln) l a b → post 1) (h0 : ¬ (yd_Q V T ns nw gu am pl mi ad so wd ln) l a b → post 0) : wpY_equivalent post (nI V, nI T, nI (T + 1), nI N, nI L, nI M, nI nc, nI ni, nI ns, nI nw, st, rc, bp, wy, so, ta, gu, am, pl, mi, ad, wd, ln, sp, fa, le, ma) (nI l) (nI a) (nI b) := by
  refine Exists.intro (ns + 1) ?_
  suffices H : ∀ n i, ns - i < n → i ≤ ns → (∀ s, s < i → pg_hd (T + 1) am (52 + s) a = pg_hd (T + 1) am (52 + s) b) → wY_equivalent_3 post (nI l) (nI a) (nI b) (nI V) (nI T) (nI (T + 1)) (nI N) (nI L) (nI M) (nI nc) (nI ni) (nI ns) (nI nw) st rc bp wy so ta gu am pl mi ad wd ln sp fa le ma n (nI i) from
    H (ns + 1) 0 (by omega) (by omega) (fun s hs => by omega)
  intro n
  induction n with
  | zero => intro i hn; omega
  | succ n ih =>
    intro i hn hi hm
    refine pk_le ns i (fun z => ?_) (fun z => ?_)
    · refine Exists.intro (nw + 1) (yw_eq50 hN hnc hl ha hb hW hso hf (fun q => h1 ⟨fun s hs => hm s (by omega), q⟩) (fun q => h0 (fun w => q w.2)) (nw + 1) 0 (by omega) (by omega) (fun p hp => by omega))
    · have rok : yd_rw ns nw i := Or.inl z
      have frv : ∀ x, yd_fr V T gu am pl mi ad wd ln i x = pg_hd (T + 1) am (52 + i) x := fun x => if_pos (by omega)
      refine And.intro (pk_in (i * 64 + a) 2304 (by omega) (ix_64 i a)) (And.intro (pk_in (i * 64 + b) 2304 (by omega) (ix_64 i b)) ?_)
      rw [ix_64, ix_64, nI_clamp (by omega), nI_clamp (by omega), hf _ _ rok ha, hf _ _ rok hb, frv, frv]
      refine br_c (fun w => nm_r (nI_1 i) (ih (i + 1) (by omega) (by omega) (fun s hs => ?_))) (fun w => h0 (fun y => w (pg_bI_inj.mpr (y.1 i z))))
      by_cases y : s = i
      · subst y
        exact pg_bI_inj.mp w
      · exact hm s (by omega)
theorem yw_p12 {c : Nat} (hD : yd_D V T N L nc) (hW : ∀ c, c < nc → pg_wc V gu am pl mi c) (hc : c < nc) : ∃ sp' : Nat → Int32, ((∀ a, a < N → sp' (c * 64 + a) = pg_oI ((pg_ex V T gu am pl mi ad) c a)) ∧ ∀ j, (∀ a, a < N → j ≠ c * 64 + a) → sp' j = sp j) ∧
    ∀ (p : (SY → Prop) × (Int32 → (Nat → Int32) → (Nat → Int32) → (Nat → Int32) → (Nat → Int32) → (Nat → Int32) → (Nat → Int32) → (Nat → Int32) → (Nat → Int32) → (Nat → Int32) → (Nat → Int32) → (Nat → Int32) → (Nat → Int32) → (Nat → Int32) → Prop)) n, N < n → p.2 (nI (c + 1)) so ta gu am pl mi ad wd ln sp' fa le ma → wY_prepare_12 p.1 p.2 (nI c) (nI V) (nI T) (nI (T + 1)) (nI N) (nI L) (nI M) (nI nc) (nI ni) (nI ns) (nI nw) st rc bp wy n (nI 0) so ta gu am pl mi ad wd ln sp fa le ma := by
  have hD' := hD
  obtain ⟨hV, hT, hN, hN64, hL, hL0, hnc⟩ := hD
  refine lx_up (κ := (SY → Prop) × (Int32 → (Nat → Int32) → (Nat → Int32) → (Nat → Int32) → (Nat → Int32) → (Nat → Int32) → (Nat → Int32) → (Nat → Int32) → (Nat → Int32) → (Nat → Int32) → (Nat → Int32) → (Nat → Int32) → (Nat → Int32) → (Nat → Int32) → Prop)) (fun p n i sp => wY_prepare_12 p.1 p.2 (nI c) (nI V) (nI T) (nI (T + 1)) (nI N) (nI L) (nI M) (nI nc) (nI ni) (nI ns) (nI nw) st rc bp wy n (nI i) so ta gu am pl mi ad wd ln sp fa le ma) (fun p sp => p.2 (nI (c + 1)) so ta gu am pl mi ad wd ln sp fa le ma) (fun i s => (∀ a, a < i → s (c * 64 + a) = pg_oI ((pg_ex V T gu am pl mi ad) c a)) ∧ ∀ j, (∀ a, a < i → j ≠ c * 64 + a) → s j = sp j) N ?_ ?_ N 0 sp (by omega) ⟨fun a ha => by omega, fun _ _ => rfl⟩
  · exact fun p n s _ hK => br_t (nI_le (Nat.le_refl _) (by omega)) (nm_r (nI_1 c) hK)
  · rintro i s hi ⟨h1, h2⟩
    refine ⟨upd s (c * 64 + i) (pg_oI ((pg_ex V T gu am pl mi ad) c i)), ⟨fun a ha => ?_, fun j hj => ?_⟩, fun p n hp => ?_⟩
    · by_cases w : a = i
      · subst w
        exact pk_us
      · rw [pk_un (by omega)]
        exact h1 a (by omega)
    · rw [pk_un (hj i (by omega))]
      exact h2 j (fun a ha => hj a (by omega))
    · exact br_f (nI_ge hi (by omega)) (yw_exec hD' hc hi (hW c hc) (And.intro (pk_in (c * 64 + i) 1024 (by omega) (ix_64 c i)) (nm_r (wr_i (ix_64 c i) (by omega) rfl) (nm_r (nI_1 i) hp))))
theorem yw_p110 {post : SY → Prop} {J51 J97 : Int32 → (Nat → Int32) → (Nat → Int32) → (Nat → Int32) → (Nat → Int32) → (Nat → Int32) → (Nat → Int32) → (Nat → Int32) → (Nat → Int32) → (Nat → Int32) → (Nat → Int32) → (Nat → Int32) → (Nat → Int32) → (Nat → Int32) → Prop} {a p : Nat} (hD : yd_D V T N L nc) (hW : yd_W nw nc wd ln) (hS : cx_E (pg_ex V T gu am pl mi ad) nc N sp) (ha : a < N) (hp : p < nw)
    (h : J97 (nI (p + 1)) so ta gu am pl mi ad wd ln sp (upd fa ((4 + p) * 64 + a) (pg_bI (yd_wr V T gu am pl mi ad wd ln p a))) le ma) : ∃ n, wY_prepare_110 post J51 J97 (nI a) (nI p) (nI V) (nI T) (nI (T + 1)) (nI N) (nI L) (nI M) (nI nc) (nI ni) (nI ns) (nI nw) st rc bp wy so ta gu am pl mi ad wd ln sp fa le ma n (nI a) 0 := by
  have hB := yd_B (gu := gu) (am := am) (pl := pl) (mi := mi) (ad := ad) hD
  obtain ⟨hV, hT, hN, hN64, hL, hL0, hnc⟩ := hD
  have hw32 := hW.1
  obtain ⟨len, hl1, hl2, el, hc⟩ := hW.2 p hp
  have ew : yd_wr V T gu am pl mi ad wd ln p a = (pg_rn (pg_ex V T gu am pl mi ad) (pg_w wd) len (p * 24) a).isSome := by
    unfold yd_wr
    rw [el, nI_clamp (by omega)]
  rw [ew] at h
  have t0 : ∀ x : Int32, x < 0 → pg_rn (pg_ex V T gu am pl mi ad) (pg_w wd) len (p * 24) a = none → wY_prepare_154 post J51 J97 (nI a) (nI p) x (nI V) (nI T) (nI (T + 1)) (nI N) (nI L) (nI M) (nI nc) (nI ni) (nI ns) (nI nw) st rc bp wy so ta gu am pl mi ad wd ln sp fa le ma := fun x hx q => by
    rw [q] at h
    exact br_t hx (And.intro (pk_in ((4 + p) * 64 + a) 2304 (by omega) (ix_4p p a)) (nm_r (wr_i (ix_4p p a) (by omega) (pg_bI_nar false)) (nm_r (nI_1 p) h)))
  have t1 : ∀ x : Int32, ¬ x < 0 → (pg_rn (pg_ex V T gu am pl mi ad) (pg_w wd) len (p * 24) a).isSome = true → wY_prepare_154 post J51 J97 (nI a) (nI p) x (nI V) (nI T) (nI (T + 1)) (nI N) (nI L) (nI M) (nI nc) (nI ni) (nI ns) (nI nw) st rc bp wy so ta gu am pl mi ad wd ln sp fa le ma := fun x hx q => by
    rw [q] at h
    exact br_f hx (And.intro (pk_in ((4 + p) * 64 + a) 2304 (by omega) (ix_4p p a)) (nm_r (wr_i (ix_4p p a) (by omega) (pg_bI_nar true)) (nm_r (nI_1 p) h)))
  have el' : ln (nI p).toNatClampNeg = nI len := rd_i rfl (by omega) el
  refine ⟨len + 1, ?_⟩
  suffices H : ∀ n i b, len - i < n → i ≤ len → b < N → pg_rn (pg_ex V T gu am pl mi ad) (pg_w wd) (len - i) (p * 24 + i) b = pg_rn (pg_ex V T gu am pl mi ad) (pg_w wd) len (p * 24) a → wY_prepare_110 post J51 J97 (nI a) (nI p) (nI V) (nI T) (nI (T + 1)) (nI N) (nI L) (nI M) (nI nc) (nI ni) (nI ns) (nI nw) st rc bp wy so ta gu am pl mi ad wd ln sp fa le ma n (nI b) (nI i) from
    H (len + 1) 0 a (by omega) (by omega) ha rfl
  intro n
  induction n with
  | zero => intro i b hn; omega
  | succ n ih =>
    intro i b hn hi hb hr
    refine And.intro (pk_in p 33 (by omega)) ?_
    rw [el']
    refine pk_le len i (fun z => ?_) (fun z => br_f (nI_pos (by omega)) ?_)
    · rw [show len - i = 0 by omega, pg_rn] at hr
      exact t1 _ (nI_pos (by omega)) (by rw [← hr]; rfl)
    · obtain ⟨c, hc, ec⟩ := hc i z
      have e1 := ix_24 p i
      have ew : pg_w wd (p * 24 + i) = c := by
        unfold pg_w
        rw [ec, nI_clamp (by omega)]
      refine And.intro (pk_in (p * 24 + i) 792 (by omega) e1) ?_
      rw [rd_i (f := wd) e1 (by omega) ec]
      refine And.intro (pk_in (c * 64 + b) 1024 (by omega) (ix_64 c b)) (nm_r (rd_i (ix_64 c b) (by omega) (hS c b hc hb)) (nm_r (nI_1 i) ?_))
      rw [show len - i = len - (i + 1) + 1 by omega] at hr
      cases q : (pg_ex V T gu am pl mi ad) c b with
      | none =>
        rw [pg_rn_n (by rw [ew]; exact q)] at hr
        obtain ⟨m, rfl⟩ : ∃ m, n = m + 1 := ⟨n - 1, by omega⟩
        have ng : pg_oI none < 0 := by decide
        exact And.intro (pk_in p 33 (by omega)) (br_c (fun _ => t0 _ ng hr.symm) (fun _ => br_t ng (t0 _ ng hr.symm)))
      | some d =>
        rw [pg_rn_s (by rw [ew]; exact q)] at hr
        exact ih (i + 1) d (by omega) (by omega) (hB c b d hc hb q) hr
/-- facts of codes below a, and of code a in rows below k -/
def yd_fa (V T N ns nw : Nat) (gu am pl mi ad wd ln : Nat → Int32) (a0 k : Nat) (fa : Nat → Int32) : Prop :=
  ∀ r a, yd_rw ns nw r → a < N → (a < a0 ∨ a = a0 ∧ r < k) → fa (r * 64 + a) = pg_bI (yd_fr V T gu am pl mi ad wd ln r a)
theorem yd_fa_w {r0 a0 k : Nat} (hN : N ≤ 64) (h : yd_fa V T N ns nw gu am pl mi ad wd ln a0 k fa) (ha : a0 < N) (hk : ∀ r, r < r0 + 1 → yd_rw ns nw r → r < k ∨ r = r0) : yd_fa V T N ns nw gu am pl mi ad wd ln a0 (r0 + 1) (upd fa (r0 * 64 + a0) (pg_bI (yd_fr V T gu am pl mi ad wd ln r0 a0))) := by
  intro r a hr ha2 hq
  by_cases w : r = r0 ∧ a = a0
  · rw [w.1, w.2]
    exact pk_us
  · rw [pk_un (by omega)]
    refine h r a hr ha2 (hq.elim Or.inl (fun q => Or.inr ⟨q.1, ?_⟩))
    rcases hk r q.2 hr with y | y
    · exact y
    · exact absurd ⟨y, q.1⟩ w
theorem yw_p97 {a : Nat} (hD : yd_D V T N L nc) (hW : yd_W nw nc wd ln) (hns : ns ≤ 4) (hS : cx_E (pg_ex V T gu am pl mi ad) nc N sp) (ha : a < N) (hf : yd_fa V T N ns nw gu am pl mi ad wd ln a 4 fa) : ∃ fa' : Nat → Int32, yd_fa V T N ns nw gu am pl mi ad wd ln a (4 + nw) fa' ∧
    ∀ (p : (SY → Prop) × (Int32 → (Nat → Int32) → (Nat → Int32) → (Nat → Int32) → (Nat → Int32) → (Nat → Int32) → (Nat → Int32) → (Nat → Int32) → (Nat → Int32) → (Nat → Int32) → (Nat → Int32) → (Nat → Int32) → (Nat → Int32) → (Nat → Int32) → Prop)) n, nw < n → p.2 (nI (a + 1)) so ta gu am pl mi ad wd ln sp fa' le ma → wY_prepare_97 p.1 p.2 (nI a) (nI V) (nI T) (nI (T + 1)) (nI N) (nI L) (nI M) (nI nc) (nI ni) (nI ns) (nI nw) st rc bp wy n (nI 0) so ta gu am pl mi ad wd ln sp fa le ma := by
  have hw32 := hW.1
  have hN64 := hD.2.2.2.1
  refine lx_up (κ := (SY → Prop) × (Int32 → (Nat → Int32) → (Nat → Int32) → (Nat → Int32) → (Nat → Int32) → (Nat → Int32) → (Nat → Int32) → (Nat → Int32) → (Nat → Int32) → (Nat → Int32) → (Nat → Int32) → (Nat → Int32) → (Nat → Int32) → (Nat → Int32) → Prop)) (fun p n i fa => wY_prepare_97 p.1 p.2 (nI a) (nI V) (nI T) (nI (T + 1)) (nI N) (nI L) (nI M) (nI nc) (nI ni) (nI ns) (nI nw) st rc bp wy n (nI i) so ta gu am pl mi ad wd ln sp fa le ma) (fun p fa => p.2 (nI (a + 1)) so ta gu am pl mi ad wd ln sp fa le ma) (fun i s => yd_fa V T N ns nw gu am pl mi ad wd ln a (4 + i) s) nw ?_ ?_ nw 0 fa (by omega) hf
  · exact fun p n s _ hK => br_t (nI_le (Nat.le_refl _) (by omega)) (nm_r (nI_1 a) hK)
  · intro i s hi h1
    have frv : yd_fr V T gu am pl mi ad wd ln (4 + i) a = yd_wr V T gu am pl mi ad wd ln i a := by
      unfold yd_fr
      rw [if_neg (by omega), Nat.add_sub_cancel_left]
    refine ⟨_, yd_fa_w (r0 := 4 + i) hN64 h1 ha (fun r hr _ => by omega), fun p n hp => br_f (nI_ge hi (by omega)) ?_⟩
    rw [frv] at hp
    exact yw_p110 hD hW hS ha hi hp
theorem yw_p61 {a : Nat} (hD : yd_D V T N L nc) (hW : yd_W nw nc wd ln) (hns : ns ≤ 4) (hws : ∀ s, s < ns → pg_wa V am (52 + s)) (hS : cx_E (pg_ex V T gu am pl mi ad) nc N sp) (ha : a < N) (hf : yd_fa V T N ns nw gu am pl mi ad wd ln a 0 fa) : ∃ fa' : Nat → Int32, yd_fa V T N ns nw gu am pl mi ad wd ln (a + 1) 0 fa' ∧
    ∀ (p : (SY → Prop) × (Int32 → (Nat → Int32) → (Nat → Int32) → (Nat → Int32) → (Nat → Int32) → (Nat → Int32) → (Nat → Int32) → (Nat → Int32) → (Nat → Int32) → (Nat → Int32) → (Nat → Int32) → (Nat → Int32) → (Nat → Int32) → (Nat → Int32) → Prop)), p.2 (nI (a + 1)) so ta gu am pl mi ad wd ln sp fa' le ma → wY_prepare_61 p.1 p.2 (nI a) (nI V) (nI T) (nI (T + 1)) (nI N) (nI L) (nI M) (nI nc) (nI ni) (nI ns) (nI nw) st rc bp wy (ns + 1) (nI 0) so ta gu am pl mi ad wd ln sp fa le ma := by
  have hD' := hD
  obtain ⟨hV, hT, hN, hN64, hL, hL0, hnc⟩ := hD
  have L1 := lx_up (κ := (SY → Prop) × (Int32 → (Nat → Int32) → (Nat → Int32) → (Nat → Int32) → (Nat → Int32) → (Nat → Int32) → (Nat → Int32) → (Nat → Int32) → (Nat → Int32) → (Nat → Int32) → (Nat → Int32) → (Nat → Int32) → (Nat → Int32) → (Nat → Int32) → Prop)) (fun p n i fa => wY_prepare_61 p.1 p.2 (nI a) (nI V) (nI T) (nI (T + 1)) (nI N) (nI L) (nI M) (nI nc) (nI ni) (nI ns) (nI nw) st rc bp wy n (nI i) so ta gu am pl mi ad wd ln sp fa le ma) (fun p fa => ∃ n97, wY_prepare_97 p.1 p.2 (nI a) (nI V) (nI T) (nI (T + 1)) (nI N) (nI L) (nI M) (nI nc) (nI ni) (nI ns) (nI nw) st rc bp wy n97 (nI 0) so ta gu am pl mi ad wd ln sp fa le ma) (fun i s => yd_fa V T N ns nw gu am pl mi ad wd ln a i s) ns
    (fun p n s _ hK => br_t (nI_le (Nat.le_refl _) (by omega)) hK)
    (by
      intro i s hi h1
      have frv : yd_fr V T gu am pl mi ad wd ln i a = pg_hd (T + 1) am (52 + i) a := if_pos (by omega)
      refine ⟨_, yd_fa_w (r0 := i) hN64 h1 ha (fun r hr _ => by omega), fun p n hp => br_f (nI_ge hi (by omega)) ?_⟩
      rw [frv] at hp
      rw [ix_k 52 i (x := 52) rfl]
      exact yw_holds hV hT (by omega) (by omega) (hws i hi) (And.intro (pk_in (i * 64 + a) 2304 (by omega) (ix_64 i a)) (nm_r (wr_i (ix_64 i a) (by omega) (pg_bI_nar _)) (nm_r (nI_1 i) hp)))) ns 0 fa (by omega) hf
  obtain ⟨f1, h1, w1⟩ := L1
  have h1' : yd_fa V T N ns nw gu am pl mi ad wd ln a 4 f1 := fun r x hr hx hq => h1 r x hr hx (hq.elim Or.inl (fun q => Or.inr ⟨q.1, by
    rcases hr with y | y
    · exact y
    · omega⟩))
  obtain ⟨f2, h2, w2⟩ := yw_p97 (so := so) (ta := ta) (le := le) (ma := ma) (M := M) (ni := ni) (st := st) (rc := rc) (bp := bp) (wy := wy) hD' hW hns hS ha h1'
  refine ⟨f2, fun r x hr hx hq => h2 r x hr hx ?_, fun p hp => w1 p (ns + 1) (by omega) ⟨nw + 1, w2 p (nw + 1) (by omega) hp⟩⟩
  by_cases y : x = a
  · refine Or.inr ⟨y, ?_⟩
    rcases hr with z | z
    · omega
    · omega
  · exact Or.inl (by omega)
theorem yw_p222 {l a m : Nat} (hN : N ≤ 64) (hnc : nc ≤ 16) (hns : ns ≤ 4) (hl : l < 8) (ha : a < N) (hW : yd_W nw nc wd ln) (hso : ∀ c, c < nc → ∃ s, s < 8 ∧ so c = nI s)
    (hf : ∀ r a, yd_rw ns nw r → a < N → fa (r * 64 + a) = pg_bI (yd_fr V T gu am pl mi ad wd ln r a)) (hm : m ≤ a) (hq : (yd_Q V T ns nw gu am pl mi ad so wd ln) l a m) (hlow : ∀ j, j < m → ¬ (yd_Q V T ns nw gu am pl mi ad so wd ln) l a j) (hle : le (l * 64 + a) = nI a) :
    ∃ le' : Nat → Int32, (le' (l * 64 + a) = nI m ∧ ∀ j, j ≠ l * 64 + a → le' j = le j) ∧ ∀ (p : (SY → Prop) × (Int32 → (Nat → Int32) → (Nat → Int32) → (Nat → Int32) → (Nat → Int32) → (Nat → Int32) → (Nat → Int32) → (Nat → Int32) → (Nat → Int32) → (Nat → Int32) → (Nat → Int32) → (Nat → Int32) → (Nat → Int32) → (Nat → Int32) → Prop) × (Int32 → (Nat → Int32) → (Nat → Int32) → (Nat → Int32) → (Nat → Int32) → (Nat → Int32) → (Nat → Int32) → (Nat → Int32) → (Nat → Int32) → (Nat → Int32) → (Nat → Int32) → (Nat → Int32) → (Nat → Int32) → (Nat → Int32) → Prop)), p.2.2 (nI (a + 1)) so ta gu am pl mi ad wd ln sp fa le' ma → wY_prepare_222 p.1 p.2.1 p.2.2 (nI l) (nI a) (nI V) (nI T) (nI (T + 1)) (nI N) (nI L) (nI M) (nI nc) (nI ni) (nI ns) (nI nw) st rc bp wy (a + 2) (nI 0) so ta gu am pl mi ad wd ln sp fa le ma := by
  have ei := ix_64 l a
  have vi : vp_in (nI l * 64 + nI a) 512 := pk_in (l * 64 + a) 512 (by omega) ei
  have el : le (nI l * 64 + nI a).toNatClampNeg = nI a := rd_i ei (by omega) hle
  -- up to m nothing is equivalent
  have key : ∀ (p : (SY → Prop) × (Int32 → (Nat → Int32) → (Nat → Int32) → (Nat → Int32) → (Nat → Int32) → (Nat → Int32) → (Nat → Int32) → (Nat → Int32) → (Nat → Int32) → (Nat → Int32) → (Nat → Int32) → (Nat → Int32) → (Nat → Int32) → (Nat → Int32) → Prop) × (Int32 → (Nat → Int32) → (Nat → Int32) → (Nat → Int32) → (Nat → Int32) → (Nat → Int32) → (Nat → Int32) → (Nat → Int32) → (Nat → Int32) → (Nat → Int32) → (Nat → Int32) → (Nat → Int32) → (Nat → Int32) → (Nat → Int32) → Prop)) n, wY_prepare_222 p.1 p.2.1 p.2.2 (nI l) (nI a) (nI V) (nI T) (nI (T + 1)) (nI N) (nI L) (nI M) (nI nc) (nI ni) (nI ns) (nI nw) st rc bp wy n (nI m) so ta gu am pl mi ad wd ln sp fa le ma → ∀ d i, i + d = m → wY_prepare_222 p.1 p.2.1 p.2.2 (nI l) (nI a) (nI V) (nI T) (nI (T + 1)) (nI N) (nI L) (nI M) (nI nc) (nI ni) (nI ns) (nI nw) st rc bp wy (n + d) (nI i) so ta gu am pl mi ad wd ln sp fa le ma := by
    intro p n hp d
    induction d with
    | zero =>
      intro i hi
      rw [show i = m by omega]
      exact hp
    | succ d ih =>
      intro i hi
      rw [← Nat.add_assoc]
      refine br_f (nI_ge (show i < a by omega) (by omega)) (And.intro vi (br_t el ?_))
      refine yw_equiv hN hnc hns hl ha (by omega) hW hso hf (fun q => absurd q (hlow i (by omega))) (fun q => br_t rfl (nm_r (nI_1 i) (ih (i + 1) (by omega))))
  rcases Nat.lt_or_ge m a with z | z
  · refine ⟨upd le (l * 64 + a) (nI m), ⟨pk_us, fun j hj => pk_un hj⟩, fun p hp => ?_⟩
    rw [show a + 2 = (a + 2 - m) + m by omega]
    refine key p (a + 2 - m) ?_ m 0 (by omega)
    obtain ⟨k, hk⟩ : ∃ k, a + 2 - m = k + 1 + 1 := ⟨a - m, by omega⟩
    rw [hk]
    refine br_f (nI_ge z (by omega)) (And.intro vi (br_t el ?_))
    refine yw_equiv hN hnc hns hl ha (by omega) hW hso hf (fun q => br_f (by decide) (And.intro vi (nm_r (wr_i ei (by omega) rfl) (nm_r (nI_1 m) ?_)))) (fun q => absurd hq q)
    refine br_c (fun _ => nm_r (nI_1 a) hp) (fun _ => And.intro vi (br_f (fun q => ?_) (nm_r (nI_1 a) hp)))
    rw [rd_i (f := upd le (l * 64 + a) (nI m)) ei (by omega) pk_us, nI_eq (by omega) (by omega)] at q
    omega
  · have : m = a := by omega
    subst this
    refine ⟨le, ⟨hle, fun _ _ => rfl⟩, fun p hp => ?_⟩
    rw [show m + 2 = 2 + m by omega]
    refine key p 2 ?_ m 0 (by omega)
    exact br_t (nI_le (Nat.le_refl _) (by omega)) (nm_r (nI_1 m) hp)
/-- the least equivalents -/
def yd_le (Q : Nat → Nat → Nat → Prop) (N l a0 : Nat) (le : Nat → Int32) : Prop := ∀ a, a < a0 → a < N → ∃ m, m ≤ a ∧ le (l * 64 + a) = nI m ∧ Q l a m ∧ ∀ j, j < m → ¬ Q l a j
theorem yw_p200 {l : Nat} (hN : N ≤ 64) (hnc : nc ≤ 16) (hns : ns ≤ 4) (hl : l < 8) (hW : yd_W nw nc wd ln) (hso : ∀ c, c < nc → ∃ s, s < 8 ∧ so c = nI s)
    (hf : ∀ r a, yd_rw ns nw r → a < N → fa (r * 64 + a) = pg_bI (yd_fr V T gu am pl mi ad wd ln r a)) :
    ∃ le' : Nat → Int32, (yd_le (yd_Q V T ns nw gu am pl mi ad so wd ln) N l N le' ∧ ∀ j, (∀ a, a < N → j ≠ l * 64 + a) → le' j = le j) ∧ ∀ (p : (SY → Prop) × (Int32 → (Nat → Int32) → (Nat → Int32) → (Nat → Int32) → (Nat → Int32) → (Nat → Int32) → (Nat → Int32) → (Nat → Int32) → (Nat → Int32) → (Nat → Int32) → (Nat → Int32) → (Nat → Int32) → (Nat → Int32) → (Nat → Int32) → Prop)) n, N < n → p.2 (nI (l + 1)) so ta gu am pl mi ad wd ln sp fa le' ma → wY_prepare_200 p.1 p.2 (nI l) (nI V) (nI T) (nI (T + 1)) (nI N) (nI L) (nI M) (nI nc) (nI ni) (nI ns) (nI nw) st rc bp wy n (nI 0) so ta gu am pl mi ad wd ln sp fa le ma := by
  refine lx_up (κ := (SY → Prop) × (Int32 → (Nat → Int32) → (Nat → Int32) → (Nat → Int32) → (Nat → Int32) → (Nat → Int32) → (Nat → Int32) → (Nat → Int32) → (Nat → Int32) → (Nat → Int32) → (Nat → Int32) → (Nat → Int32) → (Nat → Int32) → (Nat → Int32) → Prop)) (fun p n i le => wY_prepare_200 p.1 p.2 (nI l) (nI V) (nI T) (nI (T + 1)) (nI N) (nI L) (nI M) (nI nc) (nI ni) (nI ns) (nI nw) st rc bp wy n (nI i) so ta gu am pl mi ad wd ln sp fa le ma) (fun p le => p.2 (nI (l + 1)) so ta gu am pl mi ad wd ln sp fa le ma) (fun i s => yd_le (yd_Q V T ns nw gu am pl mi ad so wd ln) N l i s ∧ ∀ j, (∀ a, a < i → j ≠ l * 64 + a) → s j = le j) N ?_ ?_ N 0 le (by omega) ⟨fun a ha => by omega, fun _ _ => rfl⟩
  · exact fun p n s _ hK => br_t (nI_le (Nat.le_refl _) (by omega)) (nm_r (nI_1 l) hK)
  · rintro i s hi ⟨h1, h2⟩
    obtain ⟨m, hq, hlow⟩ := pk_least ((yd_Q V T ns nw gu am pl mi ad so wd ln) l i) ⟨i, yd_Qe.1 l i⟩
    have hm : m ≤ i := by
      rcases Nat.lt_or_ge i m with w | w
      · exact absurd (yd_Qe.1 l i) (hlow i w)
      · exact w
    obtain ⟨s', ⟨h3, h4⟩, w⟩ := yw_p222 (le := upd s (l * 64 + i) (nI i)) (V := V) (T := T) (L := L) (M := M) (ni := ni) (st := st) (rc := rc) (bp := bp) (wy := wy) (ta := ta) (sp := sp) (ma := ma) hN hnc hns hl hi hW hso hf hm hq hlow pk_us
    refine ⟨s', ⟨fun a ha haN => ?_, fun j hj => ?_⟩, fun p n hp => br_f (nI_ge hi (by omega)) (And.intro (pk_in (l * 64 + i) 512 (by omega) (ix_64 l i)) (nm_r (wr_i (ix_64 l i) (by omega) rfl) (Exists.intro (i + 2) ?_)))⟩
    · by_cases y : a = i
      · subst y
        exact ⟨m, hm, h3, hq, hlow⟩
      · rw [h4 _ (by omega), pk_un (by omega)]
        exact h1 a (by omega) haN
    · rw [h4 _ (hj i (by omega)), pk_un (hj i (by omega))]
      exact h2 j (fun a ha => hj a (by omega))
    · exact w (p.1, p.2, _) hp
theorem yw_prepare (hD : yd_D V T N L nc) (hWc : ∀ c, c < nc → pg_wc V gu am pl mi c) (hW : yd_W nw nc wd ln) (hns : ns ≤ 4) (hws : ∀ s, s < ns → pg_wa V am (52 + s)) (hso : ∀ c, c < nc → ∃ s, s < 8 ∧ so c = nI s) :
    ∃ sp' fa' le' : Nat → Int32, cx_E (pg_ex V T gu am pl mi ad) nc N sp' ∧ (∀ l, l < L → yd_le (yd_Q V T ns nw gu am pl mi ad so wd ln) N l N le') ∧ ∀ post : SY → Prop, post (nI V, nI T, nI (T + 1), nI N, nI L, nI M, nI nc, nI ni, nI ns, nI nw, st, rc, bp, wy, so, ta, gu, am, pl, mi, ad, wd, ln, sp', fa', le', ma) → wpY_prepare post (nI V, nI T, nI (T + 1), nI N, nI L, nI M, nI nc, nI ni, nI ns, nI nw, st, rc, bp, wy, so, ta, gu, am, pl, mi, ad, wd, ln, sp, fa, le, ma) := by
  have hD' := hD
  obtain ⟨hV, hT, hN, hN64, hL, hL0, hnc⟩ := hD
  have A1 := lx_up (κ := SY → Prop) (fun p n i sp => wY_prepare_2 p (nI V) (nI T) (nI (T + 1)) (nI N) (nI L) (nI M) (nI nc) (nI ni) (nI ns) (nI nw) st rc bp wy n (nI i) so ta gu am pl mi ad wd ln sp fa le ma) (fun p sp => ∃ n51, wY_prepare_51 p (nI V) (nI T) (nI (T + 1)) (nI N) (nI L) (nI M) (nI nc) (nI ni) (nI ns) (nI nw) st rc bp wy n51 (nI 0) so ta gu am pl mi ad wd ln sp fa le ma) (fun i s => ∀ c a, c < i → a < N → s (c * 64 + a) = pg_oI ((pg_ex V T gu am pl mi ad) c a)) nc
    (fun p n s _ hK => br_t (nI_le (Nat.le_refl _) (by omega)) hK)
    (by
      intro i s hi h1
      obtain ⟨s', ⟨h2, h3⟩, w⟩ := yw_p12 (sp := s) (so := so) (ta := ta) (wd := wd) (ln := ln) (fa := fa) (le := le) (ma := ma) (M := M) (ni := ni) (ns := ns) (nw := nw) (st := st) (rc := rc) (bp := bp) (wy := wy) hD' hWc hi
      refine ⟨s', fun c a hc ha => ?_, fun p n hp => br_f (nI_ge hi (by omega)) (Exists.intro (N + 1) (w (p, _) (N + 1) (by omega) hp))⟩
      by_cases y : c = i
      · subst y
        exact h2 a ha
      · rw [h3 _ (fun x hx => by omega)]
        exact h1 c a (by omega) ha) nc 0 sp (by omega) (fun c a hc => by omega)
  obtain ⟨s1, h1, w1⟩ := A1
  have A2 := lx_up (κ := SY → Prop) (fun p n i fa => wY_prepare_51 p (nI V) (nI T) (nI (T + 1)) (nI N) (nI L) (nI M) (nI nc) (nI ni) (nI ns) (nI nw) st rc bp wy n (nI i) so ta gu am pl mi ad wd ln s1 fa le ma) (fun p fa => ∃ n190, wY_prepare_190 p (nI V) (nI T) (nI (T + 1)) (nI N) (nI L) (nI M) (nI nc) (nI ni) (nI ns) (nI nw) st rc bp wy n190 (nI 0) so ta gu am pl mi ad wd ln s1 fa le ma) (fun i s => yd_fa V T N ns nw gu am pl mi ad wd ln i 0 s) N
    (fun p n s _ hK => br_t (nI_le (Nat.le_refl _) (by omega)) hK)
    (by
      intro i s hi h2
      obtain ⟨s', h3, w⟩ := yw_p61 (fa := s) (so := so) (ta := ta) (le := le) (ma := ma) (M := M) (ni := ni) (st := st) (rc := rc) (bp := bp) (wy := wy) hD' hW hns hws h1 hi h2
      exact ⟨s', h3, fun p n hp => br_f (nI_ge hi (by omega)) (Exists.intro (ns + 1) (w (p, _) hp))⟩) N 0 fa (by omega) (fun r a _ _ hq => by omega)
  obtain ⟨f1, h2, w2⟩ := A2
  have hf : ∀ r a, yd_rw ns nw r → a < N → f1 (r * 64 + a) = pg_bI (yd_fr V T gu am pl mi ad wd ln r a) := fun r a hr ha => h2 r a hr ha (Or.inl ha)
  have A3 := lx_up (κ := SY → Prop) (fun p n i le => wY_prepare_190 p (nI V) (nI T) (nI (T + 1)) (nI N) (nI L) (nI M) (nI nc) (nI ni) (nI ns) (nI nw) st rc bp wy n (nI i) so ta gu am pl mi ad wd ln s1 f1 le ma) (fun p le => p (nI V, nI T, nI (T + 1), nI N, nI L, nI M, nI nc, nI ni, nI ns, nI nw, st, rc, bp, wy, so, ta, gu, am, pl, mi, ad, wd, ln, s1, f1, le, ma)) (fun i s => ∀ l, l < i → yd_le (yd_Q V T ns nw gu am pl mi ad so wd ln) N l N s) L
    (fun p n s _ hK => br_t (nI_le (Nat.le_refl _) (by omega)) hK)
    (by
      intro i s hi h3
      obtain ⟨s', ⟨h4, h5⟩, w⟩ := yw_p200 (le := s) (l := i) (V := V) (T := T) (L := L) (M := M) (ni := ni) (st := st) (rc := rc) (bp := bp) (wy := wy) (ta := ta) (sp := s1) (ma := ma) hN64 hnc hns (by omega) hW hso hf
      refine ⟨s', fun l hl a ha haN => ?_, fun p n hp => br_f (nI_ge hi (by omega)) (Exists.intro (N + 1) (w (p, _) (N + 1) (by omega) hp))⟩
      by_cases y : l = i
      · subst y
        exact h4 a ha haN
      · rw [h5 _ (fun x hx => by omega)]
        exact h3 l (by omega) a ha haN) L 0 le (by omega) (fun l hl => by omega)
  obtain ⟨l1, h3, w3⟩ := A3
  exact ⟨s1, f1, l1, h1, h3, fun p hp => Exists.intro (nc + 1) (w1 p (nc + 1) (by omega) ⟨N + 1, w2 p (N + 1) (by omega) ⟨L + 1, w3 p (L + 1) (by omega) hp⟩⟩)⟩
/-- equal least codes: equivalent -/
theorem yd_le_iff {Q : Nat → Nat → Nat → Prop} (hQ : pg_eqv Q) {N l : Nat} {le : Nat → Int32} (hN : N ≤ 64) (h : yd_le Q N l N le) {a b : Nat} (ha : a < N) (hb : b < N) : le (l * 64 + a) = le (l * 64 + b) ↔ Q l a b := by
  obtain ⟨m, m1, m2, m3, m4⟩ := h a ha ha
  obtain ⟨k, k1, k2, k3, k4⟩ := h b hb hb
  rw [m2, k2, nI_eq (by omega) (by omega)]
  constructor
  · intro e
    subst e
    exact hQ.2.2 _ _ _ _ m3 (hQ.2.1 _ _ _ k3)
  · intro q
    have x1 : ¬ k < m := fun w => m4 k w (hQ.2.2 _ _ _ _ q k3)
    have x2 : ¬ m < k := fun w => k4 m w (hQ.2.2 _ _ _ _ (hQ.2.1 _ _ _ q) m3)
    omega
end
end
section
/-! the reference: spread, explore -/
def ym_M (ma : Nat → Int32) (G : Nat → Nat → Prop) : Prop := ∀ r x, r < 233 → x < 64 → (¬ ma (r * 64 + x) = 0 ↔ G r x)
theorem ym_cg {ma : Nat → Int32} {G G' : Nat → Nat → Prop} (h : ym_M ma G) (e : ∀ r x, r < 233 → x < 64 → (G r x ↔ G' r x)) : ym_M ma G' := fun r x hr hx => (h r x hr hx).trans (e r x hr hx)
theorem ym_set {ma : Nat → Int32} {G : Nat → Nat → Prop} (h : ym_M ma G) {row i : Nat} (hi : i < 64) : ym_M (upd ma (row * 64 + i) 1) (fun r x => G r x ∨ r = row ∧ x = i) := by
  intro r x hr hx
  by_cases w : r = row ∧ x = i
  · rw [w.1, w.2, pk_us]
    exact ⟨fun _ => Or.inr ⟨rfl, rfl⟩, fun _ => by decide⟩
  · rw [pk_un (by omega), h r x hr hx]
    exact ⟨Or.inl, fun q => q.elim id (fun y => absurd y w)⟩
theorem ym_0 {ma : Nat → Int32} {G : Nat → Nat → Prop} (h : ym_M ma G) {r x : Nat} (hr : r < 233) (hx : x < 64) : ma (r * 64 + x) = 0 ↔ ¬ G r x := by
  rw [← h r x hr hx]
  exact ⟨fun q w => w q, fun q => Classical.not_not.mp q⟩
theorem ym_n1 : vp_nar .boolean 1 = 1 := pg_bI_nar true
theorem ym_n0 : vp_nar .boolean 0 = 0 := pg_bI_nar false
section
variable {V T N L M nc ni ns nw : Nat} {st rc bp wy : Int32} {so ta gu am pl mi ad wd ln sp fa le ma : Nat → Int32} {e : Nat → Nat → Option Nat} {Q : Nat → Nat → Nat → Prop} {src tgt : Nat → Nat} {ini : Nat → Prop}
theorem yw_spread {row l a : Nat} {G : Nat → Nat → Prop} (hN : N ≤ 64) (hL : L ≤ 8) (hrow : row < 233) (hl : l < L) (ha : a < N) (hQ : pg_eqv Q) (hle : ∀ l, l < L → yd_le Q N l N le) (hM : ym_M ma G) :
    ∃ ma' : Nat → Int32, ym_M ma' (fun r x => G r x ∨ r = row ∧ x < N ∧ Q l a x) ∧ ∀ post : SY → Prop, post (nI V, nI T, nI (T + 1), nI N, nI L, nI M, nI nc, nI ni, nI ns, nI nw, st, rc, bp, wy, so, ta, gu, am, pl, mi, ad, wd, ln, sp, fa, le, ma') → wpY_spread post (nI V, nI T, nI (T + 1), nI N, nI L, nI M, nI nc, nI ni, nI ns, nI nw, st, rc, bp, wy, so, ta, gu, am, pl, mi, ad, wd, ln, sp, fa, le, ma) (nI row) (nI l) (nI a) := by
  have A := lx_up (κ := SY → Prop) (fun p n i ma => wY_spread_3 p (nI row) (nI l) (nI a) (nI V) (nI T) (nI (T + 1)) (nI N) (nI L) (nI M) (nI nc) (nI ni) (nI ns) (nI nw) st rc bp wy n (nI i) so ta gu am pl mi ad wd ln sp fa le ma) (fun p ma => p (nI V, nI T, nI (T + 1), nI N, nI L, nI M, nI nc, nI ni, nI ns, nI nw, st, rc, bp, wy, so, ta, gu, am, pl, mi, ad, wd, ln, sp, fa, le, ma)) (fun i s => ym_M s (fun r x => G r x ∨ r = row ∧ x < i ∧ Q l a x)) N
    (fun p n s _ hK => br_t (nI_le (Nat.le_refl _) (by omega)) hK)
    (by
      intro i s hi h1
      have v1 : vp_in (nI l * 64 + nI i) 512 := pk_in (l * 64 + i) 512 (by omega) (ix_64 l i)
      have v2 : vp_in (nI l * 64 + nI a) 512 := pk_in (l * 64 + a) 512 (by omega) (ix_64 l a)
      have c1 : (nI l * 64 + nI i).toNatClampNeg = l * 64 + i := pk_cl (l * 64 + i) (ix_64 l i)
      have c2 : (nI l * 64 + nI a).toNatClampNeg = l * 64 + a := pk_cl (l * 64 + a) (ix_64 l a)
      have iff1 : le (nI l * 64 + nI i).toNatClampNeg = le (nI l * 64 + nI a).toNatClampNeg ↔ Q l a i := by
        rw [c1, c2, yd_le_iff hQ hN (hle l hl) hi ha]
        exact ⟨hQ.2.1 _ _ _, hQ.2.1 _ _ _⟩
      by_cases q : Q l a i
      · refine ⟨upd s (row * 64 + i) 1, ym_cg (ym_set h1 (by omega)) (fun r x _ _ => ?_), fun p n hp => br_f (nI_ge hi (by omega)) (And.intro v1 (And.intro v2 (br_t (iff1.mpr q) (And.intro (pk_in (row * 64 + i) 14912 (by omega) (ix_64 row i)) (nm_r (wr_i (ix_64 row i) (by omega) ym_n1) (nm_r (nI_1 i) hp))))))⟩
        constructor
        · rintro ((y | ⟨y1, y2, y3⟩) | ⟨y1, y2⟩)
          · exact Or.inl y
          · exact Or.inr ⟨y1, by omega, y3⟩
          · exact Or.inr ⟨y1, by omega, by rw [y2]; exact q⟩
        · rintro (y | ⟨y1, y2, y3⟩)
          · exact Or.inl (Or.inl y)
          · by_cases w : x = i
            · exact Or.inr ⟨y1, w⟩
            · exact Or.inl (Or.inr ⟨y1, by omega, y3⟩)
      · refine ⟨s, ym_cg h1 (fun r x _ _ => ?_), fun p n hp => br_f (nI_ge hi (by omega)) (And.intro v1 (And.intro v2 (br_f (fun w => q (iff1.mp w)) (nm_r (nI_1 i) hp))))⟩
        constructor
        · rintro (y | ⟨y1, y2, y3⟩)
          · exact Or.inl y
          · exact Or.inr ⟨y1, by omega, y3⟩
        · rintro (y | ⟨y1, y2, y3⟩)
          · exact Or.inl y
          · have : x ≠ i := fun w => q (w ▸ y3)
            exact Or.inr ⟨y1, by omega, y3⟩) N 0 ma (by omega) (ym_cg hM (fun r x _ _ => ⟨Or.inl, fun q => q.elim id (fun y => by omega)⟩))
  obtain ⟨s', h1, w1⟩ := A
  exact ⟨s', h1, fun p hp => Exists.intro (N + 1) (w1 p (N + 1) (by omega) hp)⟩
def ys_P (L N : Nat) (G : Nat → Nat → Prop) : Nat → Nat → Prop := fun l a => l < L ∧ a < N ∧ G l a
def ys_I (e : Nat → Nat → Option Nat) (Q : Nat → Nat → Nat → Prop) (N nc L : Nat) (src tgt : Nat → Nat) (ini : Nat → Prop) (G0 G : Nat → Nat → Prop) : Prop :=
  (∀ l a, l < L → a < N → G l a → pg_RR e Q N nc src tgt ini l a) ∧ (∀ a b, a < N → b < N → ini a → Q 0 a b → G 0 b) ∧ (∀ l a b, l < L → a < N → b < N → G l a → Q l a b → G l b) ∧ ∀ r x, 8 ≤ r → (G r x ↔ G0 r x)
def ys_K (e : Nat → Nat → Option Nat) (N nc L : Nat) (src tgt : Nat → Nat) (k : Nat) (x : Int32) (G : Nat → Nat → Prop) (Pd : Nat → Nat → Prop) : Prop :=
  k ≤ cn_n (cn_pr (ys_P L N G)) 512 ∧ ((x = 0 ∧ ∀ c a b, Pd c a → c < nc → a < N → G (src c) a → e c a = some b → G (tgt c) b) ∨ (x = 1 ∧ k + 1 ≤ cn_n (cn_pr (ys_P L N G)) 512))
theorem ys_K_sk {k c i : Nat} {x : Int32} {G : Nat → Nat → Prop} (h : ys_K e N nc L src tgt k x G (fun c' a' => c' < c ∨ c' = c ∧ a' < i)) (hq : ∀ b, G (src c) i → e c i = some b → G (tgt c) b) : ys_K e N nc L src tgt k x G (fun c' a' => c' < c ∨ c' = c ∧ a' < i + 1) := by
  refine ⟨h.1, h.2.elim (fun w => Or.inl ⟨w.1, fun c' a' b hp hc ha hg he => ?_⟩) Or.inr⟩
  by_cases y : c' = c ∧ a' = i
  · rw [y.1] at he hg ⊢
    rw [y.2] at he hg
    exact hq b hg he
  · exact w.2 c' a' b (by omega) hc ha hg he
theorem yw_ex96 {k c : Nat} {G0 : Nat → Nat → Prop} (hN : N ≤ 64) (hL : L ≤ 8) (hnc : nc ≤ 16) (hE : cx_E e nc N sp) (hB : cx_B e nc N) (hQ : pg_eqv Q) (hT : cx_T so ta src tgt nc L) (hle : ∀ l, l < L → yd_le Q N l N le) (hc : c < nc) (s : Int32 × (Nat → Int32))
    (hI : ∃ G, ym_M s.2 G ∧ ys_I e Q N nc L src tgt ini G0 G ∧ ys_K e N nc L src tgt k s.1 G (fun c' a' => c' < c ∨ c' = c ∧ a' < 0)) :
    ∃ s' : Int32 × (Nat → Int32), (∃ G, ym_M s'.2 G ∧ ys_I e Q N nc L src tgt ini G0 G ∧ ys_K e N nc L src tgt k s'.1 G (fun c' a' => c' < c ∨ c' = c ∧ a' < N)) ∧
      ∀ (p : (SY → Prop) × (Int32 → Int32 → Int32 → Int32 → Int32 → Int32 → Int32 → Int32 → Int32 → Int32 → Int32 → Int32 → Int32 → Int32 → Int32 → Int32 → (Nat → Int32) → (Nat → Int32) → (Nat → Int32) → (Nat → Int32) → (Nat → Int32) → (Nat → Int32) → (Nat → Int32) → (Nat → Int32) → (Nat → Int32) → (Nat → Int32) → (Nat → Int32) → (Nat → Int32) → (Nat → Int32) → Prop) × (Int32 → Int32 → Int32 → Int32 → Int32 → Int32 → Int32 → Int32 → Int32 → Int32 → Int32 → Int32 → Int32 → Int32 → Int32 → Int32 → (Nat → Int32) → (Nat → Int32) → (Nat → Int32) → (Nat → Int32) → (Nat → Int32) → (Nat → Int32) → (Nat → Int32) → (Nat → Int32) → (Nat → Int32) → (Nat → Int32) → (Nat → Int32) → (Nat → Int32) → (Nat → Int32) → Prop)) n, N < n → p.2.2 s'.1 (nI (c + 1)) (nI V) (nI T) (nI (T + 1)) (nI N) (nI L) (nI M) (nI nc) (nI ni) (nI ns) (nI nw) st rc bp wy so ta gu am pl mi ad wd ln sp fa le s'.2 → wY_explore_96 p.1 p.2.1 p.2.2 (nI k) (nI c) n s.1 (nI 0) (nI V) (nI T) (nI (T + 1)) (nI N) (nI L) (nI M) (nI nc) (nI ni) (nI ns) (nI nw) st rc bp wy so ta gu am pl mi ad wd ln sp fa le s.2 := by
  obtain ⟨t1, t2, t3, t4⟩ := hT c hc
  refine lx_up (κ := (SY → Prop) × (Int32 → Int32 → Int32 → Int32 → Int32 → Int32 → Int32 → Int32 → Int32 → Int32 → Int32 → Int32 → Int32 → Int32 → Int32 → Int32 → (Nat → Int32) → (Nat → Int32) → (Nat → Int32) → (Nat → Int32) → (Nat → Int32) → (Nat → Int32) → (Nat → Int32) → (Nat → Int32) → (Nat → Int32) → (Nat → Int32) → (Nat → Int32) → (Nat → Int32) → (Nat → Int32) → Prop) × (Int32 → Int32 → Int32 → Int32 → Int32 → Int32 → Int32 → Int32 → Int32 → Int32 → Int32 → Int32 → Int32 → Int32 → Int32 → Int32 → (Nat → Int32) → (Nat → Int32) → (Nat → Int32) → (Nat → Int32) → (Nat → Int32) → (Nat → Int32) → (Nat → Int32) → (Nat → Int32) → (Nat → Int32) → (Nat → Int32) → (Nat → Int32) → (Nat → Int32) → (Nat → Int32) → Prop)) (σ := Int32 × (Nat → Int32)) (fun p n i s => wY_explore_96 p.1 p.2.1 p.2.2 (nI k) (nI c) n s.1 (nI i) (nI V) (nI T) (nI (T + 1)) (nI N) (nI L) (nI M) (nI nc) (nI ni) (nI ns) (nI nw) st rc bp wy so ta gu am pl mi ad wd ln sp fa le s.2) (fun p s => p.2.2 s.1 (nI (c + 1)) (nI V) (nI T) (nI (T + 1)) (nI N) (nI L) (nI M) (nI nc) (nI ni) (nI ns) (nI nw) st rc bp wy so ta gu am pl mi ad wd ln sp fa le s.2)
    (fun i s => ∃ G, ym_M s.2 G ∧ ys_I e Q N nc L src tgt ini G0 G ∧ ys_K e N nc L src tgt k s.1 G (fun c' a' => c' < c ∨ c' = c ∧ a' < i)) N
    (fun p n s _ hK => br_t (nI_le (Nat.le_refl _) (by omega)) (nm_r (nI_1 c) hK)) ?_ N 0 s (by omega) hI
  rintro i s hi ⟨G, h1, h2, h3⟩
  have ec : (nI c).toNatClampNeg = c := nI_clamp (by omega)
  have es : so (nI c).toNatClampNeg = nI (src c) := rd_i rfl (by omega) t1
  have et : ta (nI c).toNatClampNeg = nI (tgt c) := rd_i rfl (by omega) t3
  have v1 : vp_in (nI c) 16 := pk_in c 16 (by omega)
  have v2 : vp_in (so (nI c).toNatClampNeg * 64 + nI i) 14912 := by
    rw [es]
    exact pk_in (src c * 64 + i) 14912 (by omega) (ix_64 _ _)
  have m1 : s.2 (so (nI c).toNatClampNeg * 64 + nI i).toNatClampNeg = 0 ↔ ¬ G (src c) i := by
    rw [es, ix_64, nI_clamp (by omega)]
    exact ym_0 h1 (by omega) (by omega)
  have v0 : vp_in (nI c * 64 + nI i) 1024 := pk_in (c * 64 + i) 1024 (by omega) (ix_64 c i)
  have ev : sp (nI c * 64 + nI i).toNatClampNeg = pg_oI (e c i) := rd_i (ix_64 c i) (by omega) (hE c i hc hi)
  by_cases q1 : G (src c) i
  · cases q2 : e c i with
    | none =>
      rw [q2] at ev
      have ng : pg_oI none < 0 := by decide
      exact ⟨s, ⟨G, h1, h2, ys_K_sk h3 (fun b _ w => by rw [q2] at w; exact absurd w (by simp))⟩, fun p n hp => br_f (nI_ge hi (by omega)) (And.intro v0 (nm_r ev (And.intro v1 (And.intro v2 (br_f (fun w => m1.mp w q1) (br_t ng (nm_r (nI_1 i) hp)))))))⟩
    | some b =>
      rw [q2] at ev
      have hb := hB c i b hc hi q2
      have v3 : vp_in (ta (nI c).toNatClampNeg * 64 + pg_oI (some b)) 14912 := by
        rw [et]
        exact pk_in (tgt c * 64 + b) 14912 (by omega) (ix_64 _ _)
      have m3 : s.2 (ta (nI c).toNatClampNeg * 64 + pg_oI (some b)).toNatClampNeg = 0 ↔ ¬ G (tgt c) b := by
        rw [et, show pg_oI (some b) = nI b from rfl, ix_64, nI_clamp (by omega)]
        exact ym_0 h1 (by omega) (by omega)
      have nb : ¬ pg_oI (some b) < 0 := nI_pos (show b < 2 ^ 31 by omega)
      by_cases q3 : G (tgt c) b
      · exact ⟨s, ⟨G, h1, h2, ys_K_sk h3 (fun d _ w => by rw [q2] at w; cases w; exact q3)⟩, fun p n hp => br_f (nI_ge hi (by omega)) (And.intro v0 (nm_r ev (And.intro v1 (And.intro v2 (br_f (fun w => m1.mp w q1) (br_f nb (And.intro v1 (And.intro v3 (br_f (fun w => m3.mp w q3) (nm_r (nI_1 i) hp))))))))))⟩
      · obtain ⟨s', h4, w⟩ := yw_spread (ma := s.2) (V := V) (T := T) (M := M) (nc := nc) (ni := ni) (ns := ns) (nw := nw) (st := st) (rc := rc) (bp := bp) (wy := wy) (so := so) (ta := ta) (gu := gu) (am := am) (pl := pl) (mi := mi) (ad := ad) (wd := wd) (ln := ln) (sp := sp) (fa := fa) (row := tgt c) (l := tgt c) (a := b) hN hL (by omega) t4 hb hQ hle h1
        refine ⟨(1, s'), ⟨_, h4, ⟨?_, ?_, ?_, ?_⟩, ?_, Or.inr ⟨rfl, ?_⟩⟩, fun p n hp => br_f (nI_ge hi (by omega)) (And.intro v0 (nm_r ev (And.intro v1 (And.intro v2 (br_f (fun w => m1.mp w q1) (br_f nb (And.intro v1 (And.intro v3 (br_t (m3.mpr q3) (And.intro v1 (And.intro v1 ?_)))))))))))⟩
        · rintro l a hl ha (y | ⟨y1, y2, y3⟩)
          · exact h2.1 l a hl ha y
          · rw [y1]
            exact (pg_RR_cd e Q N nc src tgt ini).2 c i b a hc hi ha (h2.1 _ _ t2 hi q1) q2 y3
        · exact fun a b ha hb hi hq => Or.inl (h2.2.1 a b ha hb hi hq)
        · rintro l a d hl ha hd (y | ⟨y1, y2, y3⟩) hq
          · exact Or.inl (h2.2.2.1 l a d hl ha hd y hq)
          · exact Or.inr ⟨y1, hd, hQ.2.2 _ _ _ _ y3 (y1 ▸ hq)⟩
        · intro r x hr
          rw [← h2.2.2.2 r x hr]
          exact ⟨fun q => q.elim id (fun y => by omega), Or.inl⟩
        · exact Nat.le_trans h3.1 (cn_m (fun j _ y => ⟨y.1, y.2.1, Or.inl y.2.2⟩))
        · refine Nat.lt_of_le_of_lt h3.1 (cn_lt (a := tgt c * 64 + b) ?_ ?_ (fun j _ y => ⟨y.1, y.2.1, Or.inl y.2.2⟩) (by omega))
          · rw [cn_pr_at (by omega)]
            exact fun y => q3 y.2.2
          · rw [cn_pr_at (by omega)]
            exact ⟨t4, hb, Or.inr ⟨rfl, hb, hQ.1 _ _⟩⟩
        · rw [et]
          exact w _ (nm_r (nI_1 i) hp)
  · exact ⟨s, ⟨G, h1, h2, ys_K_sk h3 (fun b y _ => absurd y q1)⟩, fun p n hp => br_f (nI_ge hi (by omega)) (And.intro v0 (nm_r ev (And.intro v1 (And.intro v2 (br_t (m1.mpr q1) (nm_r (nI_1 i) hp))))))⟩
theorem yw_ex85 {k : Nat} {G0 : Nat → Nat → Prop} (hN : N ≤ 64) (hL : L ≤ 8) (hnc : nc ≤ 16) (hE : cx_E e nc N sp) (hB : cx_B e nc N) (hQ : pg_eqv Q) (hT : cx_T so ta src tgt nc L) (hle : ∀ l, l < L → yd_le Q N l N le) (s : Int32 × (Nat → Int32))
    (hI : ∃ G, ym_M s.2 G ∧ ys_I e Q N nc L src tgt ini G0 G ∧ ys_K e N nc L src tgt k s.1 G (fun c' _ => c' < 0)) :
    ∃ s' : Int32 × (Nat → Int32), (∃ G, ym_M s'.2 G ∧ ys_I e Q N nc L src tgt ini G0 G ∧ ys_K e N nc L src tgt k s'.1 G (fun c' _ => c' < nc)) ∧
      ∀ (p : (SY → Prop) × (Int32 → Int32 → Int32 → Int32 → Int32 → Int32 → Int32 → Int32 → Int32 → Int32 → Int32 → Int32 → Int32 → Int32 → Int32 → Int32 → (Nat → Int32) → (Nat → Int32) → (Nat → Int32) → (Nat → Int32) → (Nat → Int32) → (Nat → Int32) → (Nat → Int32) → (Nat → Int32) → (Nat → Int32) → (Nat → Int32) → (Nat → Int32) → (Nat → Int32) → (Nat → Int32) → Prop)) n, nc < n → p.2 s'.1 (nI (k + 1)) (nI V) (nI T) (nI (T + 1)) (nI N) (nI L) (nI M) (nI nc) (nI ni) (nI ns) (nI nw) st rc bp wy so ta gu am pl mi ad wd ln sp fa le s'.2 → wY_explore_85 p.1 p.2 (nI k) n s.1 (nI 0) (nI V) (nI T) (nI (T + 1)) (nI N) (nI L) (nI M) (nI nc) (nI ni) (nI ns) (nI nw) st rc bp wy so ta gu am pl mi ad wd ln sp fa le s.2 := by
  refine lx_up (κ := (SY → Prop) × (Int32 → Int32 → Int32 → Int32 → Int32 → Int32 → Int32 → Int32 → Int32 → Int32 → Int32 → Int32 → Int32 → Int32 → Int32 → Int32 → (Nat → Int32) → (Nat → Int32) → (Nat → Int32) → (Nat → Int32) → (Nat → Int32) → (Nat → Int32) → (Nat → Int32) → (Nat → Int32) → (Nat → Int32) → (Nat → Int32) → (Nat → Int32) → (Nat → Int32) → (Nat → Int32) → Prop)) (σ := Int32 × (Nat → Int32)) (fun p n i s => wY_explore_85 p.1 p.2 (nI k) n s.1 (nI i) (nI V) (nI T) (nI (T + 1)) (nI N) (nI L) (nI M) (nI nc) (nI ni) (nI ns) (nI nw) st rc bp wy so ta gu am pl mi ad wd ln sp fa le s.2) (fun p s => p.2 s.1 (nI (k + 1)) (nI V) (nI T) (nI (T + 1)) (nI N) (nI L) (nI M) (nI nc) (nI ni) (nI ns) (nI nw) st rc bp wy so ta gu am pl mi ad wd ln sp fa le s.2)
    (fun i s => ∃ G, ym_M s.2 G ∧ ys_I e Q N nc L src tgt ini G0 G ∧ ys_K e N nc L src tgt k s.1 G (fun c' _ => c' < i)) nc
    (fun p n s _ hK => br_t (nI_le (Nat.le_refl _) (by omega)) (nm_r (nI_1 k) hK)) ?_ nc 0 s (by omega) hI
  rintro c s hc ⟨G, h1, h2, h3⟩
  obtain ⟨s', ⟨G', h4, h5, h6⟩, w⟩ := yw_ex96 (V := V) (T := T) (M := M) (ni := ni) (ns := ns) (nw := nw) (st := st) (rc := rc) (bp := bp) (wy := wy) (gu := gu) (am := am) (pl := pl) (mi := mi) (ad := ad) (wd := wd) (ln := ln) (fa := fa) hN hL hnc hE hB hQ hT hle hc s ⟨G, h1, h2, h3.1, h3.2.elim (fun y => Or.inl ⟨y.1, fun c' a' b hp => y.2 c' a' b (by omega)⟩) Or.inr⟩
  refine ⟨s', ⟨G', h4, h5, h6.1, h6.2.elim (fun y => Or.inl ⟨y.1, fun c' a' b hp hc' ha' => y.2 c' a' b (by omega) hc' ha'⟩) Or.inr⟩, fun p n hp => br_f (nI_ge hc (by omega)) (Exists.intro (N + 1) (w (p.1, p.2, _) (N + 1) (by omega) hp))⟩
theorem yw_ex70 {G0 : Nat → Nat → Prop} (hN : N ≤ 64) (hL : L ≤ 8) (hnc : nc ≤ 16) (hE : cx_E e nc N sp) (hB : cx_B e nc N) (hQ : pg_eqv Q) (hT : cx_T so ta src tgt nc L) (hle : ∀ l, l < L → yd_le Q N l N le) :
    ∀ d k (s : Int32 × (Nat → Int32)), k + d = 513 → (∃ G, ym_M s.2 G ∧ ys_I e Q N nc L src tgt ini G0 G ∧ ((s.1 = 0 ∧ ∀ c a b, c < nc → a < N → G (src c) a → e c a = some b → G (tgt c) b) ∨ (s.1 = 1 ∧ k ≤ cn_n (cn_pr (ys_P L N G)) 512))) →
      ∃ ma' : Nat → Int32, (∃ G, ym_M ma' G ∧ ys_I e Q N nc L src tgt ini G0 G ∧ ∀ c a b, c < nc → a < N → G (src c) a → e c a = some b → G (tgt c) b) ∧ ∀ (post : SY → Prop) n, d < n → post (nI V, nI T, nI (T + 1), nI N, nI L, nI M, nI nc, nI ni, nI ns, nI nw, st, rc, bp, wy, so, ta, gu, am, pl, mi, ad, wd, ln, sp, fa, le, ma') → wY_explore_70 post n s.1 (nI k) (nI V) (nI T) (nI (T + 1)) (nI N) (nI L) (nI M) (nI nc) (nI ni) (nI ns) (nI nw) st rc bp wy so ta gu am pl mi ad wd ln sp fa le s.2 := by
  intro d
  induction d with
  | zero =>
    rintro k s hk ⟨G, h1, h2, h3⟩
    rcases h3 with ⟨h3, h4⟩ | ⟨h3, h4⟩
    · refine ⟨s.2, ⟨G, h1, h2, h4⟩, fun post n hn hp => ?_⟩
      obtain ⟨m, rfl⟩ : ∃ m, n = m + 1 := ⟨n - 1, by omega⟩
      exact br_c (fun _ => hp) (fun _ => br_t h3 hp)
    · have := cn_le (cn_pr (ys_P L N G)) 512
      omega
  | succ d ih =>
    rintro k s hk ⟨G, h1, h2, h3⟩
    rcases h3 with ⟨h3, h4⟩ | ⟨h3, h4⟩
    · refine ⟨s.2, ⟨G, h1, h2, h4⟩, fun post n hn hp => ?_⟩
      obtain ⟨m, rfl⟩ : ∃ m, n = m + 1 := ⟨n - 1, by omega⟩
      exact br_c (fun _ => hp) (fun _ => br_t h3 hp)
    · obtain ⟨s', ⟨G', h5, h6, h7⟩, w⟩ := yw_ex85 (V := V) (T := T) (M := M) (ni := ni) (ns := ns) (nw := nw) (st := st) (rc := rc) (bp := bp) (wy := wy) (gu := gu) (am := am) (pl := pl) (mi := mi) (ad := ad) (wd := wd) (ln := ln) (fa := fa) (k := k) hN hL hnc hE hB hQ hT hle (0, s.2) ⟨G, h1, h2, h4, Or.inl ⟨rfl, fun c' _ _ hp => by omega⟩⟩
      obtain ⟨ma', h8, w2⟩ := ih (k + 1) s' (by omega) ⟨G', h5, h6, h7.2.elim (fun y => Or.inl ⟨y.1, fun c a b hc => y.2 c a b hc hc⟩) Or.inr⟩
      refine ⟨ma', h8, fun post n hn hp => ?_⟩
      obtain ⟨m, rfl⟩ : ∃ m, n = m + 1 := ⟨n - 1, by omega⟩
      refine br_f (nI_nlt (a := 512) (b := k) (by omega) (by omega)) (br_f (by rw [h3]; decide) (Exists.intro (nc + 1) (w (post, _) (nc + 1) (by omega) (w2 post m (by omega) hp))))
theorem ys_fin {G0 G : Nat → Nat → Prop} (hT : cx_T so ta src tgt nc L) (hI : ys_I e Q N nc L src tgt ini G0 G) (hB : cx_B e nc N) (h : ∀ c a b, c < nc → a < N → G (src c) a → e c a = some b → G (tgt c) b) {l a : Nat} (hl : l < L) (ha : a < N) : G l a ↔ pg_RR e Q N nc src tgt ini l a := by
  refine ⟨hI.1 l a hl ha, fun q => q (fun l a => l < L → a < N → G l a) ⟨fun x y hx hy hi hq _ _ => hI.2.1 x y hx hy hi hq, fun c x y d hc hx hd hS he hq hl hd' => ?_⟩ hl ha⟩
  exact hI.2.2.1 _ y d (hT c hc).2.2.2 (hB c x y hc hx he) hd (h c x y hc hx (hS (hT c hc).2.1 hx) he) hq
theorem yw_explore (hD : yd_D V T N L nc) (hWc : ∀ c, c < nc → pg_wc V gu am pl mi c) (hW : yd_W nw nc wd ln) (hns : ns ≤ 4) (hws : ∀ s, s < ns → pg_wa V am (52 + s)) (hni : ni ≤ 4) (hwi : ∀ i, i < ni → pg_wa V am (48 + i)) (hT : cx_T so ta src tgt nc L) :
    ∃ (sp' fa' le' ma' : Nat → Int32) (G : Nat → Nat → Prop), cx_E (pg_ex V T gu am pl mi ad) nc N sp' ∧ (∀ l, l < L → yd_le (yd_Q V T ns nw gu am pl mi ad so wd ln) N l N le') ∧ ym_M ma' G ∧ (∀ l a, l < L → a < N → (G l a ↔ pg_RR (pg_ex V T gu am pl mi ad) (yd_Q V T ns nw gu am pl mi ad so wd ln) N nc src tgt (pg_in T ni am) l a)) ∧ (∀ x, G 8 x ↔ x < N ∧ pg_cl (yd_Q V T ns nw gu am pl mi ad so wd ln) N 0 (pg_in T ni am) x) ∧ (∀ r x, 9 ≤ r → ¬ G r x) ∧
      ∀ post : SY → Prop, post (nI V, nI T, nI (T + 1), nI N, nI L, nI M, nI nc, nI ni, nI ns, nI nw, st, rc, bp, wy, so, ta, gu, am, pl, mi, ad, wd, ln, sp', fa', le', ma') → wpY_explore post (nI V, nI T, nI (T + 1), nI N, nI L, nI M, nI nc, nI ni, nI ns, nI nw, st, rc, bp, wy, so, ta, gu, am, pl, mi, ad, wd, ln, sp, fa, le, ma) := by
  have hB := yd_B (gu := gu) (am := am) (pl := pl) (mi := mi) (ad := ad) hD
  have hQ : pg_eqv (yd_Q V T ns nw gu am pl mi ad so wd ln) := yd_Qe
  have hD' := hD
  obtain ⟨hV, hT7, hN, hN64, hL, hL0, hnc⟩ := hD
  obtain ⟨sp', fa', le', h1, h2, w1⟩ := yw_prepare (sp := sp) (fa := fa) (le := le) (ma := ma) (so := so) (ta := ta) (M := M) (ni := ni) (st := st) (rc := rc) (bp := bp) (wy := wy) hD' hWc hW hns hws (fun c hc => ⟨src c, by have := (hT c hc).2.1; omega, (hT c hc).1⟩)
  have A1 := lx_up (κ := SY → Prop) (fun p n i ma => wY_explore_6 p (nI V) (nI T) (nI (T + 1)) (nI N) (nI L) (nI M) (nI nc) (nI ni) (nI ns) (nI nw) st rc bp wy n (nI i) so ta gu am pl mi ad wd ln sp' fa' le' ma) (fun p ma => ∃ n28, wY_explore_28 p n28 (nI 0) (nI V) (nI T) (nI (T + 1)) (nI N) (nI L) (nI M) (nI nc) (nI ni) (nI ns) (nI nw) st rc bp wy so ta gu am pl mi ad wd ln sp' fa' le' ma) (fun i s => ∀ j, j < i → s j = 0) 14912
    (fun p n s _ hK => br_t (nI_le (a := 14912) (b := 14912) (Nat.le_refl _) (by decide)) hK)
    (by
      intro i s hi h3
      refine ⟨upd s i 0, fun j hj => ?_, fun p n hp => br_f (nI_ge (b := 14912) hi (by decide)) (And.intro (pk_in i 14912 hi) (nm_r (wr_i (n := i) rfl (by omega) ym_n0) (nm_r (nI_1 i) hp)))⟩
      by_cases y : j = i
      · subst y
        exact pk_us
      · rw [pk_un y]
        exact h3 j (by omega)) 14912 0 ma (by omega) (fun j hj => by omega)
  obtain ⟨m1, h3, w2⟩ := A1
  have A2 := lx_up (κ := SY → Prop) (fun p n i ma => wY_explore_28 p n (nI i) (nI V) (nI T) (nI (T + 1)) (nI N) (nI L) (nI M) (nI nc) (nI ni) (nI ns) (nI nw) st rc bp wy so ta gu am pl mi ad wd ln sp' fa' le' ma) (fun p ma => ∃ n70, wY_explore_70 p n70 1 (nI 0) (nI V) (nI T) (nI (T + 1)) (nI N) (nI L) (nI M) (nI nc) (nI ni) (nI ns) (nI nw) st rc bp wy so ta gu am pl mi ad wd ln sp' fa' le' ma) (fun i s => ym_M s (fun r x => (r = 0 ∨ r = 8) ∧ x < N ∧ ∃ a, a < i ∧ pg_in T ni am a ∧ (yd_Q V T ns nw gu am pl mi ad so wd ln) 0 a x)) N
    (fun p n s _ hK => br_t (nI_le (Nat.le_refl _) (by omega)) hK)
    (by
      intro i s hi h4
      by_cases q : pg_in T ni am i
      · obtain ⟨s1, h5, w3⟩ := yw_spread (ma := s) (V := V) (T := T) (M := M) (nc := nc) (ni := ni) (ns := ns) (nw := nw) (st := st) (rc := rc) (bp := bp) (wy := wy) (so := so) (ta := ta) (gu := gu) (am := am) (pl := pl) (mi := mi) (ad := ad) (wd := wd) (ln := ln) (sp := sp') (fa := fa') (row := 0) (l := 0) (a := i) hN64 hL (by omega) hL0 hi hQ h2 h4
        obtain ⟨s2, h6, w4⟩ := yw_spread (ma := s1) (V := V) (T := T) (M := M) (nc := nc) (ni := ni) (ns := ns) (nw := nw) (st := st) (rc := rc) (bp := bp) (wy := wy) (so := so) (ta := ta) (gu := gu) (am := am) (pl := pl) (mi := mi) (ad := ad) (wd := wd) (ln := ln) (sp := sp') (fa := fa') (row := 8) (l := 0) (a := i) hN64 hL (by omega) hL0 hi hQ h2 h5
        refine ⟨s2, ym_cg h6 (fun r x _ _ => ?_), fun p n hp => br_f (nI_ge hi (by omega)) (yw_init hD' hi hni hwi (fun _ => br_t rfl (w3 _ (w4 _ (nm_r (nI_1 i) hp)))) (fun y => absurd q y))⟩
        constructor
        · rintro ((⟨y1, y2, a, y3, y4, y5⟩ | ⟨y1, y2, y3⟩) | ⟨y1, y2, y3⟩)
          · exact ⟨y1, y2, a, by omega, y4, y5⟩
          · exact ⟨Or.inl y1, y2, i, by omega, q, y3⟩
          · exact ⟨Or.inr y1, y2, i, by omega, q, y3⟩
        · rintro ⟨y1, y2, a, y3, y4, y5⟩
          by_cases y : a = i
          · subst y
            rcases y1 with y1 | y1
            · exact Or.inl (Or.inr ⟨y1, y2, y5⟩)
            · exact Or.inr ⟨y1, y2, y5⟩
          · exact Or.inl (Or.inl ⟨y1, y2, a, by omega, y4, y5⟩)
      · refine ⟨s, ym_cg h4 (fun r x _ _ => ?_), fun p n hp => br_f (nI_ge hi (by omega)) (yw_init hD' hi hni hwi (fun y => absurd y q) (fun _ => br_f (by decide) (nm_r (nI_1 i) hp)))⟩
        constructor
        · rintro ⟨y1, y2, a, y3, y4, y5⟩
          exact ⟨y1, y2, a, by omega, y4, y5⟩
        · rintro ⟨y1, y2, a, y3, y4, y5⟩
          have : a ≠ i := fun y => q (y ▸ y4)
          exact ⟨y1, y2, a, by omega, y4, y5⟩) N 0 m1 (by omega) (fun r x hr hx => ⟨fun q => absurd (h3 _ (by omega)) q, fun ⟨_, _, a, y, _⟩ => by omega⟩)
  obtain ⟨m2, h4, w3⟩ := A2
  have hI0 : ys_I (pg_ex V T gu am pl mi ad) (yd_Q V T ns nw gu am pl mi ad so wd ln) N nc L src tgt (pg_in T ni am) (fun r x => (r = 0 ∨ r = 8) ∧ x < N ∧ pg_cl (yd_Q V T ns nw gu am pl mi ad so wd ln) N 0 (pg_in T ni am) x) (fun r x => (r = 0 ∨ r = 8) ∧ x < N ∧ ∃ a, a < N ∧ pg_in T ni am a ∧ (yd_Q V T ns nw gu am pl mi ad so wd ln) 0 a x) := by
    refine ⟨?_, ?_, ?_, ?_⟩
    · rintro l a hl ha ⟨y1, y2, x, y3, y4, y5⟩
      have : l = 0 := by omega
      subst this
      exact (pg_RR_cd (pg_ex V T gu am pl mi ad) (yd_Q V T ns nw gu am pl mi ad so wd ln) N nc src tgt (pg_in T ni am)).1 x a y3 ha y4 y5
    · exact fun a b ha hb hi hq => ⟨Or.inl rfl, hb, a, ha, hi, hq⟩
    · rintro l a b hl ha hb ⟨y1, y2, x, y3, y4, y5⟩ hq
      have : l = 0 := by omega
      subst this
      exact ⟨y1, hb, x, y3, y4, hQ.2.2 _ _ _ _ y5 hq⟩
    · exact fun r x _ => Iff.rfl
  obtain ⟨m3, ⟨G, h5, h6, h7⟩, w4⟩ := yw_ex70 (e := (pg_ex V T gu am pl mi ad)) (Q := (yd_Q V T ns nw gu am pl mi ad so wd ln)) (ini := pg_in T ni am) (V := V) (T := T) (M := M) (ni := ni) (ns := ns) (nw := nw) (st := st) (rc := rc) (bp := bp) (wy := wy) (gu := gu) (am := am) (pl := pl) (mi := mi) (ad := ad) (wd := wd) (ln := ln) (fa := fa')
    hN64 hL hnc h1 hB hQ hT h2 513 0 (1, m2) (by omega) ⟨_, h4, hI0, Or.inr ⟨rfl, Nat.zero_le _⟩⟩
  refine ⟨sp', fa', le', m3, G, h1, h2, h5, fun l a hl ha => ys_fin hT h6 hB h7 hl ha, fun x => ?_, fun r x hr => ?_, fun post hp => w1 _ (Exists.intro 14913 (w2 post 14913 (by omega) ⟨N + 1, w3 post (N + 1) (by omega) ⟨514, w4 post 514 (by omega) hp⟩⟩))⟩
  · rw [h6.2.2.2 8 x (by omega)]
    exact ⟨fun y => y.2, fun y => ⟨Or.inr rfl, y⟩⟩
  · rw [h6.2.2.2 r x (by omega)]
    exact fun y => by omega
end
end
section
/-! the reference: leastLength -/
/-- layers up to d stand, those beyond are empty, rows below 33 are G0's -/
def yl_D (e : Nat → Nat → Option Nat) (Q : Nat → Nat → Nat → Prop) (N nc L : Nat) (src tgt : Nat → Nat) (G0 : Nat → Nat → Prop) (d : Nat) (G : Nat → Nat → Prop) : Prop :=
  (∀ r x, r < 33 → (G r x ↔ G0 r x)) ∧ (∀ d' l x, d' ≤ d → l < L → x < N → (G (33 + d' * 8 + l) x ↔ pg_ly e Q N nc L src tgt d' l x)) ∧ ∀ r x, 33 + (d + 1) * 8 ≤ r → ¬ G r x
def yl_P (e : Nat → Nat → Option Nat) (Q : Nat → Nat → Nat → Prop) (N nc L : Nat) (src tgt : Nat → Nat) (G0 : Nat → Nat → Prop) (d : Nat) (Pd : Nat → Nat → Prop) (G : Nat → Nat → Prop) : Prop :=
  (∀ r x, r < 33 → (G r x ↔ G0 r x)) ∧ (∀ d' l x, d' ≤ d → l < L → x < N → (G (33 + d' * 8 + l) x ↔ pg_ly e Q N nc L src tgt d' l x)) ∧
  (∀ l x, l < L → x < N → (G (33 + (d + 1) * 8 + l) x ↔ ∃ c a b, Pd c a ∧ c < nc ∧ a < N ∧ src c = l ∧ e c a = some b ∧ pg_ly e Q N nc L src tgt d (tgt c) b ∧ Q l a x)) ∧ ∀ r x, 33 + (d + 2) * 8 ≤ r → ¬ G r x
theorem yl_P_cg {e : Nat → Nat → Option Nat} {Q : Nat → Nat → Nat → Prop} {N nc L : Nat} {src tgt : Nat → Nat} {G0 : Nat → Nat → Prop} {d : Nat} {Pd Pd' : Nat → Nat → Prop} {G : Nat → Nat → Prop} (h : yl_P e Q N nc L src tgt G0 d Pd G)
    (hp : ∀ c a b, c < nc → a < N → e c a = some b → pg_ly e Q N nc L src tgt d (tgt c) b → (Pd c a ↔ Pd' c a)) : yl_P e Q N nc L src tgt G0 d Pd' G := by
  refine ⟨h.1, h.2.1, fun l x hl hx => (h.2.2.1 l x hl hx).trans ⟨?_, ?_⟩, h.2.2.2⟩
  · rintro ⟨c, a, b, y1, y2, y3, y4, y5, y6, y7⟩
    exact ⟨c, a, b, (hp c a b y2 y3 y5 y6).mp y1, y2, y3, y4, y5, y6, y7⟩
  · rintro ⟨c, a, b, y1, y2, y3, y4, y5, y6, y7⟩
    exact ⟨c, a, b, (hp c a b y2 y3 y5 y6).mpr y1, y2, y3, y4, y5, y6, y7⟩
theorem ix_row (d t b : Nat) : (33 + nI d * 8 + nI t) * 64 + nI b = nI ((33 + d * 8 + t) * 64 + b) := by
  rw [ix_8, ix_k 33 (d * 8) (x := 33) rfl, nI_add, ix_64]
section
variable {V T N L M nc ni ns nw : Nat} {st rc bp wy : Int32} {so ta gu am pl mi ad wd ln sp fa le ma : Nat → Int32} {e : Nat → Nat → Option Nat} {Q : Nat → Nat → Nat → Prop} {src tgt : Nat → Nat} {ini : Nat → Prop}
theorem yw_ll56 {d c : Nat} {G0 : Nat → Nat → Prop} (hN : N ≤ 64) (hL : L ≤ 8) (hnc : nc ≤ 16) (hE : cx_E e nc N sp) (hB : cx_B e nc N) (hQ : pg_eqv Q) (hT : cx_T so ta src tgt nc L) (hle : ∀ l, l < L → yd_le Q N l N le) (hd : d < 24) (hc : c < nc) (s : Nat → Int32)
    (hI : ∃ G, ym_M s G ∧ yl_P e Q N nc L src tgt G0 d (fun c' a' => c' < c ∨ c' = c ∧ a' < 0) G) :
    ∃ s' : Nat → Int32, (∃ G, ym_M s' G ∧ yl_P e Q N nc L src tgt G0 d (fun c' a' => c' < c ∨ c' = c ∧ a' < N) G) ∧
      ∀ (p : (Int32 → SY → Prop) × (Int32 → Int32 → Int32 → Int32 → Int32 → Int32 → Int32 → Int32 → Int32 → Int32 → Int32 → Int32 → Int32 → Int32 → Int32 → (Nat → Int32) → (Nat → Int32) → (Nat → Int32) → (Nat → Int32) → (Nat → Int32) → (Nat → Int32) → (Nat → Int32) → (Nat → Int32) → (Nat → Int32) → (Nat → Int32) → (Nat → Int32) → (Nat → Int32) → (Nat → Int32) → Prop) × (Int32 → Int32 → Int32 → Int32 → Int32 → Int32 → Int32 → Int32 → Int32 → Int32 → Int32 → Int32 → Int32 → Int32 → Int32 → (Nat → Int32) → (Nat → Int32) → (Nat → Int32) → (Nat → Int32) → (Nat → Int32) → (Nat → Int32) → (Nat → Int32) → (Nat → Int32) → (Nat → Int32) → (Nat → Int32) → (Nat → Int32) → (Nat → Int32) → (Nat → Int32) → Prop)) n, N < n → p.2.2 (nI (c + 1)) (nI V) (nI T) (nI (T + 1)) (nI N) (nI L) (nI M) (nI nc) (nI ni) (nI ns) (nI nw) st rc bp wy so ta gu am pl mi ad wd ln sp fa le s' → wY_leastLength_56 p.1 p.2.1 p.2.2 (nI (d + 1)) (nI c) n (nI 0) (nI V) (nI T) (nI (T + 1)) (nI N) (nI L) (nI M) (nI nc) (nI ni) (nI ns) (nI nw) st rc bp wy so ta gu am pl mi ad wd ln sp fa le s := by
  obtain ⟨t1, t2, t3, t4⟩ := hT c hc
  refine lx_up (κ := (Int32 → SY → Prop) × (Int32 → Int32 → Int32 → Int32 → Int32 → Int32 → Int32 → Int32 → Int32 → Int32 → Int32 → Int32 → Int32 → Int32 → Int32 → (Nat → Int32) → (Nat → Int32) → (Nat → Int32) → (Nat → Int32) → (Nat → Int32) → (Nat → Int32) → (Nat → Int32) → (Nat → Int32) → (Nat → Int32) → (Nat → Int32) → (Nat → Int32) → (Nat → Int32) → (Nat → Int32) → Prop) × (Int32 → Int32 → Int32 → Int32 → Int32 → Int32 → Int32 → Int32 → Int32 → Int32 → Int32 → Int32 → Int32 → Int32 → Int32 → (Nat → Int32) → (Nat → Int32) → (Nat → Int32) → (Nat → Int32) → (Nat → Int32) → (Nat → Int32) → (Nat → Int32) → (Nat → Int32) → (Nat → Int32) → (Nat → Int32) → (Nat → Int32) → (Nat → Int32) → (Nat → Int32) → Prop)) (fun p n i s => wY_leastLength_56 p.1 p.2.1 p.2.2 (nI (d + 1)) (nI c) n (nI i) (nI V) (nI T) (nI (T + 1)) (nI N) (nI L) (nI M) (nI nc) (nI ni) (nI ns) (nI nw) st rc bp wy so ta gu am pl mi ad wd ln sp fa le s) (fun p s => p.2.2 (nI (c + 1)) (nI V) (nI T) (nI (T + 1)) (nI N) (nI L) (nI M) (nI nc) (nI ni) (nI ns) (nI nw) st rc bp wy so ta gu am pl mi ad wd ln sp fa le s)
    (fun i s => ∃ G, ym_M s G ∧ yl_P e Q N nc L src tgt G0 d (fun c' a' => c' < c ∨ c' = c ∧ a' < i) G) N
    (fun p n s _ hK => br_t (nI_le (Nat.le_refl _) (by omega)) (nm_r (nI_1 c) hK)) ?_ N 0 s (by omega) hI
  rintro i s hi ⟨G, h1, h2⟩
  have es : so (nI c).toNatClampNeg = nI (src c) := rd_i rfl (by omega) t1
  have et : ta (nI c).toNatClampNeg = nI (tgt c) := rd_i rfl (by omega) t3
  have v1 : vp_in (nI c) 16 := pk_in c 16 (by omega)
  have v0 : vp_in (nI c * 64 + nI i) 1024 := pk_in (c * 64 + i) 1024 (by omega) (ix_64 c i)
  have ev : sp (nI c * 64 + nI i).toNatClampNeg = pg_oI (e c i) := rd_i (ix_64 c i) (by omega) (hE c i hc hi)
  have sk : (∀ b, e c i = some b → ¬ pg_ly e Q N nc L src tgt d (tgt c) b) → ∃ G, ym_M s G ∧ yl_P e Q N nc L src tgt G0 d (fun c' a' => c' < c ∨ c' = c ∧ a' < i + 1) G := fun q => by
    refine ⟨G, h1, yl_P_cg h2 (fun c' a' b hc' ha' he hly => ?_)⟩
    by_cases y : c' = c ∧ a' = i
    · rw [y.1, y.2] at he
      rw [y.1] at hly
      exact absurd hly (q b he)
    · omega
  cases q2 : e c i with
  | none =>
    rw [q2] at ev
    have ng : pg_oI none < 0 := by decide
    exact ⟨s, sk (fun b w => by rw [q2] at w; exact absurd w (by simp)), fun p n hp => br_f (nI_ge hi (by omega)) (And.intro v0 (nm_r ev (br_t ng (nm_r (nI_1 i) hp))))⟩
  | some b =>
    rw [q2] at ev
    have hb := hB c i b hc hi q2
    have nb : ¬ pg_oI (some b) < 0 := nI_pos (show b < 2 ^ 31 by omega)
    have e3 : (33 + (nI (d + 1) - 1) * 8 + ta (nI c).toNatClampNeg) * 64 + pg_oI (some b) = nI ((33 + d * 8 + tgt c) * 64 + b) := by
      rw [nI_pred, et]
      exact ix_row d (tgt c) b
    have v3 : vp_in ((33 + (nI (d + 1) - 1) * 8 + ta (nI c).toNatClampNeg) * 64 + pg_oI (some b)) 14912 := pk_in _ 14912 (by omega) e3
    have m3 : s ((33 + (nI (d + 1) - 1) * 8 + ta (nI c).toNatClampNeg) * 64 + pg_oI (some b)).toNatClampNeg = 0 ↔ ¬ pg_ly e Q N nc L src tgt d (tgt c) b := by
      rw [e3, nI_clamp (by omega), ym_0 h1 (by omega) (by omega), h2.2.1 d (tgt c) b (Nat.le_refl _) t4 hb]
    by_cases q3 : pg_ly e Q N nc L src tgt d (tgt c) b
    · obtain ⟨s', h4, w⟩ := yw_spread (ma := s) (V := V) (T := T) (M := M) (nc := nc) (ni := ni) (ns := ns) (nw := nw) (st := st) (rc := rc) (bp := bp) (wy := wy) (so := so) (ta := ta) (gu := gu) (am := am) (pl := pl) (mi := mi) (ad := ad) (wd := wd) (ln := ln) (sp := sp) (fa := fa) (row := 33 + (d + 1) * 8 + src c) (l := src c) (a := i) hN hL (by omega) t2 hi hQ hle h1
      refine ⟨s', ⟨_, h4, ?_, ?_, ?_, ?_⟩, fun p n hp => br_f (nI_ge hi (by omega)) (And.intro v0 (nm_r ev (br_f nb (And.intro v1 (And.intro v3 (br_f (fun w => m3.mp w q3) (And.intro v1 (And.intro v1 ?_))))))))⟩
      · intro r x hr
        rw [← h2.1 r x hr]
        exact ⟨fun y => y.elim id (fun y => by omega), Or.inl⟩
      · intro d' l x hd' hl hx
        rw [← h2.2.1 d' l x hd' hl hx]
        exact ⟨fun y => y.elim id (fun y => by omega), Or.inl⟩
      · intro l x hl hx
        dsimp only
        rw [h2.2.2.1 l x hl hx]
        constructor
        · rintro (⟨c', a', b', y1, y2⟩ | ⟨y1, y2, y3⟩)
          · exact ⟨c', a', b', by omega, y2⟩
          · have : l = src c := by omega
            subst this
            exact ⟨c, i, b, by omega, hc, hi, rfl, q2, q3, y3⟩
        · rintro ⟨c', a', b', y1, y2, y3, y4, y5, y6, y7⟩
          by_cases y : c' = c ∧ a' = i
          · refine Or.inr ⟨by rw [← y4, y.1], hx, ?_⟩
            rw [← y.1, y4, ← y.2]
            exact y7
          · exact Or.inl ⟨c', a', b', by omega, y2, y3, y4, y5, y6, y7⟩
      · intro r x hr y
        rcases y with y | y
        · exact h2.2.2.2 r x hr y
        · omega
      · rw [es, ix_8, ix_k 33 ((d + 1) * 8) (x := 33) rfl, nI_add]
        exact w _ (nm_r (nI_1 i) hp)
    · exact ⟨s, sk (fun b' w => by rw [q2] at w; cases w; exact q3), fun p n hp => br_f (nI_ge hi (by omega)) (And.intro v0 (nm_r ev (br_f nb (And.intro v1 (And.intro v3 (br_t (m3.mpr q3) (nm_r (nI_1 i) hp)))))))⟩
theorem yw_ll46 {d : Nat} {G0 : Nat → Nat → Prop} (hN : N ≤ 64) (hL : L ≤ 8) (hnc : nc ≤ 16) (hE : cx_E e nc N sp) (hB : cx_B e nc N) (hQ : pg_eqv Q) (hT : cx_T so ta src tgt nc L) (hle : ∀ l, l < L → yd_le Q N l N le) (hd : d < 24) (s : Nat → Int32)
    (hI : ∃ G, ym_M s G ∧ yl_D e Q N nc L src tgt G0 d G) :
    ∃ s' : Nat → Int32, (∃ G, ym_M s' G ∧ yl_D e Q N nc L src tgt G0 (d + 1) G) ∧
      ∀ (p : (Int32 → SY → Prop) × (Int32 → Int32 → Int32 → Int32 → Int32 → Int32 → Int32 → Int32 → Int32 → Int32 → Int32 → Int32 → Int32 → Int32 → Int32 → (Nat → Int32) → (Nat → Int32) → (Nat → Int32) → (Nat → Int32) → (Nat → Int32) → (Nat → Int32) → (Nat → Int32) → (Nat → Int32) → (Nat → Int32) → (Nat → Int32) → (Nat → Int32) → (Nat → Int32) → (Nat → Int32) → Prop)) n, nc < n → p.2 (nI (d + 1 + 1)) (nI V) (nI T) (nI (T + 1)) (nI N) (nI L) (nI M) (nI nc) (nI ni) (nI ns) (nI nw) st rc bp wy so ta gu am pl mi ad wd ln sp fa le s' → wY_leastLength_46 p.1 p.2 (nI (d + 1)) n (nI 0) (nI V) (nI T) (nI (T + 1)) (nI N) (nI L) (nI M) (nI nc) (nI ni) (nI ns) (nI nw) st rc bp wy so ta gu am pl mi ad wd ln sp fa le s := by
  obtain ⟨G, h1, h2⟩ := hI
  have A := lx_up (κ := (Int32 → SY → Prop) × (Int32 → Int32 → Int32 → Int32 → Int32 → Int32 → Int32 → Int32 → Int32 → Int32 → Int32 → Int32 → Int32 → Int32 → Int32 → (Nat → Int32) → (Nat → Int32) → (Nat → Int32) → (Nat → Int32) → (Nat → Int32) → (Nat → Int32) → (Nat → Int32) → (Nat → Int32) → (Nat → Int32) → (Nat → Int32) → (Nat → Int32) → (Nat → Int32) → (Nat → Int32) → Prop)) (fun p n i s => wY_leastLength_46 p.1 p.2 (nI (d + 1)) n (nI i) (nI V) (nI T) (nI (T + 1)) (nI N) (nI L) (nI M) (nI nc) (nI ni) (nI ns) (nI nw) st rc bp wy so ta gu am pl mi ad wd ln sp fa le s) (fun p s => p.2 (nI (d + 1 + 1)) (nI V) (nI T) (nI (T + 1)) (nI N) (nI L) (nI M) (nI nc) (nI ni) (nI ns) (nI nw) st rc bp wy so ta gu am pl mi ad wd ln sp fa le s)
    (fun i s => ∃ G, ym_M s G ∧ yl_P e Q N nc L src tgt G0 d (fun c' _ => c' < i) G) nc
    (fun p n s _ hK => br_t (nI_le (Nat.le_refl _) (by omega)) (nm_r (nI_1 (d + 1)) hK))
    (by
      rintro c s hc ⟨G, h1, h2⟩
      obtain ⟨s', ⟨G', h4, h5⟩, w⟩ := yw_ll56 (V := V) (T := T) (M := M) (ni := ni) (ns := ns) (nw := nw) (st := st) (rc := rc) (bp := bp) (wy := wy) (gu := gu) (am := am) (pl := pl) (mi := mi) (ad := ad) (wd := wd) (ln := ln) (fa := fa) hN hL hnc hE hB hQ hT hle hd hc s ⟨G, h1, yl_P_cg h2 (fun c' a' b _ _ _ _ => by omega)⟩
      exact ⟨s', ⟨G', h4, yl_P_cg h5 (fun c' a' b _ _ _ _ => by omega)⟩, fun p n hp => br_f (nI_ge hc (by omega)) (Exists.intro (N + 1) (w (p.1, p.2, _) (N + 1) (by omega) hp))⟩) nc 0 s (by omega)
    ⟨G, h1, h2.1, h2.2.1, fun l x hl hx => ⟨fun y => absurd y (h2.2.2 _ _ (by omega)), fun ⟨c, a, b, y, _⟩ => by omega⟩, fun r x hr => h2.2.2 r x (by omega)⟩
  obtain ⟨s', ⟨G', h3, h4⟩, w⟩ := A
  refine ⟨s', ⟨G', h3, h4.1, fun d' l x hd' hl hx => ?_, fun r x hr => h4.2.2.2 r x (by omega)⟩, w⟩
  by_cases y : d' = d + 1
  · subst y
    rw [h4.2.2.1 l x hl hx]
    constructor
    · rintro ⟨c, a, b, y1, y2, y3, y4, y5, y6, y7⟩
      exact ⟨c, a, b, y2, y3, y4, y5, y6, y7⟩
    · rintro ⟨c, a, b, y2, y3, y4, y5, y6, y7⟩
      exact ⟨c, a, b, y2, y2, y3, y4, y5, y6, y7⟩
  · exact h4.2.1 d' l x (by omega) hl hx
theorem yw_ll165 {post : Int32 → SY → Prop} {J : Int32 → Prop} {k : Nat} {S0 : Nat → Prop} {G : Nat → Nat → Prop} (hN : N ≤ 64) (hL : L ≤ 8) (hL0 : 0 < L) (hk : k ≤ 24) (hM : ym_M ma G) (h8 : ∀ x, G 8 x ↔ x < N ∧ S0 x) (hly : ∀ d' l x, d' ≤ 24 → l < L → x < N → (G (33 + d' * 8 + l) x ↔ pg_ly e Q N nc L src tgt d' l x))
    (h1 : (∃ a, a < N ∧ S0 a ∧ pg_ly e Q N nc L src tgt k 0 a) → post (nI k) (nI V, nI T, nI (T + 1), nI N, nI L, nI M, nI nc, nI ni, nI ns, nI nw, st, rc, bp, wy, so, ta, gu, am, pl, mi, ad, wd, ln, sp, fa, le, ma)) (h0 : (¬ ∃ a, a < N ∧ S0 a ∧ pg_ly e Q N nc L src tgt k 0 a) → J (nI (k + 1))) :
    ∀ n i, N - i < n → i ≤ N → (∀ a, a < i → ¬ (S0 a ∧ pg_ly e Q N nc L src tgt k 0 a)) → wY_leastLength_165 post J (nI k) (nI V) (nI T) (nI (T + 1)) (nI N) (nI L) (nI M) (nI nc) (nI ni) (nI ns) (nI nw) st rc bp wy so ta gu am pl mi ad wd ln sp fa le ma n (nI i) := by
  intro n
  induction n with
  | zero => intro i hn; omega
  | succ n ih =>
    intro i hn hi hj
    have nx : i < N → ¬ (S0 i ∧ pg_ly e Q N nc L src tgt k 0 i) → wY_leastLength_165 post J (nI k) (nI V) (nI T) (nI (T + 1)) (nI N) (nI L) (nI M) (nI nc) (nI ni) (nI ns) (nI nw) st rc bp wy so ta gu am pl mi ad wd ln sp fa le ma n (nI (i + 1)) := fun z q => ih (i + 1) (by omega) (by omega) (fun j hj2 => by
      by_cases w : j = i
      · subst w
        exact q
      · exact hj j (by omega))
    refine pk_le N i (fun z => nm_r (nI_1 k) (h0 (fun ⟨a, y1, y2⟩ => hj a (by omega) y2))) (fun z => ?_)
    have e1 : 512 + nI i = nI (8 * 64 + i) := nI_add 512 i
    have e2 : (33 + nI k * 8) * 64 + nI i = nI ((33 + k * 8 + 0) * 64 + i) := by
      rw [ix_8, ix_k 33 (k * 8) (x := 33) rfl, ix_64]
      rfl
    have m1 : ma (512 + nI i).toNatClampNeg = 0 ↔ ¬ S0 i := by
      rw [e1, nI_clamp (by omega), ym_0 hM (by omega) (by omega), h8]
      exact ⟨fun q w => q ⟨z, w⟩, fun q w => q w.2⟩
    have m2 : ma ((33 + nI k * 8) * 64 + nI i).toNatClampNeg = 0 ↔ ¬ pg_ly e Q N nc L src tgt k 0 i := by
      rw [e2, nI_clamp (by omega), ym_0 hM (by omega) (by omega), hly k 0 i hk hL0 z]
    refine And.intro (pk_in _ 14912 (by omega) e1) (br_c (fun q => nm_r (nI_1 i) (nx z (fun w => m1.mp q w.1))) (fun q => And.intro (pk_in _ 14912 (by omega) e2) (br_c (fun q2 => nm_r (nI_1 i) (nx z (fun w => m2.mp q2 w.2))) (fun q2 => ?_))))
    exact h1 ⟨i, z, Classical.not_not.mp (fun w => q (m1.mpr w)), Classical.not_not.mp (fun w => q2 (m2.mpr w))⟩
theorem yw_ll157 {post : Int32 → SY → Prop} {S0 : Nat → Prop} {G : Nat → Nat → Prop} (hN : N ≤ 64) (hL : L ≤ 8) (hL0 : 0 < L) (hM : ym_M ma G) (h8 : ∀ x, G 8 x ↔ x < N ∧ S0 x) (hly : ∀ d' l x, d' ≤ 24 → l < L → x < N → (G (33 + d' * 8 + l) x ↔ pg_ly e Q N nc L src tgt d' l x))
    (h1 : ∀ k, 1 ≤ k → k ≤ 24 → (∃ a, a < N ∧ S0 a ∧ pg_ly e Q N nc L src tgt k 0 a) → (∀ j, 1 ≤ j → j < k → ¬ ∃ a, a < N ∧ S0 a ∧ pg_ly e Q N nc L src tgt j 0 a) → post (nI k) (nI V, nI T, nI (T + 1), nI N, nI L, nI M, nI nc, nI ni, nI ns, nI nw, st, rc, bp, wy, so, ta, gu, am, pl, mi, ad, wd, ln, sp, fa, le, ma))
    (h0 : (∀ j, 1 ≤ j → j ≤ 24 → ¬ ∃ a, a < N ∧ S0 a ∧ pg_ly e Q N nc L src tgt j 0 a) → post 25 (nI V, nI T, nI (T + 1), nI N, nI L, nI M, nI nc, nI ni, nI ns, nI nw, st, rc, bp, wy, so, ta, gu, am, pl, mi, ad, wd, ln, sp, fa, le, ma)) :
    ∀ n k, 25 - k < n → 1 ≤ k → k ≤ 25 → (∀ j, 1 ≤ j → j < k → ¬ ∃ a, a < N ∧ S0 a ∧ pg_ly e Q N nc L src tgt j 0 a) → wY_leastLength_157 post (nI V) (nI T) (nI (T + 1)) (nI N) (nI L) (nI M) (nI nc) (nI ni) (nI ns) (nI nw) st rc bp wy so ta gu am pl mi ad wd ln sp fa le ma n (nI k) := by
  intro n
  induction n with
  | zero => intro k hn; omega
  | succ n ih =>
    intro k hn hk1 hk hj
    refine pk_lt 24 k (fun z => h0 (fun j h2 h3 => hj j h2 (by omega))) (fun z => Exists.intro (N + 1) ?_)
    refine yw_ll165 hN hL hL0 z hM h8 hly (fun q => h1 k hk1 z q hj) (fun q => ih (k + 1) (by omega) (by omega) (by omega) (fun j h2 h3 => ?_)) (N + 1) 0 (by omega) (by omega) (fun a ha => by omega)
    by_cases y : j = k
    · subst y
      exact q
    · exact hj j h2 (by omega)
theorem yw_least {G : Nat → Nat → Prop} {S0 : Nat → Prop} (hN : N ≤ 64) (hL : L ≤ 8) (hL0 : 0 < L) (hnc : nc ≤ 16) (hE : cx_E e nc N sp) (hB : cx_B e nc N) (hQ : pg_eqv Q) (hT : cx_T so ta src tgt nc L) (hle : ∀ l, l < L → yd_le Q N l N le) (hM : ym_M ma G) (h8 : ∀ x, G 8 x ↔ x < N ∧ S0 x) (h9 : ∀ r x, 9 ≤ r → ¬ G r x) :
    ∃ (ma' : Nat → Int32) (G' : Nat → Nat → Prop), ym_M ma' G' ∧ (∀ x, G' 8 x ↔ x < N ∧ S0 x) ∧ (∀ r x, 9 ≤ r → r < 33 → ¬ G' r x) ∧ (∀ d' l x, d' ≤ 24 → l < L → x < N → (G' (33 + d' * 8 + l) x ↔ pg_ly e Q N nc L src tgt d' l x)) ∧
      ∀ post : Int32 → SY → Prop, (∀ k, 1 ≤ k → k ≤ 24 → (∃ a, a < N ∧ S0 a ∧ pg_ly e Q N nc L src tgt k 0 a) → (∀ j, 1 ≤ j → j < k → ¬ ∃ a, a < N ∧ S0 a ∧ pg_ly e Q N nc L src tgt j 0 a) → post (nI k) (nI V, nI T, nI (T + 1), nI N, nI L, nI M, nI nc, nI ni, nI ns, nI nw, st, rc, bp, wy, so, ta, gu, am, pl, mi, ad, wd, ln, sp, fa, le, ma')) →
        ((∀ j, 1 ≤ j → j ≤ 24 → ¬ ∃ a, a < N ∧ S0 a ∧ pg_ly e Q N nc L src tgt j 0 a) → post 25 (nI V, nI T, nI (T + 1), nI N, nI L, nI M, nI nc, nI ni, nI ns, nI nw, st, rc, bp, wy, so, ta, gu, am, pl, mi, ad, wd, ln, sp, fa, le, ma')) → wpY_leastLength post (nI V, nI T, nI (T + 1), nI N, nI L, nI M, nI nc, nI ni, nI ns, nI nw, st, rc, bp, wy, so, ta, gu, am, pl, mi, ad, wd, ln, sp, fa, le, ma) := by
  have A1 := lx_up (κ := Int32 → SY → Prop) (fun p n i ma => wY_leastLength_2 p (nI V) (nI T) (nI (T + 1)) (nI N) (nI L) (nI M) (nI nc) (nI ni) (nI ns) (nI nw) st rc bp wy n (nI i) so ta gu am pl mi ad wd ln sp fa le ma) (fun p ma => ∃ n38, wY_leastLength_38 p n38 (nI 1) (nI V) (nI T) (nI (T + 1)) (nI N) (nI L) (nI M) (nI nc) (nI ni) (nI ns) (nI nw) st rc bp wy so ta gu am pl mi ad wd ln sp fa le ma) (fun i s => ym_M s (fun r x => G r x ∨ r = 33 + (L - 1) ∧ x < i)) N
    (fun p n s _ hK => br_t (nI_le (Nat.le_refl _) (by omega)) hK)
    (by
      intro i s hi h1
      have e1 : ((33 + nI L) - 1) * 64 + nI i = nI ((33 + (L - 1)) * 64 + i) := by
        rw [ix_k 33 L (x := 33) rfl, show (1 : Int32) = nI 1 from rfl, pk_sub (by omega), ix_64]
        exact congrArg nI (by omega)
      refine ⟨upd s ((33 + (L - 1)) * 64 + i) 1, ym_cg (ym_set h1 (by omega)) (fun r x _ _ => ?_), fun p n hp => br_f (nI_ge hi (by omega)) (And.intro (pk_in _ 14912 (by omega) e1) (nm_r (wr_i e1 (by omega) ym_n1) (nm_r (nI_1 i) hp)))⟩
      constructor
      · rintro ((y | y) | y)
        · exact Or.inl y
        · exact Or.inr ⟨y.1, by omega⟩
        · exact Or.inr ⟨y.1, by omega⟩
      · rintro (y | y)
        · exact Or.inl (Or.inl y)
        · by_cases w : x = i
          · exact Or.inr ⟨y.1, w⟩
          · exact Or.inl (Or.inr ⟨y.1, by omega⟩)) N 0 ma (by omega) (ym_cg hM (fun r x _ _ => ⟨Or.inl, fun q => q.elim id (fun y => by omega)⟩))
  obtain ⟨m1, h1, w1⟩ := A1
  have A2 : ∀ d k (s : Nat → Int32), k + d = 24 → (∃ G', ym_M s G' ∧ yl_D e Q N nc L src tgt G k G') → ∃ s' : Nat → Int32, (∃ G', ym_M s' G' ∧ yl_D e Q N nc L src tgt G 24 G') ∧
      ∀ (p : Int32 → SY → Prop) n, d + 1 < n → (∃ n157, wY_leastLength_157 p (nI V) (nI T) (nI (T + 1)) (nI N) (nI L) (nI M) (nI nc) (nI ni) (nI ns) (nI nw) st rc bp wy so ta gu am pl mi ad wd ln sp fa le s' n157 (nI 1)) → wY_leastLength_38 p n (nI (k + 1)) (nI V) (nI T) (nI (T + 1)) (nI N) (nI L) (nI M) (nI nc) (nI ni) (nI ns) (nI nw) st rc bp wy so ta gu am pl mi ad wd ln sp fa le s := by
    intro d
    induction d with
    | zero =>
      intro k s hk hI
      have : k = 24 := by omega
      subst this
      refine ⟨s, hI, fun p n hn hp => ?_⟩
      obtain ⟨m, rfl⟩ : ∃ m, n = m + 1 := ⟨n - 1, by omega⟩
      exact br_t (nI_lt (a := 24) (b := 24 + 1) (by omega) (by omega)) hp
    | succ d ih =>
      intro k s hk hI
      obtain ⟨s1, h2, w2⟩ := yw_ll46 (d := k) (V := V) (T := T) (M := M) (ni := ni) (ns := ns) (nw := nw) (st := st) (rc := rc) (bp := bp) (wy := wy) (gu := gu) (am := am) (pl := pl) (mi := mi) (ad := ad) (wd := wd) (ln := ln) (fa := fa) hN hL hnc hE hB hQ hT hle (by omega) s hI
      obtain ⟨s', h3, w3⟩ := ih (k + 1) s1 (by omega) h2
      refine ⟨s', h3, fun p n hn hp => ?_⟩
      obtain ⟨m, rfl⟩ : ∃ m, n = m + 1 := ⟨n - 1, by omega⟩
      exact br_f (nI_nlt (a := 24) (b := k + 1) (by omega) (by omega)) (Exists.intro (nc + 1) (w2 (p, _) (nc + 1) (by omega) (w3 p m (by omega) hp)))
  obtain ⟨m2, ⟨G', h2, h3⟩, w2⟩ := A2 24 0 m1 (by omega) ⟨_, h1, fun r x hr => ⟨fun q => q.elim id (fun y => by omega), Or.inl⟩, fun d' l x hd' hl hx => by
    have : d' = 0 := by omega
    subst this
    constructor
    · rintro (y | y)
      · exact absurd y (h9 _ _ (by omega))
      · exact (by omega : l = L - 1)
    · intro y
      have y' : l = L - 1 := y
      exact Or.inr ⟨by omega, hx⟩, fun r x hr y => by
    rcases y with y | y
    · exact h9 r x (by omega) y
    · omega⟩
  refine ⟨m2, G', h2, fun x => (h3.1 8 x (by omega)).trans (h8 x), fun r x hr hr2 y => h9 r x hr ((h3.1 r x hr2).mp y), h3.2.1, fun post p1 p0 => ?_⟩
  exact Exists.intro (N + 1) (w1 post (N + 1) (by omega) ⟨26, w2 post 26 (by omega) ⟨25, yw_ll157 hN hL hL0 h2 (fun x => (h3.1 8 x (by omega)).trans (h8 x)) h3.2.1 p1 p0 25 1 (by omega) (by omega) (by omega) (fun j y1 y2 => by omega)⟩⟩)
end
end
section
/-! the reference: findPath -/
section
variable {V T N L M nc ni ns nw : Nat} {st rc bp wy : Int32} {so ta gu am pl mi ad wd ln sp fa le ma : Nat → Int32} {e : Nat → Nat → Option Nat} {Q : Nat → Nat → Nat → Prop} {src tgt : Nat → Nat} {ini : Nat → Prop}
theorem yw_fp43 {post : SY → Prop} {J4 : Int32 → Int32 → Int32 → Int32 → Int32 → Int32 → Int32 → Int32 → Int32 → Int32 → Int32 → Int32 → Int32 → Int32 → Int32 → Int32 → (Nat → Int32) → (Nat → Int32) → (Nat → Int32) → (Nat → Int32) → (Nat → Int32) → (Nat → Int32) → (Nat → Int32) → (Nat → Int32) → (Nat → Int32) → (Nat → Int32) → (Nat → Int32) → (Nat → Int32) → (Nat → Int32) → Prop} {J26 : Int32 → Int32 → Prop} {k i c lo : Nat} {S : Nat → Prop} {G : Nat → Nat → Prop} {y : Int32} (hN : N ≤ 64) (hL : L ≤ 8) (hnc : nc ≤ 16) (hE : cx_E e nc N sp) (hB : cx_B e nc N) (hT : cx_T so ta src tgt nc L) (hk : k ≤ 24) (hi : i < k) (hc : c < nc) (hlo : lo < L)
    (hM : ym_M ma G) (hS : ∀ x, x < N → (G (8 + i) x ↔ S x)) (hly : ∀ d' l x, d' ≤ 24 → l < L → x < N → (G (33 + d' * 8 + l) x ↔ pg_ly e Q N nc L src tgt d' l x))
    (h1 : pg_ok e Q N nc L src tgt (k - i - 1) lo S c → J26 (nI c) (nI (c + 1))) (h0 : ¬ pg_ok e Q N nc L src tgt (k - i - 1) lo S c → J26 y (nI (c + 1))) :
    ∀ n a x4, N - a < n → a ≤ N → ((x4 = y ∧ ∀ a', a' < a → ¬ (src c = lo ∧ S a' ∧ ∃ b, e c a' = some b ∧ pg_ly e Q N nc L src tgt (k - i - 1) (tgt c) b)) ∨ (x4 = nI c ∧ pg_ok e Q N nc L src tgt (k - i - 1) lo S c)) →
      wY_findPath_43 post J4 J26 (nI k) (nI lo) (nI (i + 1)) (nI ((8 + i) * 64)) (nI c) (nI V) (nI T) (nI (T + 1)) (nI N) (nI L) (nI M) (nI nc) (nI ni) (nI ns) (nI nw) st rc bp wy so ta gu am pl mi ad wd ln sp fa le ma n x4 (nI a) := by
  obtain ⟨t1, t2, t3, t4⟩ := hT c hc
  intro n
  induction n with
  | zero => intro a x4 hn; omega
  | succ n ih =>
    intro a x4 hn ha hx
    have nx : a < N → ¬ (src c = lo ∧ S a ∧ ∃ b, e c a = some b ∧ pg_ly e Q N nc L src tgt (k - i - 1) (tgt c) b) → wY_findPath_43 post J4 J26 (nI k) (nI lo) (nI (i + 1)) (nI ((8 + i) * 64)) (nI c) (nI V) (nI T) (nI (T + 1)) (nI N) (nI L) (nI M) (nI nc) (nI ni) (nI ns) (nI nw) st rc bp wy so ta gu am pl mi ad wd ln sp fa le ma n x4 (nI (a + 1)) := fun z q => ih (a + 1) x4 (by omega) (by omega) (hx.elim (fun w => Or.inl ⟨w.1, fun a' ha' => by
      by_cases y : a' = a
      · subst y
        exact q
      · exact w.2 a' (by omega)⟩) Or.inr)
    refine pk_le N a (fun z => nm_r (nI_1 c) ?_) (fun z => ?_)
    · rcases hx with w | w
      · rw [w.1]
        refine h0 ?_
        rintro ⟨y1, a', b, y2, y3, y4, y5⟩
        exact w.2 a' (by omega) ⟨y1, y3, b, y4, y5⟩
      · rw [w.1]
        exact h1 w.2
    · have es : so (nI c).toNatClampNeg = nI (src c) := rd_i rfl (by omega) t1
      have et : ta (nI c).toNatClampNeg = nI (tgt c) := rd_i rfl (by omega) t3
      have v1 : vp_in (nI c) 16 := pk_in c 16 (by omega)
      have v0 : vp_in (nI c * 64 + nI a) 1024 := pk_in (c * 64 + a) 1024 (by omega) (ix_64 c a)
      have ev : sp (nI c * 64 + nI a).toNatClampNeg = pg_oI (e c a) := rd_i (ix_64 c a) (by omega) (hE c a hc z)
      have e2 : nI ((8 + i) * 64) + nI a = nI ((8 + i) * 64 + a) := nI_add _ _
      have m2 : ma (nI ((8 + i) * 64) + nI a).toNatClampNeg = 0 ↔ ¬ S a := by
        rw [e2, nI_clamp (by omega), ym_0 hM (by omega) (by omega), hS a z]
      refine And.intro v0 (nm_r ev (And.intro v1 ?_))
      rw [es]
      refine pk_eq (src c) lo (fun hs => And.intro (pk_in _ 14912 (by omega) e2) (br_c (fun q => nm_r (nI_1 a) (nx z (fun w => m2.mp q w.2.1))) (fun q => ?_))) (fun hs => nm_r (nI_1 a) (nx z (fun w => hs w.1)))
      have q' : S a := Classical.not_not.mp (fun w => q (m2.mpr w))
      cases q2 : e c a with
      | none =>
        have ng : pg_oI none < 0 := by decide
        exact br_t ng (nm_r (nI_1 a) (nx z (fun ⟨_, _, b, w, _⟩ => by rw [q2] at w; exact absurd w (by simp))))
      | some b =>
        have hb := hB c a b hc z q2
        have nb : ¬ pg_oI (some b) < 0 := nI_pos (show b < 2 ^ 31 by omega)
        have e3 : (33 + (nI k - nI (i + 1)) * 8 + ta (nI c).toNatClampNeg) * 64 + pg_oI (some b) = nI ((33 + (k - i - 1) * 8 + tgt c) * 64 + b) := by
          rw [pk_sub (by omega), et, show k - (i + 1) = k - i - 1 by omega]
          exact ix_row _ (tgt c) b
        have m3 : ma ((33 + (nI k - nI (i + 1)) * 8 + ta (nI c).toNatClampNeg) * 64 + pg_oI (some b)).toNatClampNeg = 0 ↔ ¬ pg_ly e Q N nc L src tgt (k - i - 1) (tgt c) b := by
          rw [e3, nI_clamp (by omega), ym_0 hM (by omega) (by omega), hly (k - i - 1) (tgt c) b (by omega) t4 hb]
        refine br_f nb (And.intro v1 (And.intro (pk_in _ 14912 (by omega) e3) (br_c (fun q3 => nm_r (nI_1 a) (nx z (fun ⟨_, _, b', w, w2⟩ => ?_))) (fun q3 => nm_r (nI_1 a) (ih (a + 1) (nI c) (by omega) (by omega) (Or.inr ⟨rfl, hs, a, b, z, q', q2, Classical.not_not.mp (fun w => q3 (m3.mpr w))⟩))))))
        rw [q2] at w
        cases w
        exact m3.mp q3 w2
theorem yw_fp26 {post : SY → Prop} {J4 : Int32 → Int32 → Int32 → Int32 → Int32 → Int32 → Int32 → Int32 → Int32 → Int32 → Int32 → Int32 → Int32 → Int32 → Int32 → Int32 → (Nat → Int32) → (Nat → Int32) → (Nat → Int32) → (Nat → Int32) → (Nat → Int32) → (Nat → Int32) → (Nat → Int32) → (Nat → Int32) → (Nat → Int32) → (Nat → Int32) → (Nat → Int32) → (Nat → Int32) → (Nat → Int32) → Prop} {k i cs lo : Nat} {S : Nat → Prop} {G : Nat → Nat → Prop} (hN : N ≤ 64) (hL : L ≤ 8) (hnc : nc ≤ 16) (hE : cx_E e nc N sp) (hB : cx_B e nc N) (hT : cx_T so ta src tgt nc L) (hk : k ≤ 24) (hi : i < k) (hlo : lo < L)
    (hM : ym_M ma G) (hS : ∀ x, x < N → (G (8 + i) x ↔ S x)) (hly : ∀ d' l x, d' ≤ 24 → l < L → x < N → (G (33 + d' * 8 + l) x ↔ pg_ly e Q N nc L src tgt d' l x)) (hst : pg_st e Q N nc L src tgt (k - i - 1) lo S cs)
    (h : ∃ n160, wY_findPath_160 post J4 (nI k) (nI (tgt cs)) (nI (i + 1)) (nI cs) (nI ((8 + i) * 64)) n160 (nI 0) (nI V) (nI T) (nI (T + 1)) (nI N) (nI L) (nI M) (nI nc) (nI ni) (nI ns) (nI nw) st rc bp wy so ta gu am pl mi ad wd ln sp fa le ma) :
    ∀ n c, nc - c < n → c ≤ cs → wY_findPath_26 post J4 (nI k) (nI lo) (nI (i + 1)) (nI ((8 + i) * 64)) (nI V) (nI T) (nI (T + 1)) (nI N) (nI L) (nI M) (nI nc) (nI ni) (nI ns) (nI nw) st rc bp wy so ta gu am pl mi ad wd ln sp fa le ma n (-1) (nI c) := by
  have hcs := hst.1
  have h143 : wY_findPath_143 post J4 (nI k) (nI (i + 1)) (nI cs) (nI ((8 + i) * 64)) (nI V) (nI T) (nI (T + 1)) (nI N) (nI L) (nI M) (nI nc) (nI ni) (nI ns) (nI nw) st rc bp wy so ta gu am pl mi ad wd ln sp fa le ma := br_t (nI_pos' (by omega)) (And.intro (pk_in cs 16 (by omega)) (nm_r (rd_i rfl (by omega) (hT cs hcs).2.2.1) h))
  intro n
  induction n with
  | zero => intro c hn; omega
  | succ n ih =>
    intro c hn hc
    refine br_f (nI_ge (show c < nc by omega) (by omega)) (br_f (by decide) (Exists.intro (N + 1) ?_))
    refine yw_fp43 (y := -1) hN hL hnc hE hB hT hk hi (by omega) hlo hM hS hly (fun q => ?_) (fun q => ih (c + 1) (by omega) ?_) (N + 1) 0 (-1) (by omega) (by omega) (Or.inl ⟨rfl, fun a ha => by omega⟩)
    · have : c = cs := by
        by_cases w : c = cs
        · exact w
        · exact absurd q (hst.2.2 c (by omega))
      subst this
      obtain ⟨m, rfl⟩ : ∃ m, n = m + 1 := ⟨n - 1, by omega⟩
      exact br_c (fun _ => h143) (fun _ => br_t (nI_pos' (by omega)) h143)
    · by_cases w : c = cs
      · subst w
        exact absurd hst.2.1 q
      · omega
theorem yw_fp160 {k i cs : Nat} {S : Nat → Prop} {G : Nat → Nat → Prop} (hN : N ≤ 64) (hL : L ≤ 8) (hnc : nc ≤ 16) (hE : cx_E e nc N sp) (hB : cx_B e nc N) (hQ : pg_eqv Q) (hT : cx_T so ta src tgt nc L) (hle : ∀ l, l < L → yd_le Q N l N le) (hk : k ≤ 24) (hi : i < k) (hc : cs < nc)
    (hM : ym_M ma G) (hS : ∀ x, x < N → (G (8 + i) x ↔ S x)) (h9 : ∀ x, ¬ G (9 + i) x) :
    ∃ (ma' : Nat → Int32) (G' : Nat → Nat → Prop), ym_M ma' G' ∧ (∀ r x, r ≠ 9 + i → (G' r x ↔ G r x)) ∧ (∀ x, x < N → (G' (9 + i) x ↔ pg_cl Q N (tgt cs) (pg_im e N cs S) x)) ∧
      ∀ (p : (SY → Prop) × (Int32 → Int32 → Int32 → Int32 → Int32 → Int32 → Int32 → Int32 → Int32 → Int32 → Int32 → Int32 → Int32 → Int32 → Int32 → Int32 → (Nat → Int32) → (Nat → Int32) → (Nat → Int32) → (Nat → Int32) → (Nat → Int32) → (Nat → Int32) → (Nat → Int32) → (Nat → Int32) → (Nat → Int32) → (Nat → Int32) → (Nat → Int32) → (Nat → Int32) → (Nat → Int32) → Prop)) n, N < n → p.2 (nI (tgt cs)) (nI (i + 1 + 1)) (nI V) (nI T) (nI (T + 1)) (nI N) (nI L) (nI M) (nI nc) (nI ni) (nI ns) (nI nw) st rc bp wy so ta gu am pl mi ad (upd wd (768 + i) (nI cs)) ln sp fa le ma' → wY_findPath_160 p.1 p.2 (nI k) (nI (tgt cs)) (nI (i + 1)) (nI cs) (nI ((8 + i) * 64)) n (nI 0) (nI V) (nI T) (nI (T + 1)) (nI N) (nI L) (nI M) (nI nc) (nI ni) (nI ns) (nI nw) st rc bp wy so ta gu am pl mi ad wd ln sp fa le ma := by
  obtain ⟨t1, t2, t3, t4⟩ := hT cs hc
  have A := lx_up (κ := (SY → Prop) × (Int32 → Int32 → Int32 → Int32 → Int32 → Int32 → Int32 → Int32 → Int32 → Int32 → Int32 → Int32 → Int32 → Int32 → Int32 → Int32 → (Nat → Int32) → (Nat → Int32) → (Nat → Int32) → (Nat → Int32) → (Nat → Int32) → (Nat → Int32) → (Nat → Int32) → (Nat → Int32) → (Nat → Int32) → (Nat → Int32) → (Nat → Int32) → (Nat → Int32) → (Nat → Int32) → Prop)) (fun p n j ma => wY_findPath_160 p.1 p.2 (nI k) (nI (tgt cs)) (nI (i + 1)) (nI cs) (nI ((8 + i) * 64)) n (nI j) (nI V) (nI T) (nI (T + 1)) (nI N) (nI L) (nI M) (nI nc) (nI ni) (nI ns) (nI nw) st rc bp wy so ta gu am pl mi ad wd ln sp fa le ma) (fun p ma => p.2 (nI (tgt cs)) (nI (i + 1 + 1)) (nI V) (nI T) (nI (T + 1)) (nI N) (nI L) (nI M) (nI nc) (nI ni) (nI ns) (nI nw) st rc bp wy so ta gu am pl mi ad (upd wd (768 + i) (nI cs)) ln sp fa le ma)
    (fun j s => ∃ G', ym_M s G' ∧ (∀ r x, r ≠ 9 + i → (G' r x ↔ G r x)) ∧ (∀ x, x < N → (G' (9 + i) x ↔ ∃ a b, a < j ∧ S a ∧ e cs a = some b ∧ Q (tgt cs) b x))) N
    (fun p n s _ hK => by
      have e1 : (768 + nI (i + 1)) - 1 = nI (768 + i) := by
        rw [ix_k 768 (i + 1) (x := 768) rfl, ← Nat.add_assoc, nI_pred]
      exact br_t (nI_le (Nat.le_refl _) (by omega)) (And.intro (pk_in _ 792 (by omega) e1) (nm_r (wr_i e1 (by omega) rfl) (nm_r (nI_1 (i + 1)) hK))))
    (by
      rintro j s hj ⟨G', h1, h2, h3⟩
      have e2 : nI ((8 + i) * 64) + nI j = nI ((8 + i) * 64 + j) := nI_add _ _
      have v2 : vp_in (nI ((8 + i) * 64) + nI j) 14912 := pk_in _ 14912 (by omega) e2
      have m2 : s (nI ((8 + i) * 64) + nI j).toNatClampNeg = 0 ↔ ¬ S j := by
        rw [e2, nI_clamp (by omega), ym_0 h1 (by omega) (by omega), h2 _ _ (by omega), hS j hj]
      have v0 : vp_in (nI cs * 64 + nI j) 1024 := pk_in (cs * 64 + j) 1024 (by omega) (ix_64 cs j)
      have ev : sp (nI cs * 64 + nI j).toNatClampNeg = pg_oI (e cs j) := rd_i (ix_64 cs j) (by omega) (hE cs j hc hj)
      have sk : (∀ b, S j → e cs j = some b → False) → ∃ G', ym_M s G' ∧ (∀ r x, r ≠ 9 + i → (G' r x ↔ G r x)) ∧ (∀ x, x < N → (G' (9 + i) x ↔ ∃ a b, a < j + 1 ∧ S a ∧ e cs a = some b ∧ Q (tgt cs) b x)) := fun q => by
        refine ⟨G', h1, h2, fun x hx => (h3 x hx).trans ⟨fun ⟨a, b, y1, y2⟩ => ⟨a, b, by omega, y2⟩, fun ⟨a, b, y1, y2, y3, y4⟩ => ⟨a, b, ?_, y2, y3, y4⟩⟩⟩
        have : a ≠ j := fun y => by rw [y] at y2 y3; exact q b y2 y3
        omega
      by_cases q : S j
      · cases q2 : e cs j with
        | none =>
          rw [q2] at ev
          have ng : sp (nI cs * 64 + nI j).toNatClampNeg < 0 := by rw [ev]; decide
          exact ⟨s, sk (fun b _ w => by rw [q2] at w; exact absurd w (by simp)), fun p n hp => br_f (nI_ge hj (by omega)) (And.intro v2 (br_f (fun w => m2.mp w q) (And.intro v0 (br_t ng (nm_r (nI_1 j) hp)))))⟩
        | some b =>
          rw [q2] at ev
          have hb := hB cs j b hc hj q2
          have nb : ¬ sp (nI cs * 64 + nI j).toNatClampNeg < 0 := by rw [ev]; exact nI_pos (show b < 2 ^ 31 by omega)
          obtain ⟨s', h4, w⟩ := yw_spread (ma := s) (V := V) (T := T) (M := M) (nc := nc) (ni := ni) (ns := ns) (nw := nw) (st := st) (rc := rc) (bp := bp) (wy := wy) (so := so) (ta := ta) (gu := gu) (am := am) (pl := pl) (mi := mi) (ad := ad) (wd := wd) (ln := ln) (sp := sp) (fa := fa) (row := 8 + (i + 1)) (l := tgt cs) (a := b) hN hL (by omega) t4 hb hQ hle h1
          refine ⟨s', ⟨_, h4, fun r x hr => ?_, fun x hx => ?_⟩, fun p n hp => br_f (nI_ge hj (by omega)) (And.intro v2 (br_f (fun w => m2.mp w q) (And.intro v0 (br_f nb (And.intro v0 ?_)))))⟩
          · rw [← h2 r x hr]
            exact ⟨fun y => y.elim id (fun y => by omega), Or.inl⟩
          · rw [h3 x hx]
            constructor
            · rintro (⟨a, b', y1, y2⟩ | ⟨y1, y2, y3⟩)
              · exact ⟨a, b', by omega, y2⟩
              · exact ⟨j, b, by omega, q, q2, y3⟩
            · rintro ⟨a, b', y1, y2, y3, y4⟩
              by_cases y : a = j
              · rw [y, q2] at y3
                cases y3
                exact Or.inr ⟨by omega, hx, y4⟩
              · exact Or.inl ⟨a, b', by omega, y2, y3, y4⟩
          · rw [ev, ix_k 8 (i + 1) (x := 8) rfl]
            exact w _ (nm_r (nI_1 j) hp)
      · exact ⟨s, sk (fun b y _ => q y), fun p n hp => br_f (nI_ge hj (by omega)) (And.intro v2 (br_t (m2.mpr q) (nm_r (nI_1 j) hp)))⟩) N 0 ma (by omega) ⟨G, hM, fun _ _ _ => Iff.rfl, fun x hx => ⟨fun y => absurd y (h9 x), fun ⟨a, b, y, _⟩ => by omega⟩⟩
  obtain ⟨s', ⟨G', h1, h2, h3⟩, w⟩ := A
  refine ⟨s', G', h1, h2, fun x hx => (h3 x hx).trans ⟨?_, ?_⟩, w⟩
  · rintro ⟨a, b, y1, y2, y3, y4⟩
    exact ⟨b, hB cs a b hc y1 y3, ⟨a, y1, y2, y3⟩, y4⟩
  · rintro ⟨b, y0, ⟨a, y1, y2, y3⟩, y4⟩
    exact ⟨a, b, y1, y2, y3, y4⟩
theorem yw_find {k : Nat} {S0 : Nat → Prop} {G : Nat → Nat → Prop} {pc lo : Nat → Nat} {SS : Nat → Nat → Prop} (hN : N ≤ 64) (hL : L ≤ 8) (hL0 : 0 < L) (hnc : nc ≤ 16) (hE : cx_E e nc N sp) (hB : cx_B e nc N) (hQ : pg_eqv Q) (hT : cx_T so ta src tgt nc L) (hle : ∀ l, l < L → yd_le Q N l N le) (hk : k ≤ 24)
    (hM : ym_M ma G) (h8 : ∀ x, G 8 x ↔ x < N ∧ S0 x) (h9 : ∀ r x, 9 ≤ r → r < 33 → ¬ G r x) (hly : ∀ d' l x, d' ≤ 24 → l < L → x < N → (G (33 + d' * 8 + l) x ↔ pg_ly e Q N nc L src tgt d' l x)) (hpt : pg_pt e Q N nc L src tgt S0 k pc lo SS) :
    ∃ ma' wd' : Nat → Int32, (∀ j, j < k → wd' (768 + j) = nI (pc j)) ∧ (∀ j, (j < 768 ∨ 768 + k ≤ j) → wd' j = wd j) ∧ ∀ post : SY → Prop, post (nI V, nI T, nI (T + 1), nI N, nI L, nI M, nI nc, nI ni, nI ns, nI nw, st, rc, bp, wy, so, ta, gu, am, pl, mi, ad, wd', upd ln 32 (nI k), sp, fa, le, ma') → wpY_findPath post (nI V, nI T, nI (T + 1), nI N, nI L, nI M, nI nc, nI ni, nI ns, nI nw, st, rc, bp, wy, so, ta, gu, am, pl, mi, ad, wd, ln, sp, fa, le, ma) (nI k) := by
  have hlo : ∀ i, i ≤ k → lo i < L := by
    intro i hi
    cases i with
    | zero => rw [hpt.1]; exact hL0
    | succ j =>
      obtain ⟨p1, p2, p3⟩ := hpt.2.2 j (by omega)
      rw [p2]
      exact (hT _ p1.1).2.2.2
  have A := lx_up (κ := SY → Prop) (σ := (Nat → Int32) × (Nat → Int32)) (fun p n i s => wY_findPath_4 p (nI k) n (nI (lo i)) (nI (i + 1)) (nI V) (nI T) (nI (T + 1)) (nI N) (nI L) (nI M) (nI nc) (nI ni) (nI ns) (nI nw) st rc bp wy so ta gu am pl mi ad s.2 ln sp fa le s.1) (fun p s => p (nI V, nI T, nI (T + 1), nI N, nI L, nI M, nI nc, nI ni, nI ns, nI nw, st, rc, bp, wy, so, ta, gu, am, pl, mi, ad, s.2, upd ln 32 (nI k), sp, fa, le, s.1))
    (fun i s => (∃ G', ym_M s.1 G' ∧ (∀ x, x < N → (G' (8 + i) x ↔ SS i x)) ∧ (∀ r x, 9 + i ≤ r → r < 33 → ¬ G' r x) ∧ (∀ d' l x, d' ≤ 24 → l < L → x < N → (G' (33 + d' * 8 + l) x ↔ pg_ly e Q N nc L src tgt d' l x))) ∧ (∀ j, j < i → s.2 (768 + j) = nI (pc j)) ∧ ∀ j, (j < 768 ∨ 768 + i ≤ j) → s.2 j = wd j) k
    (fun p n s _ hK => br_t (nI_lt (show k < k + 1 by omega) (by omega)) (nm_e hK))
    (by
      rintro i s hi ⟨⟨G', h1, h2, h3, h4⟩, h5, h6⟩
      obtain ⟨p1, p2, p3⟩ := hpt.2.2 i hi
      obtain ⟨m1, G1, y1, y2, y3, w⟩ := yw_fp160 (ma := s.1) (wd := s.2) (cs := pc i) (V := V) (T := T) (M := M) (ni := ni) (ns := ns) (nw := nw) (st := st) (rc := rc) (bp := bp) (wy := wy) (gu := gu) (am := am) (pl := pl) (mi := mi) (ad := ad) (ln := ln) (fa := fa) hN hL hnc hE hB hQ hT hle hk hi p1.1 h1 h2 (fun x => h3 (9 + i) x (by omega) (by omega))
      refine ⟨(m1, upd s.2 (768 + i) (nI (pc i))), ⟨⟨G1, y1, fun x hx => ?_, fun r x hr hr2 => ?_, fun d' l x hd hl hx => ?_⟩, fun j hj => ?_, fun j hj => ?_⟩, fun p n hp => ?_⟩
      · rw [show 8 + (i + 1) = 9 + i by omega, y3 x hx, p3]
      · rw [y2 r x (by omega)]
        exact h3 r x (by omega) hr2
      · rw [y2 _ x (by omega)]
        exact h4 d' l x hd hl hx
      · by_cases y : j = i
        · subst y
          exact pk_us
        · show upd s.2 (768 + i) (nI (pc i)) (768 + j) = _
          rw [pk_un (by omega)]
          exact h5 j (by omega)
      · show upd s.2 (768 + i) (nI (pc i)) j = _
        rw [pk_un (by omega)]
        exact h6 j (by omega)
      · have e5 : ((8 + nI (i + 1)) - 1) * 64 = nI ((8 + i) * 64) := by
          rw [ix_k 8 (i + 1) (x := 8) rfl, ← Nat.add_assoc, nI_pred]
          exact pk_mul _ 64
        refine br_f (nI_nlt (show i + 1 ≤ k by omega) (by omega)) (nm_r e5 (Exists.intro (nc + 1) ?_))
        refine yw_fp26 hN hL hnc hE hB hT hk hi (hlo i (by omega)) h1 h2 h4 p1 (Exists.intro (N + 1) (w (p, _) (N + 1) (by omega) ?_)) (nc + 1) 0 (by omega) (by omega)
        rw [← p2]
        exact hp) k 0 (ma, wd) (by omega) ⟨⟨G, hM, fun x hx => (h8 x).trans ⟨fun y => by rw [hpt.2.1]; exact y.2, fun y => ⟨hx, by rw [hpt.2.1] at y; exact y⟩⟩, h9, hly⟩, fun j hj => by omega, fun _ _ => rfl⟩
  obtain ⟨s', ⟨-, h5, h6⟩, w⟩ := A
  refine ⟨s'.1, s'.2, h5, h6, fun post hp => Exists.intro (k + 1) ?_⟩
  have := w post (k + 1) (by omega) hp
  rw [hpt.1] at this
  exact this
end
end
section
/-! the component: checks, operands, rows, atoms, classes -/
def pg_wf (V : Nat) (p0 p1 p2 p3 : Int32) : Prop := ¬ p0 < 0 ∧ ¬ nI V ≤ p0 ∧ ¬ p1 < 0 ∧ ¬ 5 < p1 ∧ ¬ p2 < -1 ∧ ¬ nI V ≤ p2 ∧ ¬ p3 < -8 ∧ ¬ 8 < p3
theorem pg_ix {V : Nat} {x : Int32} (hV : V ≤ 3) (h0 : ¬ x < 0) (h1 : ¬ nI V ≤ x) : ∃ j, j < V ∧ x = nI j := by
  rcases pk_ix x (n := V) (by omega) with h | h | h
  · exact absurd h h0
  · exact absurd h h1
  · exact h
theorem pg_wo_of {V : Nat} {x : Int32} (hV : V ≤ 3) (h0 : ¬ x < -1) (h1 : ¬ nI V ≤ x) : x = -1 ∨ ∃ j, j < V ∧ x = nI j := by
  by_cases h : x < 0
  · left
    apply Int32.toInt_inj.mp
    rw [Int32.lt_iff_toInt_lt] at h h0
    have e1 : (-1 : Int32).toInt = -1 := by decide
    have e2 : (0 : Int32).toInt = 0 := by decide
    rw [e1] at h0
    rw [e2] at h
    rw [e1]
    omega
  · exact Or.inr (pg_ix hV h h1)
def pg_va (V T N : Nat) (va we : Nat → Int32) : Prop := (∀ j a, j < V → a < N → va (j * 64 + a) = nI (a / (T + 1) ^ j % (T + 1))) ∧ ∀ x, x < 3 → we x = nI ((T + 1) ^ x)
section
variable {V T L M N nc ni ns nw : Nat} {rv st rc pn bp wt : Int32} {iS : Int64} {va we fo tt gc po mo co nx wc wl pa : Nat → Int32} {gs ss ws ce re fr ly : Nat → Int64}
theorem xw_wf {post : Int32 → Prop} {p0 p1 p2 p3 : Int32} (h1 : pg_wf V p0 p1 p2 p3 → post 1) (h0 : ¬ pg_wf V p0 p1 p2 p3 → post 0) : wpX_wellFormed post (nI V, nI T, nI L, nI M, nI N, sm_fl N, nI nc, nI ni, iS, nI ns, nI nw, rv, st, rc, pn, bp, wt, va, we, fo, tt, gc, gs, po, mo, co, nx, ss, wc, wl, ws, ce, re, fr, ly, pa) p0 p1 p2 p3 := by
  refine br_c (fun q => h0 (fun w => w.1 q)) (fun q1 => br_c (fun q => h0 (fun w => w.2.1 q)) (fun q2 => br_c (fun q => h0 (fun w => w.2.2.1 q)) (fun q3 => br_c (fun q => h0 (fun w => w.2.2.2.1 q)) (fun q4 => ?_))))
  refine br_c (fun q => br_t rfl (h0 (fun w => w.2.2.2.2.1 q))) (fun q5 => br_c (fun q => br_t rfl (h0 (fun w => w.2.2.2.2.2.1 q))) (fun q6 => br_f (by decide) ?_))
  refine br_c (fun q => br_t rfl (h0 (fun w => w.2.2.2.2.2.2.1 q))) (fun q7 => br_c (fun q => br_t rfl (h0 (fun w => w.2.2.2.2.2.2.2 q))) (fun q8 => br_f (by decide) (h1 ⟨q1, q2, q3, q4, q5, q6, q7, q8⟩)))
theorem xw_operand {post : Int32 → Prop} {a : Nat} {y : Int32} (hV : V ≤ 3) (hN : N ≤ 64) (hva : pg_va V T N va we) (ha : a < N) (hy : pg_wo V y) (h : post (pg_op (T + 1) a y)) : wpX_operand post (nI V, nI T, nI L, nI M, nI N, sm_fl N, nI nc, nI ni, iS, nI ns, nI nw, rv, st, rc, pn, bp, wt, va, we, fo, tt, gc, gs, po, mo, co, nx, ss, wc, wl, ws, ce, re, fr, ly, pa) y (nI a) := by
  rcases hy with rfl | ⟨j, hj, rfl⟩
  · rw [pg_op_m1] at h
    exact br_f (by decide) h
  · rw [pg_op_nI _ _ (by omega)] at h
    refine br_t (nI_pos' (by omega)) (And.intro (pk_in (j * 64 + a) 192 (by omega) (ix_64 j a)) ?_)
    rw [rd_i (f := va) (ix_64 j a) (by omega) (hva.1 j a hj ha)]
    exact h
theorem xw_result {post : Int32 → Prop} {c a : Nat} {am : Nat → Int32} (hV : V ≤ 3) (hT : T ≤ 7) (hN : N ≤ 64) (hva : pg_va V T N va we) (hc : c < 16) (ha : a < N) (hg : gs c = sm_of N (fun a => pg_ga (T + 1) am c a (gc c).toNatClampNeg = true)) (hw : ∀ x, x < V → pg_wo V (po (c * 3 + x)) ∧ pg_wo V (mo (c * 3 + x)))
    (h : post (pg_oI (pg_ex V T gc am po mo co c a))) : wpX_resultOf post (nI V, nI T, nI L, nI M, nI N, sm_fl N, nI nc, nI ni, iS, nI ns, nI nw, rv, st, rc, pn, bp, wt, va, we, fo, tt, gc, gs, po, mo, co, nx, ss, wc, wl, ws, ce, re, fr, ly, pa) (nI c) (nI a) := by
  refine And.intro (pk_in c 16 hc) ?_
  rw [rd_l (f := gs) (x := nI c) rfl (by omega) hg]
  unfold pg_ex at h
  refine xw_contains hN ha (fun q => br_f (by decide) ?_) (fun q => br_t rfl ?_)
  · rw [if_pos q] at h
    refine Exists.intro (V + 1) ?_
    suffices H : ∀ n x r, V - x < n → x ≤ V → pg_ea (T + 1) T po mo co c a x = some r → wX_resultOf_22 post (nI c) (nI a) (nI V) (nI T) (nI L) (nI M) (nI N) (sm_fl N) (nI nc) (nI ni) iS (nI ns) (nI nw) rv st rc pn bp wt va we fo tt gc gs po mo co nx ss wc wl ws ce re fr ly pa n (nI r) (nI x) from H (V + 1) 0 0 (by omega) (by omega) rfl
    intro n
    induction n with
    | zero => intro x r hn; omega
    | succ n ih =>
      intro x r hn hx hr
      refine pk_le V x (fun z => ?_) (fun z => ?_)
      · have : x = V := by omega
        subst this
        rw [hr] at h
        exact h
      · have e1 := ix_3 c x
        obtain ⟨w1, w2⟩ := hw x z
        have v1 : vp_in (nI c * 3 + nI x) 48 := pk_in (c * 3 + x) 48 (by omega) e1
        have cl : (nI c * 3 + nI x).toNatClampNeg = c * 3 + x := pk_cl (c * 3 + x) e1
        have cx : (nI x).toNatClampNeg = x := nI_clamp (by omega)
        refine And.intro v1 ?_
        rw [cl]
        refine xw_operand hV hN hva ha w1 (And.intro v1 (xw_operand hV hN hva ha w2 (And.intro v1 (nm_e ?_))))
        have hs : pg_ea (T + 1) T po mo co c a (x + 1) = if pg_fv (T + 1) po mo co c a x < 0 then none else if pg_fv (T + 1) po mo co c a x ≤ nI T then some (r + (pg_fv (T + 1) po mo co c a x).toNatClampNeg * (T + 1) ^ x) else none := by
          rw [pg_ea, hr]
        have bad : pg_ea (T + 1) T po mo co c a (x + 1) = none → post (-3) := fun q => by
          have := pg_ea_none q (V - (x + 1))
          rw [show x + 1 + (V - (x + 1)) = V by omega] at this
          rw [this] at h
          exact h
        refine br_c (fun q => bad (by rw [hs]; exact if_pos q)) (fun q => br_c (fun q2 => ?_) (fun q2 => bad (hs.trans ((if_neg q).trans (if_neg q2)))))
        have q' : ¬ pg_fv (T + 1) po mo co c a x < 0 := q
        have q2' : pg_fv (T + 1) po mo co c a x ≤ nI T := q2
        obtain ⟨j, hj, ej⟩ := nI_of q'
        rw [if_neg q', if_pos q2', ej, nI_clamp hj] at hs
        have ej' : pg_op (T + 1) a (po (c * 3 + x)) - pg_op (T + 1) a (mo (c * 3 + x)) + co (c * 3 + x) = nI j := ej
        rw [ej', cx, hva.2 x (by omega)]
        refine And.intro (pk_in x 3 (by omega)) (nm_r (e' := nI (r + j * (T + 1) ^ x)) (by rw [pk_mul, nI_add]) (nm_r (nI_1 x) ?_))
        exact ih (x + 1) _ (by omega) (by omega) hs
  · rw [if_neg q] at h
    exact h
theorem xw_row {post : SX → Prop} {c : Nat} {am : Nat → Int32} (hV : V ≤ 3) (hT : T ≤ 7) (hN : N ≤ 64) (hva : pg_va V T N va we) (hc : c < 16) (hg : gs c = sm_of N (fun a => pg_ga (T + 1) am c a (gc c).toNatClampNeg = true)) (hw : ∀ x, x < V → pg_wo V (po (c * 3 + x)) ∧ pg_wo V (mo (c * 3 + x)))
    (h : ∀ nx' : Nat → Int32, (∀ a, a < N → nx' (c * 64 + a) = pg_oI (pg_ex V T gc am po mo co c a)) → (∀ j, (∀ a, a < N → j ≠ c * 64 + a) → nx' j = nx j) → post (nI V, nI T, nI L, nI M, nI N, sm_fl N, nI nc, nI ni, iS, nI ns, nI nw, rv, st, rc, pn, bp, wt, va, we, fo, tt, gc, gs, po, mo, co, nx', ss, wc, wl, ws, ce, re, fr, ly, pa)) : wpX_updateRow post (nI V, nI T, nI L, nI M, nI N, sm_fl N, nI nc, nI ni, iS, nI ns, nI nw, rv, st, rc, pn, bp, wt, va, we, fo, tt, gc, gs, po, mo, co, nx, ss, wc, wl, ws, ce, re, fr, ly, pa) (nI c) := by
  refine Exists.intro (N + 1) ?_
  suffices W : ∀ n i (nx' : Nat → Int32), N - i < n → i ≤ N → (∀ a, a < i → nx' (c * 64 + a) = pg_oI (pg_ex V T gc am po mo co c a)) → (∀ j, (∀ a, a < i → j ≠ c * 64 + a) → nx' j = nx j) → wX_updateRow_2 post (nI c) (nI V) (nI T) (nI L) (nI M) (nI N) (sm_fl N) (nI nc) (nI ni) iS (nI ns) (nI nw) rv st rc pn bp wt n (nI i) va we fo tt gc gs po mo co nx' ss wc wl ws ce re fr ly pa from
    W (N + 1) 0 nx (by omega) (by omega) (fun a ha => by omega) (fun _ _ => rfl)
  intro n
  induction n with
  | zero => intro i nx' hn; omega
  | succ n ih =>
    intro i nx' hn hi h1 h2
    refine pk_le N i (fun z => ?_) (fun z => ?_)
    · have : i = N := by omega
      subst this
      exact h nx' h1 h2
    · refine xw_result hV hT hN hva hc z hg hw (And.intro (pk_in (c * 64 + i) 1024 (by omega) (ix_64 c i)) (nm_r (wr_i (ix_64 c i) (by omega) rfl) (nm_r (nI_1 i) (ih (i + 1) _ (by omega) (by omega) (fun a ha => ?_) (fun j hj => ?_)))))
      · by_cases w : a = i
        · subst w
          exact pk_us
        · rw [pk_un (by omega)]
          exact h1 a (by omega)
      · rw [pk_un (hj i (by omega))]
        exact h2 j (fun a ha => hj a (by omega))
theorem xw_compare {post : Int32 → Prop} {l rel r : Int32} (h : post (pg_bI (pg_cm l rel r))) : wpX_compare post (nI V, nI T, nI L, nI M, nI N, sm_fl N, nI nc, nI ni, iS, nI ns, nI nw, rv, st, rc, pn, bp, wt, va, we, fo, tt, gc, gs, po, mo, co, nx, ss, wc, wl, ws, ce, re, fr, ly, pa) l rel r := cm_br (post := post) (l := l) (rel := rel) (r := r) h
theorem xw_atom {post : Int64 → Prop} {j : Nat} {rel y k : Int32} (hV : V ≤ 3) (hN : N ≤ 64) (hva : pg_va V T N va we) (hj : j < V) (hy : pg_wo V y) (h : post (sm_of N (fun a => pg_hA (T + 1) (nI j) rel y k a = true))) : wpX_atomSet post (nI V, nI T, nI L, nI M, nI N, sm_fl N, nI nc, nI ni, iS, nI ns, nI nw, rv, st, rc, pn, bp, wt, va, we, fo, tt, gc, gs, po, mo, co, nx, ss, wc, wl, ws, ce, re, fr, ly, pa) (nI j) rel y k := by
  refine Exists.intro (N + 1) ?_
  suffices H : ∀ n i (r : Int64), N - i < n → i ≤ N → r = sm_of N (fun a => a < i ∧ pg_hA (T + 1) (nI j) rel y k a = true) → wX_atomSet_6 post (nI j) rel y k (nI V) (nI T) (nI L) (nI M) (nI N) (sm_fl N) (nI nc) (nI ni) iS (nI ns) (nI nw) rv st rc pn bp wt va we fo tt gc gs po mo co nx ss wc wl ws ce re fr ly pa n r (nI i) from
    H (N + 1) 0 _ (by omega) (by omega) ((sm_z N).trans (sm_cg fun b _ => ⟨False.elim, fun q => by omega⟩))
  intro n
  induction n with
  | zero => intro i r hn; omega
  | succ n ih =>
    intro i r hn hi hr
    refine pk_le N i (fun z => ?_) (fun z => ?_)
    · have : i = N := by omega
      subst this
      rw [hr, sm_cg (S' := fun a => pg_hA (T + 1) (nI j) rel y k a = true) (fun a ha => ⟨fun q => q.2, fun q => ⟨ha, q⟩⟩)]
      exact h
    · refine And.intro (pk_in (j * 64 + i) 192 (by omega) (ix_64 j i)) (nm_r (rd_i (ix_64 j i) (by omega) ((hva.1 j i hj z).trans (pg_op_nI (T + 1) i (by omega)).symm)) ?_)
      refine xw_operand hV hN hva z hy (nm_e (xw_compare ?_))
      by_cases q : pg_hA (T + 1) (nI j) rel y k i = true
      · refine br_f (fun w => pg_bI_z.mp w q) (nm_e (nm_r (nI_1 i) (ih (i + 1) _ (by omega) (by omega) ?_)))
        rw [hr]
        refine (sm_set hN _ z).trans (sm_cg fun a _ => ⟨fun w => w.elim (fun w => ⟨by omega, w.2⟩) (fun w => ⟨by omega, by rw [w]; exact q⟩), fun w => ?_⟩)
        by_cases y : a = i
        · exact Or.inr y
        · exact Or.inl ⟨by omega, w.2⟩
      · refine br_t (pg_bI_z.mpr q) (nm_r (nI_1 i) (ih (i + 1) r (by omega) (by omega) ?_))
        rw [hr]
        refine sm_cg fun a _ => ⟨fun q => ⟨by omega, q.2⟩, fun w => ⟨?_, w.2⟩⟩
        have : a ≠ i := fun y => q (y ▸ w.2)
        omega
theorem xw_splitAll {post : SX → Prop} {H : Nat → Prop} {G : Nat → Nat → Nat → Prop} (hN : N ≤ 64) (hL : L ≤ 8) (hC : cx_C G L N ce)
    (h : ∀ ce' : Nat → Int64, cx_C (fun l a b => G l a b ∧ (H a ↔ H b)) L N ce' → post (nI V, nI T, nI L, nI M, nI N, sm_fl N, nI nc, nI ni, iS, nI ns, nI nw, rv, st, rc, pn, bp, wt, va, we, fo, tt, gc, gs, po, mo, co, nx, ss, wc, wl, ws, ce', re, fr, ly, pa)) : wpX_splitEverywhere post (nI V, nI T, nI L, nI M, nI N, sm_fl N, nI nc, nI ni, iS, nI ns, nI nw, rv, st, rc, pn, bp, wt, va, we, fo, tt, gc, gs, po, mo, co, nx, ss, wc, wl, ws, ce, re, fr, ly, pa) (sm_of N H) := by
  refine Exists.intro (L + 1) ?_
  suffices W : ∀ n l (ce' : Nat → Int64), L - l < n → l ≤ L → (∀ x a, x < l → a < N → ce' (x * 64 + a) = sm_of N (fun b => G x a b ∧ (H a ↔ H b))) → (∀ x a, l ≤ x → x < L → a < N → ce' (x * 64 + a) = sm_of N (G x a)) → wX_splitEverywhere_2 post (sm_of N H) n (nI l) (nI V) (nI T) (nI L) (nI M) (nI N) (sm_fl N) (nI nc) (nI ni) iS (nI ns) (nI nw) rv st rc pn bp wt va we fo tt gc gs po mo co nx ss wc wl ws ce' re fr ly pa from
    W (L + 1) 0 ce (by omega) (by omega) (fun x a hx => by omega) (fun x a _ hx ha => hC x a hx ha)
  intro n
  induction n with
  | zero => intro l ce' hn; omega
  | succ n ih =>
    intro l ce' hn hl h1 h2
    refine pk_le L l (fun z => ?_) (fun z => ?_)
    · exact h ce' (fun x a hx ha => h1 x a (by omega) ha)
    · refine xw_split (G := G l) hN (by omega) (fun a ha => h2 l a (Nat.le_refl _) z ha) (fun ce2 h3 h4 => nm_r (nI_1 l) (ih (l + 1) ce2 (by omega) (by omega) (fun x a hx ha => ?_) (fun x a hx hx2 ha => ?_)))
      · by_cases w : x = l
        · subst w
          exact h3 a ha
        · rw [h4 _ (fun b hb => by omega)]
          exact h1 x a (by omega) ha
      · rw [h4 _ (fun b hb => by omega)]
        exact h2 x a (by omega) hx2 ha
theorem xw_reset {post : SX → Prop} {SD : Nat → Nat → Prop} (hN : N ≤ 64) (hL : L ≤ 8) (hns : ns ≤ 4) (hss : ∀ s, s < ns → ss s = sm_of N (SD s))
    (h : ∀ ce' : Nat → Int64, cx_C (fun _ a b => ∀ s, s < ns → (SD s a ↔ SD s b)) L N ce' → post (nI V, nI T, nI L, nI M, nI N, sm_fl N, nI nc, nI ni, iS, nI ns, nI nw, rv, st, rc, pn, bp, wt, va, we, fo, tt, gc, gs, po, mo, co, nx, ss, wc, wl, ws, ce', re, fr, ly, pa)) : wpX_resetCells post (nI V, nI T, nI L, nI M, nI N, sm_fl N, nI nc, nI ni, iS, nI ns, nI nw, rv, st, rc, pn, bp, wt, va, we, fo, tt, gc, gs, po, mo, co, nx, ss, wc, wl, ws, ce, re, fr, ly, pa) := by
  have P49 : ∀ n s (ce' : Nat → Int64), ns - s < n → s ≤ ns → cx_C (fun _ a b => ∀ i, i < s → (SD i a ↔ SD i b)) L N ce' → wX_resetCells_49 post n (nI s) (nI V) (nI T) (nI L) (nI M) (nI N) (sm_fl N) (nI nc) (nI ni) iS (nI ns) (nI nw) rv st rc pn bp wt va we fo tt gc gs po mo co nx ss wc wl ws ce' re fr ly pa := by
    intro n
    induction n with
    | zero => intro s ce' hn; omega
    | succ n ih =>
      intro s ce' hn hs h1
      refine pk_le ns s (fun z => ?_) (fun z => ?_)
      · have : s = ns := by omega
        subst this
        exact h ce' h1
      · refine And.intro (pk_in s 4 (by omega)) ?_
        rw [rd_l (f := ss) (x := nI s) rfl (by omega) (hss s z)]
        refine xw_splitAll hN hL h1 (fun ce2 h2 => nm_r (nI_1 s) (ih (s + 1) ce2 (by omega) (by omega) (fun l a hl ha => (h2 l a hl ha).trans (sm_cg fun b _ => ⟨fun q i hi => ?_, fun q => ⟨fun i hi => q i (by omega), q s (by omega)⟩⟩))))
        by_cases w : i = s
        · subst w
          exact q.2
        · exact q.1 i (by omega)
  have P12 : ∀ (J : Int32 → (Nat → Int32) → (Nat → Int32) → (Nat → Int32) → (Nat → Int32) → (Nat → Int32) → (Nat → Int64) → (Nat → Int32) → (Nat → Int32) → (Nat → Int32) → (Nat → Int32) → (Nat → Int64) → (Nat → Int32) → (Nat → Int32) → (Nat → Int64) → (Nat → Int64) → (Nat → Int64) → (Nat → Int64) → (Nat → Int64) → (Nat → Int32) → Prop) l, l < L → ∀ n a (ce' : Nat → Int64), N - a < n → a ≤ N → (∀ x b, (x < l ∨ x = l ∧ b < a) → b < N → ce' (x * 64 + b) = sm_fl N) → (∀ ce2 : Nat → Int64, (∀ x b, x < l + 1 → b < N → ce2 (x * 64 + b) = sm_fl N) → J (nI (l + 1)) va we fo tt gc gs po mo co nx ss wc wl ws ce2 re fr ly pa) → wX_resetCells_12 post J (nI l) (nI V) (nI T) (nI L) (nI M) (nI N) (sm_fl N) (nI nc) (nI ni) iS (nI ns) (nI nw) rv st rc pn bp wt n (nI a) va we fo tt gc gs po mo co nx ss wc wl ws ce' re fr ly pa := by
    intro J l hl n
    induction n with
    | zero => intro a ce' hn; omega
    | succ n ih =>
      intro a ce' hn ha h1 h2
      refine pk_le N a (fun z => nm_r (nI_1 l) (h2 ce' (fun x b hx hb => h1 x b (by omega) hb))) (fun z => ?_)
      refine And.intro (pk_in (l * 64 + a) 512 (by omega) (ix_64 l a)) (nm_r (wr_l (ix_64 l a) (by omega) rfl) (nm_r (nI_1 a) (ih (a + 1) _ (by omega) (by omega) (fun x b hx hb => ?_) h2)))
      by_cases w : x = l ∧ b = a
      · rw [w.1, w.2]
        exact pk_uLs
      · rw [pk_uLn (by omega)]
        exact h1 x b (by omega) hb
  refine Exists.intro (L + 1) ?_
  suffices W : ∀ n l (ce' : Nat → Int64), L - l < n → l ≤ L → (∀ x b, x < l → b < N → ce' (x * 64 + b) = sm_fl N) → wX_resetCells_2 post (nI V) (nI T) (nI L) (nI M) (nI N) (sm_fl N) (nI nc) (nI ni) iS (nI ns) (nI nw) rv st rc pn bp wt n (nI l) va we fo tt gc gs po mo co nx ss wc wl ws ce' re fr ly pa from W (L + 1) 0 ce (by omega) (by omega) (fun x b hx => by omega)
  intro n
  induction n with
  | zero => intro l ce' hn; omega
  | succ n ih =>
    intro l ce' hn hl h1
    refine pk_le L l (fun z => Exists.intro (ns + 1) (P49 (ns + 1) 0 ce' (by omega) (by omega) (fun x a hx ha => (h1 x a (by omega) ha).trans (sm_cg fun b _ => ⟨fun _ i hi => by omega, fun _ => trivial⟩)))) (fun z => Exists.intro (N + 1) ?_)
    exact P12 _ l z (N + 1) 0 ce' (by omega) (by omega) (fun x b hx hb => h1 x b (by omega) hb) (fun ce2 h2 => ih (l + 1) ce2 (by omega) (by omega) h2)
end
end
section
/-! the relation -/
def rl_D (V T L M N : Nat) : Prop := 1 ≤ V ∧ V ≤ 3 ∧ 1 ≤ T ∧ T ≤ 7 ∧ N = (T + 1) ^ V ∧ N ≤ 64 ∧ 2 ≤ L ∧ L ≤ 8 ∧ 1 ≤ M ∧ M ≤ 32
def rl_C (V T L N nc : Nat) (so ta gu am pl mi ad : Nat → Int32) (gs : Nat → Int64) (nx : Nat → Int32) : Prop :=
  nc ≤ 16 ∧ (∀ c, c < nc → (∃ l, l < L ∧ so c = nI l) ∧ (∃ l, l < L ∧ ta c = nI l) ∧ pg_wc V gu am pl mi c ∧ gs c = sm_of N (fun a => pg_ga (T + 1) am c a (gu c).toNatClampNeg = true)) ∧ cx_E (pg_ex V T gu am pl mi ad) nc N nx
def rl_I (V T N ni : Nat) (am : Nat → Int32) (iS : Int64) : Prop := ni ≤ 4 ∧ (∀ i, i < ni → pg_wa V am (48 + i)) ∧ iS = sm_of N (pg_in T ni am)
def rl_S (V T N ns : Nat) (am : Nat → Int32) (ss : Nat → Int64) : Prop := ns ≤ 4 ∧ (∀ s, s < ns → pg_wa V am (52 + s)) ∧ ∀ s, s < ns → ss s = sm_of N (fun a => pg_hd (T + 1) am (52 + s) a = true)
def rl_W (V T N M nc nw : Nat) (gu am pl mi ad wd ln wc wl : Nat → Int32) (ws : Nat → Int64) : Prop :=
  nw ≤ M ∧ yd_W nw nc wd ln ∧ (∀ j, j < 768 → wc j = wd j) ∧ (∀ p, p < 32 → wl p = ln p) ∧ ∀ p, p < nw → ws p = sm_of N (fun a => yd_wr V T gu am pl mi ad wd ln p a = true)
def rl_P (wd ln pa : Nat → Int32) (pn : Int32) : Prop := (∀ j, j < 24 → pa j = wd (768 + j)) ∧ ∃ k, k ≤ 24 ∧ pn = nI k ∧ ln 32 = nI k
def rl_E (V T L N ns nw : Nat) (so gu am pl mi ad wd ln : Nat → Int32) (ce : Nat → Int64) : Prop := cx_C (yd_Q V T ns nw gu am pl mi ad so wd ln) L N ce
def rl_src (so : Nat → Int32) (c : Nat) : Nat := (so c).toNatClampNeg
def rl_R (V T L N nc ni ns nw : Nat) (so ta gu am pl mi ad wd ln : Nat → Int32) (rv : Int32) (re : Nat → Int64) : Prop :=
  rv = 0 ∨ rv = 1 ∧ ∀ l, l < L → re l = sm_of N (pg_RR (pg_ex V T gu am pl mi ad) (yd_Q V T ns nw gu am pl mi ad so wd ln) N nc (rl_src so) (rl_src ta) (pg_in T ni am) l)
def rl_O (nw : Nat) (st wt wy : Int32) : Prop := (∃ k, k ≤ 5 ∧ st = nI k) ∧ (st = 0 → nw = 0) ∧ (st = 3 → wt = wy) ∧ (¬ st = 3 → wt = -3)
/-- the relation at the head of a turn: the same program, words and outcome on both sides; the component's sets are masks of the reference's -/
def i_Rel (_ : Nat) (u : SX) (v : SY) : Prop :=
  ∃ (V T L M N nc ni : Nat) (iS : Int64) (ns nw : Nat) (rv st rc pn bp wt : Int32) (va we so ta gu : Nat → Int32) (gs : Nat → Int64) (pl mi ad nx : Nat → Int32) (ss : Nat → Int64) (wc wl : Nat → Int32) (ws ce re fr ly : Nat → Int64) (pa : Nat → Int32) (wy : Int32) (am wd ln sp fa le ma : Nat → Int32),
    u = (nI V, nI T, nI L, nI M, nI N, sm_fl N, nI nc, nI ni, iS, nI ns, nI nw, rv, st, rc, pn, bp, wt, va, we, so, ta, gu, gs, pl, mi, ad, nx, ss, wc, wl, ws, ce, re, fr, ly, pa) ∧ v = (nI V, nI T, nI (T + 1), nI N, nI L, nI M, nI nc, nI ni, nI ns, nI nw, st, rc, bp, wy, so, ta, gu, am, pl, mi, ad, wd, ln, sp, fa, le, ma) ∧ rl_D V T L M N ∧ pg_va V T N va we ∧ rl_C V T L N nc so ta gu am pl mi ad gs nx ∧ rl_I V T N ni am iS ∧ rl_S V T N ns am ss ∧ rl_W V T N M nc nw gu am pl mi ad wd ln wc wl ws ∧ rl_P wd ln pa pn ∧ rl_E V T L N ns nw so gu am pl mi ad wd ln ce ∧ rl_R V T L N nc ni ns nw so ta gu am pl mi ad wd ln rv re ∧ rl_O nw st wt wy
section
variable {V T L M N nc ni ns nw : Nat} {rv st rc pn bp wt wy : Int32} {iS : Int64} {va we so ta gu pl mi ad nx wc wl pa am wd ln sp fa le ma : Nat → Int32} {gs ss ws ce re fr ly : Nat → Int64}
theorem rl_mk {k : Nat} (hD : rl_D V T L M N) (hV : pg_va V T N va we) (hC : rl_C V T L N nc so ta gu am pl mi ad gs nx) (hI : rl_I V T N ni am iS) (hS : rl_S V T N ns am ss) (hW : rl_W V T N M nc nw gu am pl mi ad wd ln wc wl ws) (hP : rl_P wd ln pa pn) (hE : rl_E V T L N ns nw so gu am pl mi ad wd ln ce) (hR : rl_R V T L N nc ni ns nw so ta gu am pl mi ad wd ln rv re) (hO : rl_O nw st wt wy) : i_Rel k (nI V, nI T, nI L, nI M, nI N, sm_fl N, nI nc, nI ni, iS, nI ns, nI nw, rv, st, rc, pn, bp, wt, va, we, so, ta, gu, gs, pl, mi, ad, nx, ss, wc, wl, ws, ce, re, fr, ly, pa) (nI V, nI T, nI (T + 1), nI N, nI L, nI M, nI nc, nI ni, nI ns, nI nw, st, rc, bp, wy, so, ta, gu, am, pl, mi, ad, wd, ln, sp, fa, le, ma) :=
  ⟨V, T, L, M, N, nc, ni, iS, ns, nw, rv, st, rc, pn, bp, wt, va, we, so, ta, gu, gs, pl, mi, ad, nx, ss, wc, wl, ws, ce, re, fr, ly, pa, wy, am, wd, ln, sp, fa, le, ma, rfl, rfl, hD, hV, hC, hI, hS, hW, hP, hE, hR, hO⟩
theorem rl_T (hD : rl_D V T L M N) (hC : rl_C V T L N nc so ta gu am pl mi ad gs nx) : cx_T so ta (rl_src so) (rl_src ta) nc L := by
  intro c hc
  obtain ⟨⟨l, hl, el⟩, ⟨t, ht, et⟩, -, -⟩ := hC.2.1 c hc
  have := hD.2.2.2.2.2.2.2.1
  unfold rl_src
  rw [el, et, nI_clamp (by omega), nI_clamp (by omega)]
  exact ⟨rfl, hl, rfl, ht⟩
theorem rl_yD (hD : rl_D V T L M N) (hC : rl_C V T L N nc so ta gu am pl mi ad gs nx) : yd_D V T N L nc := ⟨hD.2.1, hD.2.2.2.1, hD.2.2.2.2.1, hD.2.2.2.2.2.1, hD.2.2.2.2.2.2.2.1, by have := hD.2.2.2.2.2.2.1; omega, hC.1⟩
theorem yd_wr_cg {wd' ln' : Nat → Int32} {p len : Nat} (hl : ln p = nI len) (hl2 : len ≤ 24) (e1 : ln' p = ln p) (e2 : ∀ m, m < 24 → wd' (p * 24 + m) = wd (p * 24 + m)) (a : Nat) : yd_wr V T gu am pl mi ad wd' ln' p a = yd_wr V T gu am pl mi ad wd ln p a := by
  unfold yd_wr
  rw [e1, hl, nI_clamp (by omega), pg_rn_cg (w := pg_w wd') (w' := pg_w wd) (i' := p * 24) (fun j hj => by unfold pg_w; rw [e2 j (by omega)]) a]
theorem yd_Q_cg {wd' ln' : Nat → Int32} (hW : yd_W nw nc wd ln) (e1 : ∀ p, p < nw → ln' p = ln p) (e2 : ∀ p m, p < nw → m < 24 → wd' (p * 24 + m) = wd (p * 24 + m)) : yd_Q V T ns nw gu am pl mi ad so wd' ln' = yd_Q V T ns nw gu am pl mi ad so wd ln := by
  have k1 : ∀ p, p < nw → pg_w wd' (p * 24) = pg_w wd (p * 24) := fun p hp => by
    have := e2 p 0 hp (by omega)
    rw [Nat.add_zero] at this
    unfold pg_w
    rw [this]
  have k2 : ∀ p a, p < nw → yd_wr V T gu am pl mi ad wd' ln' p a = yd_wr V T gu am pl mi ad wd ln p a := fun p a hp => by
    obtain ⟨len, _, hl2, hl, _⟩ := hW.2 p hp
    exact yd_wr_cg hl hl2 (e1 p hp) (fun m hm => e2 p m hp hm) a
  funext l a b
  apply propext
  unfold yd_Q pg_Q
  constructor
  · rintro ⟨h1, h2⟩
    refine ⟨h1, fun p hp hl => ?_⟩
    rw [← k2 p a hp, ← k2 p b hp]
    exact h2 p hp (by dsimp only; rw [k1 p hp]; exact hl)
  · rintro ⟨h1, h2⟩
    refine ⟨h1, fun p hp hl => ?_⟩
    rw [k2 p a hp, k2 p b hp]
    exact h2 p hp (by dsimp only; rw [← k1 p hp]; exact hl)
theorem yd_Q_0 {l a b : Nat} : yd_Q V T ns 0 gu am pl mi ad so wd ln l a b ↔ ∀ s, s < ns → pg_hd (T + 1) am (52 + s) a = pg_hd (T + 1) am (52 + s) b :=
  ⟨fun h => h.1, fun h => ⟨h, fun p hp => by omega⟩⟩
end
theorem rl_el {P : SX → SY → Prop} (h : ∀ (V : Nat) (T : Nat) (L : Nat) (M : Nat) (N : Nat) (nc : Nat) (ni : Nat) (iS : Int64) (ns : Nat) (nw : Nat) (rv : Int32) (st : Int32) (rc : Int32) (pn : Int32) (bp : Int32) (wt : Int32) (va : Nat → Int32) (we : Nat → Int32) (so : Nat → Int32) (ta : Nat → Int32) (gu : Nat → Int32) (gs : Nat → Int64) (pl : Nat → Int32) (mi : Nat → Int32) (ad : Nat → Int32) (nx : Nat → Int32) (ss : Nat → Int64) (wc : Nat → Int32) (wl : Nat → Int32) (ws : Nat → Int64) (ce : Nat → Int64) (re : Nat → Int64) (fr : Nat → Int64) (ly : Nat → Int64) (pa : Nat → Int32) (wy : Int32) (am : Nat → Int32) (wd : Nat → Int32) (ln : Nat → Int32) (sp : Nat → Int32) (fa : Nat → Int32) (le : Nat → Int32) (ma : Nat → Int32), rl_D V T L M N → pg_va V T N va we → rl_C V T L N nc so ta gu am pl mi ad gs nx → rl_I V T N ni am iS → rl_S V T N ns am ss → rl_W V T N M nc nw gu am pl mi ad wd ln wc wl ws → rl_P wd ln pa pn → rl_E V T L N ns nw so gu am pl mi ad wd ln ce → rl_R V T L N nc ni ns nw so ta gu am pl mi ad wd ln rv re → rl_O nw st wt wy → P (nI V, nI T, nI L, nI M, nI N, sm_fl N, nI nc, nI ni, iS, nI ns, nI nw, rv, st, rc, pn, bp, wt, va, we, so, ta, gu, gs, pl, mi, ad, nx, ss, wc, wl, ws, ce, re, fr, ly, pa) (nI V, nI T, nI (T + 1), nI N, nI L, nI M, nI nc, nI ni, nI ns, nI nw, st, rc, bp, wy, so, ta, gu, am, pl, mi, ad, wd, ln, sp, fa, le, ma)) {k : Nat} {u : SX} {v : SY} (I : i_Rel k u v) : P u v :=
  I.elim fun V I => I.elim fun T I => I.elim fun L I => I.elim fun M I => I.elim fun N I => I.elim fun nc I => I.elim fun ni I => I.elim fun iS I => I.elim fun ns I => I.elim fun nw I => I.elim fun rv I => I.elim fun st I => I.elim fun rc I => I.elim fun pn I => I.elim fun bp I => I.elim fun wt I => I.elim fun va I => I.elim fun we I => I.elim fun so I => I.elim fun ta I => I.elim fun gu I => I.elim fun gs I => I.elim fun pl I => I.elim fun mi I => I.elim fun ad I => I.elim fun nx I => I.elim fun ss I => I.elim fun wc I => I.elim fun wl I => I.elim fun ws I => I.elim fun ce I => I.elim fun re I => I.elim fun fr I => I.elim fun ly I => I.elim fun pa I => I.elim fun wy I => I.elim fun am I => I.elim fun wd I => I.elim fun ln I => I.elim fun sp I => I.elim fun fa I => I.elim fun le I => I.elim fun ma I => by
    obtain ⟨rfl, rfl, h1, h2, h3, h4, h5, h6, h7, h8, h9, h10⟩ := I
    exact h V T L M N nc ni iS ns nw rv st rc pn bp wt va we so ta gu gs pl mi ad nx ss wc wl ws ce re fr ly pa wy am wd ln sp fa le ma h1 h2 h3 h4 h5 h6 h7 h8 h9 h10
end
section
/-! learning in lockstep -/
section
variable {V T L M N nc ni ns nw : Nat} {rv st rc pn bp wt wy : Int32} {iS : Int64} {va we so ta gu pl mi ad nx wc wl pa am wd ln sp fa le ma : Nat → Int32} {gs ss ws ce re fr ly : Nat → Int64}
/-- the reference appends a word -/
theorem yw_app {f jb : Nat} (hw : nw < 32) (hf : f < jb) (hj : jb ≤ 24) : ∃ wd' : Nat → Int32, ((∀ q, q < jb - f → wd' (nw * 24 + q) = wd (768 + f + q)) ∧ ∀ j, (∀ q, q < jb - f → j ≠ nw * 24 + q) → wd' j = wd j) ∧
    ∀ (p : (SY → Prop) × (Int32 → Int32 → (Nat → Int32) → (Nat → Int32) → (Nat → Int32) → (Nat → Int32) → (Nat → Int32) → (Nat → Int32) → (Nat → Int32) → (Nat → Int32) → (Nat → Int32) → (Nat → Int32) → (Nat → Int32) → (Nat → Int32) → (Nat → Int32) → Prop)) n, jb - f < n → p.2 (nI f) (nI (nw + 1)) so ta gu am pl mi ad wd' (upd ln nw (nI (jb - f))) sp fa le ma → wY_round_254 p.1 p.2 (nI (f + 1)) (nI V) (nI T) (nI (T + 1)) (nI N) (nI L) (nI M) (nI nc) (nI ni) (nI ns) (nI nw) st rc (nI jb) wy n (nI 0) so ta gu am pl mi ad wd ln sp fa le ma := by
  have e0 : nI jb - nI (f + 1) = nI (jb - f - 1) := (pk_sub (by omega)).trans (congrArg nI (by omega))
  refine lx_up (κ := (SY → Prop) × (Int32 → Int32 → (Nat → Int32) → (Nat → Int32) → (Nat → Int32) → (Nat → Int32) → (Nat → Int32) → (Nat → Int32) → (Nat → Int32) → (Nat → Int32) → (Nat → Int32) → (Nat → Int32) → (Nat → Int32) → (Nat → Int32) → (Nat → Int32) → Prop)) (fun p n m wd => wY_round_254 p.1 p.2 (nI (f + 1)) (nI V) (nI T) (nI (T + 1)) (nI N) (nI L) (nI M) (nI nc) (nI ni) (nI ns) (nI nw) st rc (nI jb) wy n (nI m) so ta gu am pl mi ad wd ln sp fa le ma) (fun p wd => p.2 (nI f) (nI (nw + 1)) so ta gu am pl mi ad wd (upd ln nw (nI (jb - f))) sp fa le ma) (fun m s => (∀ q, q < m → s (nw * 24 + q) = wd (768 + f + q)) ∧ ∀ j, (∀ q, q < m → j ≠ nw * 24 + q) → s j = wd j) (jb - f) ?_ ?_ (jb - f) 0 wd (by omega) ⟨fun q hq => by omega, fun _ _ => rfl⟩
  · intro p n s _ hK
    refine br_t ?_ (And.intro (pk_in nw 33 (by omega)) (nm_r (wr_i (n := nw) (z := nI (jb - f)) rfl (by omega) ?_) (nm_r (nI_1 nw) (nm_r (pk_m1 f) hK))))
    · rw [e0]
      exact nI_lt (by omega) (by omega)
    · rw [e0, nI_1]
      exact congrArg nI (by omega)
  · rintro m s hm ⟨h1, h2⟩
    have e1 : (768 + nI (f + 1)) - 1 + nI m = nI (768 + f + m) := by
      rw [ix_k 768 (f + 1) (x := 768) rfl, ← Nat.add_assoc, nI_pred, nI_add]
    have e2 := ix_24 nw m
    have er : s ((768 + nI (f + 1)) - 1 + nI m).toNatClampNeg = wd (768 + f + m) := rd_i e1 (by omega) (h2 _ (fun q hq => by omega))
    refine ⟨upd s (nw * 24 + m) (wd (768 + f + m)), ⟨fun q hq => ?_, fun j hj => ?_⟩, fun p n hp => br_f ?_ (And.intro (pk_in _ 792 (by omega) e1) (And.intro (pk_in _ 792 (by omega) e2) (nm_r (wr_i e2 (by omega) er) (nm_r (nI_1 m) hp))))⟩
    · by_cases w : q = m
      · subst w
        exact pk_us
      · rw [pk_un (by omega)]
        exact h1 q (by omega)
    · rw [pk_un (hj m (by omega))]
      exact h2 j (fun q hq => hj q (by omega))
    · rw [e0]
      exact nI_nlt (by omega) (by omega)
theorem ld_iff {f jb : Nat} (hM : M ≤ 32) (hj : jb ≤ 24) (hf : f < jb) (hW : rl_W V T N M nc nw gu am pl mi ad wd ln wc wl ws) (hP : ∀ j, j < 24 → pa j = wd (768 + j)) : xl_LD nw wc wl pa f (jb - f) ↔ yl_LD nw wd ln f (jb - f) := by
  obtain ⟨w1, w2, w3, w4, w5⟩ := hW
  constructor
  · rintro ⟨p, hp, h1, h2⟩
    refine ⟨p, hp, by rw [← w4 p (by omega)]; exact h1, fun m hm => ?_⟩
    rw [← w3 _ (by omega), h2 m hm, hP _ (by omega), Nat.add_assoc]
  · rintro ⟨p, hp, h1, h2⟩
    refine ⟨p, hp, by rw [w4 p (by omega)]; exact h1, fun m hm => ?_⟩
    rw [w3 _ (by omega), h2 m hm, hP _ (by omega), Nat.add_assoc]
/-- the relation of the words after one more word -/
theorem rl_app {f jb c : Nat} {wc' wd' : Nat → Int32} {ce' : Nat → Int64} (hD : rl_D V T L M N) (hC : rl_C V T L N nc so ta gu am pl mi ad gs nx) (hW : rl_W V T N M nc nw gu am pl mi ad wd ln wc wl ws) (hP : ∀ j, j < 24 → pa j = wd (768 + j)) (hE : rl_E V T L N ns nw so gu am pl mi ad wd ln ce) (hlt : nw < M) (hf : f < jb) (hj : jb ≤ 24) (hpc : ∀ j, j < jb → ∃ c, c < nc ∧ wd (768 + j) = nI c) (hc : c < nc) (hcf : wd (768 + f) = nI c)
    (a1 : ∀ q, q < jb - f → wd' (nw * 24 + q) = wd (768 + f + q)) (a2 : ∀ j, (∀ q, q < jb - f → j ≠ nw * 24 + q) → wd' j = wd j)
    (b1 : ∀ m, m < jb - f → wc' (nw * 24 + m) = pa (f + m)) (b2 : ∀ j, (∀ m, m < jb - f → j ≠ nw * 24 + m) → wc' j = wc j)
    (c1 : ∀ a, a < N → ce' (rl_src so c * 64 + a) = sm_of N (fun b => (yd_Q V T ns nw gu am pl mi ad so wd ln) (rl_src so c) a b ∧ ((pg_rn (pg_ex V T gu am pl mi ad) (pg_w wd) (jb - f) (768 + f) a).isSome = true ↔ (pg_rn (pg_ex V T gu am pl mi ad) (pg_w wd) (jb - f) (768 + f) b).isSome = true))) (c2 : ∀ j, (∀ a, a < N → j ≠ rl_src so c * 64 + a) → ce' j = ce j) :
    rl_W V T N M nc (nw + 1) gu am pl mi ad wd' (upd ln nw (nI (jb - f))) wc' (upd wl nw (nI (jb - f))) (vp_updL ws nw (sm_of N (fun a => (pg_rn (pg_ex V T gu am pl mi ad) (pg_w wd) (jb - f) (768 + f) a).isSome = true))) ∧ rl_E V T L N ns (nw + 1) so gu am pl mi ad wd' (upd ln nw (nI (jb - f))) ce' ∧ (∀ j, j < 24 → pa j = wd' (768 + j)) := by
  obtain ⟨w1, w2, w3, w4, w5⟩ := hW
  have hM := hD.2.2.2.2.2.2.2.2.2
  have hL8 := hD.2.2.2.2.2.2.2.1
  have hN64 := hD.2.2.2.2.2.1
  have hc16 := hC.1
  have ol : ∀ p, p < nw → upd ln nw (nI (jb - f)) p = ln p := fun p hp => pk_un (by omega)
  have ow : ∀ p m, p < nw → m < 24 → wd' (p * 24 + m) = wd (p * 24 + m) := fun p m hp hm => a2 _ (fun q hq => by omega)
  have hwr : ∀ p a, p < nw → yd_wr V T gu am pl mi ad wd' (upd ln nw (nI (jb - f))) p a = yd_wr V T gu am pl mi ad wd ln p a := fun p a hp => by
    obtain ⟨len, _, hl2, hl, _⟩ := w2.2 p hp
    exact yd_wr_cg hl hl2 (ol p hp) (fun m hm => ow p m hp hm) a
  have hwn : ∀ a, yd_wr V T gu am pl mi ad wd' (upd ln nw (nI (jb - f))) nw a = (pg_rn (pg_ex V T gu am pl mi ad) (pg_w wd) (jb - f) (768 + f) a).isSome := fun a => by
    unfold yd_wr
    rw [pk_us, nI_clamp (by omega), pg_rn_cg (w := pg_w wd') (w' := pg_w wd) (i' := 768 + f) (fun j hj => by unfold pg_w; rw [a1 j hj]) a]
  have hsn : (so (pg_w wd' (nw * 24))).toNatClampNeg = rl_src so c := by
    have := a1 0 (by omega)
    rw [Nat.add_zero, Nat.add_zero, hcf] at this
    unfold pg_w rl_src
    rw [this, nI_clamp (by omega)]
  have hso : ∀ p, p < nw → (so (pg_w wd' (p * 24))).toNatClampNeg = (so (pg_w wd (p * 24))).toNatClampNeg := fun p hp => by
    have := ow p 0 hp (by omega)
    rw [Nat.add_zero] at this
    unfold pg_w
    rw [this]
  have hQ : ∀ l a b, yd_Q V T ns (nw + 1) gu am pl mi ad so wd' (upd ln nw (nI (jb - f))) l a b ↔ (yd_Q V T ns nw gu am pl mi ad so wd ln) l a b ∧ (rl_src so c = l → ((pg_rn (pg_ex V T gu am pl mi ad) (pg_w wd) (jb - f) (768 + f) a).isSome = true ↔ (pg_rn (pg_ex V T gu am pl mi ad) (pg_w wd) (jb - f) (768 + f) b).isSome = true)) := by
    intro l a b
    constructor
    · rintro ⟨h1, h2⟩
      refine ⟨⟨h1, fun p hp hl => ?_⟩, fun hl => ?_⟩
      · have := h2 p (by omega) ((hso p hp).trans hl)
        rw [hwr p a hp, hwr p b hp] at this
        exact this
      · have := h2 nw (by omega) (hsn.trans hl)
        rw [hwn a, hwn b] at this
        rw [this]
    · rintro ⟨⟨h1, h2⟩, h3⟩
      refine ⟨h1, fun p hp hl => ?_⟩
      by_cases y : p = nw
      · subst y
        have hl := hsn.symm.trans hl
        rw [hwn a, hwn b]
        exact Bool.eq_iff_iff.mpr (h3 hl)
      · rw [hwr p a (by omega), hwr p b (by omega)]
        have hl := (hso p (by omega)).symm.trans hl
        exact h2 p (by omega) hl
  refine ⟨⟨by omega, ⟨by omega, fun p hp => ?_⟩, fun j hj => ?_, fun p hp => ?_, fun p hp => ?_⟩, fun l a hl ha => ?_, fun j hj => ?_⟩
  · by_cases y : p = nw
    · subst y
      refine ⟨jb - f, by omega, by omega, pk_us, fun m hm => ?_⟩
      rw [a1 m hm, Nat.add_assoc]
      exact hpc _ (by omega)
    · obtain ⟨len, hl1, hl2, hl, hm⟩ := w2.2 p (by omega)
      exact ⟨len, hl1, hl2, by rw [ol p (by omega)]; exact hl, fun m hm2 => by rw [ow p m (by omega) (by omega)]; exact hm m hm2⟩
  · by_cases y : ∃ q, q < jb - f ∧ j = nw * 24 + q
    · obtain ⟨q, hq, rfl⟩ := y
      rw [b1 q hq, a1 q hq, hP _ (by omega), Nat.add_assoc]
    · rw [b2 j (fun q hq e => y ⟨q, hq, e⟩), a2 j (fun q hq e => y ⟨q, hq, e⟩)]
      exact w3 j hj
  · by_cases y : p = nw
    · subst y
      rw [pk_us, pk_us]
    · rw [pk_un y, pk_un y]
      exact w4 p hp
  · by_cases y : p = nw
    · subst y
      rw [pk_uLs]
      exact sm_cg fun a _ => by rw [hwn a]
    · rw [pk_uLn y, w5 p (by omega)]
      exact sm_cg fun a _ => by rw [hwr p a (by omega)]
  · by_cases y : l = rl_src so c
    · subst y
      rw [c1 a ha]
      exact sm_cg fun b _ => by
        rw [hQ]
        exact ⟨fun q => ⟨q.1, fun _ => q.2⟩, fun q => ⟨q.1, q.2 rfl⟩⟩
    · rw [c2 _ (fun b hb => by omega), hE l a hl ha]
      exact sm_cg fun b _ => by
        rw [hQ]
        exact ⟨fun q => ⟨q, fun w => absurd w.symm y⟩, fun q => q.1⟩
  · rw [a2 _ (fun q hq => by omega)]
    exact hP j hj
end
theorem yl_mono {nw : Nat} {wd ln wd' : Nat → Int32} {jb f g : Nat} (hn : nw < 32) (hf : f < jb) (hg : g < jb) (hj : jb ≤ 24) (a2 : ∀ j, (∀ q, q < jb - g → j ≠ nw * 24 + q) → wd' j = wd j) (h : yl_LD nw wd ln f (jb - f)) : yl_LD (nw + 1) wd' (upd ln nw (nI (jb - g))) f (jb - f) := by
  obtain ⟨p, hp, h1, h2⟩ := h
  refine ⟨p, by omega, by rw [pk_un (by omega)]; exact h1, fun m hm => ?_⟩
  rw [a2 _ (fun q hq => by omega), a2 _ (fun q hq => by omega)]
  exact h2 m hm
section
variable {V T L M N nc ni ns nw : Nat} {rv st rc pn bp wt wy : Int32} {iS : Int64} {va we so ta gu pl mi ad nx wc wl pa am wd ln sp fa le ma : Nat → Int32} {gs ss ws ce re fr ly : Nat → Int64}
/-- both append loops, from place i down -/
theorem jn_learn {jb : Nat} {post : SX → Prop} (hD : rl_D V T L M N) (hC : rl_C V T L N nc so ta gu am pl mi ad gs nx) (hj : jb ≤ 24) :
    ∀ i (nw : Nat) (wc wl : Nat → Int32) (ws ce : Nat → Int64) (wd ln : Nat → Int32) (x : Int64), i ≤ jb → rl_W V T N M nc nw gu am pl mi ad wd ln wc wl ws → rl_E V T L N ns nw so gu am pl mi ad wd ln ce → (∀ j, j < 24 → pa j = wd (768 + j)) → (∀ j, j < jb → ∃ c, c < nc ∧ wd (768 + j) = nI c) → x = sm_of N (fun a => (pg_rn (pg_ex V T gu am pl mi ad) (pg_w wd) (jb - i) (768 + i) a).isSome = true) →
      nw + cn_n (fun f => ¬ yl_LD nw wd ln f (jb - f)) i ≤ M →
      (∀ (nw' : Nat) (wc' wl' : Nat → Int32) (ws' ce' : Nat → Int64) (wd' ln' : Nat → Int32), rl_W V T N M nc nw' gu am pl mi ad wd' ln' wc' wl' ws' → rl_E V T L N ns nw' so gu am pl mi ad wd' ln' ce' → (∀ j, j < 24 → pa j = wd' (768 + j)) → ln' 32 = ln 32 →
        (∀ (Q : SY → Prop) n, i < n → Q (nI V, nI T, nI (T + 1), nI N, nI L, nI M, nI nc, nI ni, nI ns, nI nw', 1, rc, nI jb, wy, so, ta, gu, am, pl, mi, ad, wd', ln', sp, fa, le, ma) → wY_round_226 Q (nI V) (nI T) (nI (T + 1)) (nI N) (nI L) (nI M) (nI nc) (nI ni) (nI ns) 1 rc (nI jb) wy n (nI i) (nI nw) so ta gu am pl mi ad wd ln sp fa le ma) → post (nI V, nI T, nI L, nI M, nI N, sm_fl N, nI nc, nI ni, iS, nI ns, nI nw', 0, 1, rc, pn, bp, wt, va, we, so, ta, gu, gs, pl, mi, ad, nx, ss, wc', wl', ws', ce', re, fr, ly, pa)) →
      wX_learn_57 post (nI jb) (i + 1) x (nI i - 1) (nI V) (nI T) (nI L) (nI M) (nI N) (sm_fl N) (nI nc) (nI ni) iS (nI ns) (nI nw) rv st rc pn bp wt va we so ta gu gs pl mi ad nx ss wc wl ws ce re fr ly pa := by
  have hL8 := hD.2.2.2.2.2.2.2.1
  have hN64 := hD.2.2.2.2.2.1
  have hM := hD.2.2.2.2.2.2.2.2.2
  have hc16 := hC.1
  have hT := rl_T hD hC
  have hEx := hC.2.2
  have hB : cx_B (pg_ex V T gu am pl mi ad) nc N := yd_B (rl_yD hD hC)
  intro i
  induction i with
  | zero =>
    intro nw wc wl ws ce wd ln x hi hW hE hP hpc hx hn h
    refine br_t pj_0 (h nw wc wl ws ce wd ln hW hE hP rfl (fun Q n hn hq => ?_))
    obtain ⟨m, rfl⟩ : ∃ m, n = m + 1 := ⟨n - 1, by omega⟩
    exact br_t (by decide) hq
  | succ f ih =>
    intro nw wc wl ws ce wd ln x hi hW hE hP hpc hx hn h
    subst hx
    obtain ⟨c, hc, hcf⟩ := hpc f (by omega)
    have epa : pa (nI (f + 1) - 1).toNatClampNeg = nI c := rd_i (nI_pred f) (by omega) ((hP f (by omega)).trans hcf)
    have hw32 := hW.1
    have ew : pg_w wd (768 + f) = c := by
      unfold pg_w
      rw [hcf, nI_clamp (by omega)]
    have eset : sm_of N (pg_pr (pg_ex V T gu am pl mi ad) c (fun a => (pg_rn (pg_ex V T gu am pl mi ad) (pg_w wd) (jb - (f + 1)) (768 + (f + 1)) a).isSome = true)) = sm_of N (fun a => (pg_rn (pg_ex V T gu am pl mi ad) (pg_w wd) (jb - f) (768 + f) a).isSome = true) := by
      refine sm_cg fun a _ => ?_
      rw [show jb - f = jb - (f + 1) + 1 by omega]
      unfold pg_pr
      cases q : (pg_ex V T gu am pl mi ad) c a with
      | none =>
        rw [pg_rn_n (by rw [ew]; exact q)]
        simp
      | some b =>
        rw [pg_rn_s (by rw [ew]; exact q), ← Nat.add_assoc]
        simp
    refine br_f (pj_s (by omega)) (And.intro (pk_in f 24 (by omega) (nI_pred f)) ?_)
    rw [epa]
    refine xw_pre hN64 hc16 hc hEx hB ?_
    rw [eset, pj_1, nI_pred]
    have yl : ∀ (Q : SY → Prop) (n : Nat), (yl_LD nw wd ln f (jb - f) → wY_round_226 Q (nI V) (nI T) (nI (T + 1)) (nI N) (nI L) (nI M) (nI nc) (nI ni) (nI ns) 1 rc (nI jb) wy n (nI f) (nI nw) so ta gu am pl mi ad wd ln sp fa le ma) → (¬ yl_LD nw wd ln f (jb - f) → ∃ n254, wY_round_254 Q (wY_round_226 Q (nI V) (nI T) (nI (T + 1)) (nI N) (nI L) (nI M) (nI nc) (nI ni) (nI ns) 1 rc (nI jb) wy n) (nI (f + 1)) (nI V) (nI T) (nI (T + 1)) (nI N) (nI L) (nI M) (nI nc) (nI ni) (nI ns) (nI nw) 1 rc (nI jb) wy n254 (nI 0) so ta gu am pl mi ad wd ln sp fa le ma) → wY_round_226 Q (nI V) (nI T) (nI (T + 1)) (nI N) (nI L) (nI M) (nI nc) (nI ni) (nI ns) 1 rc (nI jb) wy (n + 1) (nI (f + 1)) (nI nw) so ta gu am pl mi ad wd ln sp fa le ma := by
      intro Q n g1 g0
      refine br_f (nI_nlt (a := f + 1) (b := 1) (by omega) (by omega)) (br_t rfl ?_)
      exact yw_learned (by omega) (by omega) hj (fun q => br_f (by decide) (nm_r (pk_m1 f) (g1 q))) (fun q => br_t rfl (g0 q))
    refine xw_isl (by omega) (by omega) hj (fun q => br_f (by decide) (nm_e ?_)) (fun q => br_t rfl ?_)
    · have q' := (ld_iff hM hj (by omega) hW hP).mp q
      refine ih nw wc wl ws ce wd ln _ (by omega) hW hE hP hpc rfl ?_ (fun nw' wc' wl' ws' ce' wd' ln' h1 h2 h3 h4 h5 => h nw' wc' wl' ws' ce' wd' ln' h1 h2 h3 h4 (fun Q n hn hq => ?_))
      · simp only [cn_n] at hn
        omega
      · obtain ⟨m, rfl⟩ : ∃ m, n = m + 1 := ⟨n - 1, by omega⟩
        exact yl Q m (fun _ => h5 Q m (by omega) hq) (fun w => absurd q' w)
    · have q' : ¬ yl_LD nw wd ln f (jb - f) := fun w => q ((ld_iff hM hj (by omega) hW hP).mpr w)
      have hlt : nw < M := by
        simp only [cn_n] at hn
        rw [cn_1t q'] at hn
        omega
      obtain ⟨wd', ⟨a1, a2⟩, w⟩ := yw_app (wd := wd) (ln := ln) (V := V) (T := T) (L := L) (M := M) (N := N) (nc := nc) (ni := ni) (ns := ns) (nw := nw) (st := 1) (rc := rc) (wy := wy) (so := so) (ta := ta) (gu := gu) (am := am) (pl := pl) (mi := mi) (ad := ad) (sp := sp) (fa := fa) (le := le) (ma := ma) (f := f) (jb := jb) (by omega) (by omega) hj
      refine xw_append (G := fun a b => (yd_Q V T ns nw gu am pl mi ad so wd ln) (rl_src so c) a b) hN64 hL8 hc16 hT (by omega) (by omega) hj ((hP f (by omega)).trans hcf) hc (fun a ha => hE _ a (hT c hc).2.1 ha) (fun wc' ce' b1 b2 c1 c2 => nm_e ?_)
      obtain ⟨r1, r2, r3⟩ := rl_app (pa := pa) hD hC hW hP hE hlt (by omega) hj hpc hc hcf a1 a2 b1 b2 c1 c2
      have o7 : ∀ j, j < 24 → wd' (768 + j) = wd (768 + j) := fun j hj2 => a2 _ (fun q hq => by omega)
      refine ih (nw + 1) wc' _ _ ce' wd' (upd ln nw (nI (jb - f))) _ (by omega) r1 r2 r3 (fun j hj2 => by rw [o7 j (by omega)]; exact hpc j hj2) ?_ ?_ (fun nw' wc2 wl' ws' ce2 wd2 ln' h1 h2 h3 h4 h5 => h nw' wc2 wl' ws' ce2 wd2 ln' h1 h2 h3 ?_ (fun Q n hn hq => ?_))
      · refine sm_cg fun a _ => ?_
        rw [pg_rn_cg (w := pg_w wd) (w' := pg_w wd') (i' := 768 + f) (fun j hj2 => by unfold pg_w; rw [Nat.add_assoc, o7 _ (by omega)]) a]
      · have hm : cn_n (fun g => ¬ yl_LD (nw + 1) wd' (upd ln nw (nI (jb - f))) g (jb - g)) f ≤ cn_n (fun g => ¬ yl_LD nw wd ln g (jb - g)) f := cn_m (fun g hg w y => w (yl_mono (by omega) (by omega) (by omega) hj a2 y))
        simp only [cn_n] at hn
        rw [cn_1t q'] at hn
        omega
      · rw [h4]
        exact pk_un (by omega)
      · obtain ⟨m, rfl⟩ : ∃ m, n = m + 1 := ⟨n - 1, by omega⟩
        exact yl Q m (fun w => absurd w q') (fun _ => Exists.intro (jb - f + 1) (w (Q, _) (jb - f + 1) (by omega) (h5 Q m (by omega) hq)))
end
end
section
/-! a round in lockstep -/
section
variable {V T N L M nc ni ns nw : Nat} {st rc bp wy : Int32} {so ta gu am pl mi ad wd ln sp fa le ma : Nat → Int32}
theorem yw_r40 {post : SY → Prop} {G : Nat → Nat → Prop} {f : Int32} (hN : N ≤ 64) (hL : L ≤ 8) (hL0 : 0 < L) (hM : ym_M ma G) (hf : (f = 2 ∧ ∀ a, a < N → ¬ G (L - 1) a) ∨ (f = 1 ∧ ∃ a, a < N ∧ G (L - 1) a)) (h : wY_round_40 post (nI V) (nI T) (nI (T + 1)) (nI N) (nI L) (nI M) (nI nc) (nI ni) (nI ns) (nI nw) rc bp wy so ta gu am pl mi ad wd ln sp fa le ma 1 (nI N) f) : ∃ n, wY_round_40 post (nI V) (nI T) (nI (T + 1)) (nI N) (nI L) (nI M) (nI nc) (nI ni) (nI ns) (nI nw) rc bp wy so ta gu am pl mi ad wd ln sp fa le ma n 0 2 := by
  refine ⟨N + 1, ?_⟩
  suffices H : ∀ d i g, i + d = N → ((g = 2 ∧ ∀ a, a < i → ¬ G (L - 1) a) ∨ (g = 1 ∧ ∃ a, a < i ∧ G (L - 1) a)) → wY_round_40 post (nI V) (nI T) (nI (T + 1)) (nI N) (nI L) (nI M) (nI nc) (nI ni) (nI ns) (nI nw) rc bp wy so ta gu am pl mi ad wd ln sp fa le ma (d + 1) (nI i) g from
    H N 0 2 (by omega) (Or.inl ⟨rfl, fun a ha => by omega⟩)
  intro d
  induction d with
  | zero =>
    intro i g hi hg
    have : i = N := by omega
    subst this
    have : g = f := by
      rcases hg with hg | hg
      · rcases hf with hf | hf
        · rw [hg.1, hf.1]
        · obtain ⟨a, ha, w⟩ := hf.2
          exact absurd w (hg.2 a ha)
      · rcases hf with hf | hf
        · obtain ⟨a, ha, w⟩ := hg.2
          exact absurd w (hf.2 a ha)
        · rw [hg.1, hf.1]
    rw [this]
    exact h
  | succ d ih =>
    intro i g hi hg
    have e1 : (nI L - 1) * 64 + nI i = nI ((L - 1) * 64 + i) := by
      rw [show (1 : Int32) = nI 1 from rfl, pk_sub (by omega), ix_64]
    have m1 : ma ((nI L - 1) * 64 + nI i).toNatClampNeg = 0 ↔ ¬ G (L - 1) i := by
      rw [e1, nI_clamp (by omega)]
      exact ym_0 hM (by omega) (by omega)
    refine br_f (nI_ge (show i < N by omega) (by omega)) (And.intro (pk_in _ 14912 (by omega) e1) (br_c (fun q => nm_r (nI_1 i) (ih (i + 1) g (by omega) ?_)) (fun q => nm_r (nI_1 i) (ih (i + 1) 1 (by omega) (Or.inr ⟨rfl, i, by omega, Classical.not_not.mp (fun w => q (m1.mpr w))⟩)))))
    rcases hg with hg | hg
    · refine Or.inl ⟨hg.1, fun a ha => ?_⟩
      by_cases y : a = i
      · subst y
        exact m1.mp q
      · exact hg.2 a (by omega)
    · obtain ⟨a, ha, w⟩ := hg.2
      exact Or.inr ⟨hg.1, a, by omega, w⟩
theorem yw_r146 {post : SY → Prop} {k jb : Nat} (hD : yd_D V T N L nc) (hW : ∀ c, c < nc → pg_wc V gu am pl mi c) (hni : ni ≤ 4) (hwi : ∀ i, i < ni → pg_wa V am (48 + i)) (hk : k ≤ 24) (hw : ∀ m, m < k → ∃ c, c < nc ∧ wd (768 + m) = nI c)
    (hj1 : 1 ≤ jb) (hj2 : jb ≤ k) (hb1 : ∀ j, jb ≤ j → j ≤ k → ∀ a, a < N → ¬ (pg_in T ni am a ∧ (pg_rn (pg_ex V T gu am pl mi ad) (pg_w wd) j 768 a).isSome = true)) (hb2 : ∀ j, j < jb → ∃ a, a < N ∧ pg_in T ni am a ∧ (pg_rn (pg_ex V T gu am pl mi ad) (pg_w wd) j 768 a).isSome = true)
    (h : ∃ n177, wY_round_177 post (nI V) (nI T) (nI (T + 1)) (nI N) (nI L) (nI M) (nI nc) (nI ni) (nI ns) (nI nw) st rc (nI jb) wy so ta gu am pl mi ad wd ln sp fa le ma n177 0 (nI jb)) : ∃ n, wY_round_146 post (nI V) (nI T) (nI (T + 1)) (nI N) (nI L) (nI M) (nI nc) (nI ni) (nI ns) (nI nw) st rc wy so ta gu am pl mi ad wd ln sp fa le ma n (nI k) bp := by
  refine ⟨k + 1, ?_⟩
  suffices H : ∀ j b, j ≤ k → (jb ≤ j ∨ b = nI jb) → wY_round_146 post (nI V) (nI T) (nI (T + 1)) (nI N) (nI L) (nI M) (nI nc) (nI ni) (nI ns) (nI nw) st rc wy so ta gu am pl mi ad wd ln sp fa le ma (j + 1) (nI j) b from H k bp (Nat.le_refl _) (Or.inl hj2)
  intro j
  induction j with
  | zero =>
    intro b _ hb
    have : b = nI jb := hb.elim (fun w => by omega) id
    subst this
    exact br_t (by decide) h
  | succ j ih =>
    intro b hj hb
    refine br_f (nI_nlt (a := j + 1) (b := 1) (by omega) (by omega)) (yw_runner hD hW hni hwi (by omega) (fun m hm => hw m (by omega)) (fun m hm h1 h2 _ => br_t (nI_pos' (by have := hD.2.2.2.1; omega)) (nm_r (pk_m1 j) (ih b (by omega) (Or.inr ?_)))) (fun h0 => br_f (by decide) (nm_r (pk_m1 j) (ih (nI (j + 1)) (by omega) ?_))))
    · rcases hb with w | w
      · exact absurd ⟨h1, h2⟩ (hb1 (j + 1) w hj m hm)
      · exact w
    · by_cases y : jb ≤ j
      · exact Or.inl y
      · by_cases y2 : jb = j + 1
        · exact Or.inr (by rw [y2])
        · obtain ⟨a, ha, w⟩ := hb2 (j + 1) (by omega)
          exact absurd w (h0 a ha)
theorem yw_r177 {post : SY → Prop} {jb : Nat} (hw : nw ≤ 32) (hj : jb ≤ 24) (h : wY_round_177 post (nI V) (nI T) (nI (T + 1)) (nI N) (nI L) (nI M) (nI nc) (nI ni) (nI ns) (nI nw) st rc (nI jb) wy so ta gu am pl mi ad wd ln sp fa le ma 1 (nI (cn_n (fun f => ¬ yl_LD nw wd ln f (jb - f)) jb)) (nI 0)) : ∃ n, wY_round_177 post (nI V) (nI T) (nI (T + 1)) (nI N) (nI L) (nI M) (nI nc) (nI ni) (nI ns) (nI nw) st rc (nI jb) wy so ta gu am pl mi ad wd ln sp fa le ma n 0 (nI jb) := by
  refine ⟨jb + 1, ?_⟩
  suffices H : ∀ i t, i ≤ jb → t + cn_n (fun f => ¬ yl_LD nw wd ln f (jb - f)) i = cn_n (fun f => ¬ yl_LD nw wd ln f (jb - f)) jb → wY_round_177 post (nI V) (nI T) (nI (T + 1)) (nI N) (nI L) (nI M) (nI nc) (nI ni) (nI ns) (nI nw) st rc (nI jb) wy so ta gu am pl mi ad wd ln sp fa le ma (i + 1) (nI t) (nI i) from H jb 0 (Nat.le_refl _) (by omega)
  intro i
  induction i with
  | zero =>
    intro t _ ht
    have : t = cn_n (fun f => ¬ yl_LD nw wd ln f (jb - f)) jb := by
      simp only [cn_n] at ht
      omega
    rw [this]
    exact h
  | succ f ih =>
    intro t hi ht
    simp only [cn_n] at ht
    refine br_f (nI_nlt (a := f + 1) (b := 1) (by omega) (by omega)) (yw_learned hw (by omega) hj (fun q => br_f (by decide) (nm_r (pk_m1 f) (ih t (by omega) ?_))) (fun q => br_t rfl (nm_r (nI_1 t) (nm_r (pk_m1 f) (ih (t + 1) (by omega) ?_)))))
    · rw [cn_1f (fun w => w q)] at ht
      omega
    · rw [cn_1t q] at ht
      omega
end
section
variable {V T L M N nc ni ns nw : Nat} {rv st rc pn bp wt : Int32} {iS : Int64} {va we fo tt gc po mo co nx wc wl pa : Nat → Int32} {gs ss ws ce re fr ly : Nat → Int64}
theorem xw_l6 {post : SX → Prop} {jb : Nat} (hw : nw ≤ 32) (hj : jb ≤ 24) (h : wX_learn_6 post (nI jb) (nI V) (nI T) (nI L) (nI M) (nI N) (sm_fl N) (nI nc) (nI ni) iS (nI ns) (nI nw) rv st rc pn bp wt va we fo tt gc gs po mo co nx ss wc wl ws ce re fr ly pa 1 (nI (cn_n (fun f => ¬ xl_LD nw wc wl pa f (jb - f)) jb)) (nI 0 - 1)) : wpX_learn post (nI V, nI T, nI L, nI M, nI N, sm_fl N, nI nc, nI ni, iS, nI ns, nI nw, rv, st, rc, pn, bp, wt, va, we, fo, tt, gc, gs, po, mo, co, nx, ss, wc, wl, ws, ce, re, fr, ly, pa) (nI jb) := by
  refine nm_e (Exists.intro (jb + 1) ?_)
  suffices H : ∀ i t, i ≤ jb → t + cn_n (fun f => ¬ xl_LD nw wc wl pa f (jb - f)) i = cn_n (fun f => ¬ xl_LD nw wc wl pa f (jb - f)) jb → wX_learn_6 post (nI jb) (nI V) (nI T) (nI L) (nI M) (nI N) (sm_fl N) (nI nc) (nI ni) iS (nI ns) (nI nw) rv st rc pn bp wt va we fo tt gc gs po mo co nx ss wc wl ws ce re fr ly pa (i + 1) (nI t) (nI i - 1) from H jb 0 (Nat.le_refl _) (by omega)
  intro i
  induction i with
  | zero =>
    intro t _ ht
    have : t = cn_n (fun f => ¬ xl_LD nw wc wl pa f (jb - f)) jb := by
      simp only [cn_n] at ht
      omega
    rw [this]
    exact h
  | succ f ih =>
    intro t hi ht
    simp only [cn_n] at ht
    refine br_f (pj_s (by omega)) ?_
    rw [pj_1, nI_pred]
    refine xw_isl hw (by omega) hj (fun q => br_f (by decide) (nm_e (ih t (by omega) ?_))) (fun q => br_t rfl (nm_r (nI_1 t) (nm_e (ih (t + 1) (by omega) ?_))))
    · rw [cn_1f (fun w => w q)] at ht
      omega
    · rw [cn_1t q] at ht
      omega
theorem xw_clear {post : SX → Prop} (h : post (nI V, nI T, nI L, nI M, nI N, sm_fl N, nI nc, nI ni, iS, nI ns, nI nw, rv, st, rc, 0, 0, (-3), va, we, fo, tt, gc, gs, po, mo, co, nx, ss, wc, wl, ws, ce, re, fr, ly, pa)) : wpX_clearOutcome post (nI V, nI T, nI L, nI M, nI N, sm_fl N, nI nc, nI ni, iS, nI ns, nI nw, rv, st, rc, pn, bp, wt, va, we, fo, tt, gc, gs, po, mo, co, nx, ss, wc, wl, ws, ce, re, fr, ly, pa) := h
end
section
variable {V T L M N nc ni ns nw : Nat} {rv st rc pn bp wt wy : Int32} {iS : Int64} {va we so ta gu pl mi ad nx wc wl pa am wd ln sp fa le ma : Nat → Int32} {gs ss ws ce re fr ly : Nat → Int64}
theorem jn_spur {post : SX → Prop} {jb : Nat} (hD : rl_D V T L M N) (hC : rl_C V T L N nc so ta gu am pl mi ad gs nx) (hW : rl_W V T N M nc nw gu am pl mi ad wd ln wc wl ws) (hE : rl_E V T L N ns nw so gu am pl mi ad wd ln ce) (hP : ∀ j, j < 24 → pa j = wd (768 + j)) (hj0 : 1 ≤ jb) (hj : jb ≤ 24) (hpc : ∀ j, j < jb → ∃ c, c < nc ∧ wd (768 + j) = nI c)
    (h4 : (∀ Q : SY → Prop, Q (nI V, nI T, nI (T + 1), nI N, nI L, nI M, nI nc, nI ni, nI ns, nI nw, 4, rc, nI jb, wy, so, ta, gu, am, pl, mi, ad, wd, ln, sp, fa, le, ma) → ∃ n, wY_round_177 Q (nI V) (nI T) (nI (T + 1)) (nI N) (nI L) (nI M) (nI nc) (nI ni) (nI ns) (nI nw) 1 rc (nI jb) wy so ta gu am pl mi ad wd ln sp fa le ma n 0 (nI jb)) → post (nI V, nI T, nI L, nI M, nI N, sm_fl N, nI nc, nI ni, iS, nI ns, nI nw, rv, 4, rc, pn, nI jb, wt, va, we, so, ta, gu, gs, pl, mi, ad, nx, ss, wc, wl, ws, ce, re, fr, ly, pa))
    (h1 : ∀ (nw' : Nat) (wc' wl' : Nat → Int32) (ws' ce' : Nat → Int64) (wd' ln' : Nat → Int32), rl_W V T N M nc nw' gu am pl mi ad wd' ln' wc' wl' ws' → rl_E V T L N ns nw' so gu am pl mi ad wd' ln' ce' → (∀ j, j < 24 → pa j = wd' (768 + j)) → ln' 32 = ln 32 →
        (∀ Q : SY → Prop, Q (nI V, nI T, nI (T + 1), nI N, nI L, nI M, nI nc, nI ni, nI ns, nI nw', 1, rc, nI jb, wy, so, ta, gu, am, pl, mi, ad, wd', ln', sp, fa, le, ma) → ∃ n, wY_round_177 Q (nI V) (nI T) (nI (T + 1)) (nI N) (nI L) (nI M) (nI nc) (nI ni) (nI ns) (nI nw) 1 rc (nI jb) wy so ta gu am pl mi ad wd ln sp fa le ma n 0 (nI jb)) → post (nI V, nI T, nI L, nI M, nI N, sm_fl N, nI nc, nI ni, iS, nI ns, nI nw', 0, 1, rc, pn, nI jb, wt, va, we, so, ta, gu, gs, pl, mi, ad, nx, ss, wc', wl', ws', ce', re, fr, ly, pa)) :
    wpX_learn post (nI V, nI T, nI L, nI M, nI N, sm_fl N, nI nc, nI ni, iS, nI ns, nI nw, rv, 1, rc, pn, nI jb, wt, va, we, so, ta, gu, gs, pl, mi, ad, nx, ss, wc, wl, ws, ce, re, fr, ly, pa) (nI jb) := by
  have hM := hD.2.2.2.2.2.2.2.2.2
  have hw := hW.1
  have ec : cn_n (fun f => ¬ xl_LD nw wc wl pa f (jb - f)) jb = cn_n (fun f => ¬ yl_LD nw wd ln f (jb - f)) jb :=
    Nat.le_antisymm (cn_m fun f hf q w => q ((ld_iff hM hj hf hW hP).mpr w)) (cn_m fun f hf q w => q ((ld_iff hM hj hf hW hP).mp w))
  have cl := cn_le (fun f => ¬ yl_LD nw wd ln f (jb - f)) jb
  refine xw_l6 (by omega) hj ?_
  rw [ec]
  refine br_t pj_0 (pk_le (nw + cn_n (fun f => ¬ yl_LD nw wd ln f (jb - f)) jb) M (fun z => nm_e (Exists.intro (jb + 1) ?_)) (fun z => h4 (fun Q hq => ?_)) (nI_add _ _))
  · refine jn_learn (wy := wy) (am := am) (sp := sp) (fa := fa) (le := le) (ma := ma) hD hC hj jb nw wc wl ws ce wd ln _ (Nat.le_refl _) hW hE hP hpc (sm_cg fun a _ => ⟨fun _ => by rw [Nat.sub_self, pg_rn]; rfl, fun _ => trivial⟩) z (fun nw' wc' wl' ws' ce' wd' ln' r1 r2 r3 r4 r5 => h1 nw' wc' wl' ws' ce' wd' ln' r1 r2 r3 r4 (fun Q hq => ?_))
    refine yw_r177 (by omega) hj (br_t (by decide) (br_t ?_ ⟨jb + 1, r5 Q (jb + 1) (by omega) hq⟩))
    rw [nI_add]
    exact nI_le z (by omega)
  · refine yw_r177 (by omega) hj (br_t (by decide) (br_f ?_ ⟨1, br_c (fun _ => hq) (fun _ => br_f (by decide) hq)⟩))
    rw [nI_add]
    exact nI_ge z (by omega)
end
end
section
/-! a round in lockstep: the whole -/
section
variable {V T L M N nc ni ns nw : Nat} {rv st rc pn bp wt wy : Int32} {iS : Int64} {va we so ta gu pl mi ad nx wc wl pa am wd ln sp fa le ma : Nat → Int32} {gs ss ws ce re fr ly : Nat → Int64}
theorem rl_W_cg {wd' ln' : Nat → Int32} (hD : rl_D V T L M N) (hW : rl_W V T N M nc nw gu am pl mi ad wd ln wc wl ws) (e1 : ∀ p, p < 32 → ln' p = ln p) (e2 : ∀ j, j < 768 → wd' j = wd j) : rl_W V T N M nc nw gu am pl mi ad wd' ln' wc wl ws := by
  obtain ⟨w1, w2, w3, w4, w5⟩ := hW
  have hM := hD.2.2.2.2.2.2.2.2.2
  refine ⟨w1, ⟨w2.1, fun p hp => ?_⟩, fun j hj => by rw [e2 j hj]; exact w3 j hj, fun p hp => by rw [e1 p hp]; exact w4 p hp, fun p hp => ?_⟩
  · obtain ⟨len, hl1, hl2, hl, hm⟩ := w2.2 p hp
    exact ⟨len, hl1, hl2, by rw [e1 p (by omega)]; exact hl, fun m hm2 => by rw [e2 _ (by omega)]; exact hm m hm2⟩
  · obtain ⟨len, hl1, hl2, hl, hm⟩ := w2.2 p hp
    rw [w5 p hp]
    exact sm_cg fun a _ => by rw [yd_wr_cg hl hl2 (e1 p (by omega)) (fun m hm => e2 _ (by omega)) a]
theorem rl_Q_cg {wd' ln' : Nat → Int32} (hD : rl_D V T L M N) (hW : rl_W V T N M nc nw gu am pl mi ad wd ln wc wl ws) (e1 : ∀ p, p < 32 → ln' p = ln p) (e2 : ∀ j, j < 768 → wd' j = wd j) : yd_Q V T ns nw gu am pl mi ad so wd' ln' = (yd_Q V T ns nw gu am pl mi ad so wd ln) := by
  have hM := hD.2.2.2.2.2.2.2.2.2
  have hw := hW.1
  exact yd_Q_cg hW.2.1 (fun p hp => e1 p (by omega)) (fun p m hp hm => e2 _ (by omega))
theorem jn_round {post : SX → Prop} {u0 : SX} {v0 : SY} (hu : u0 = (nI V, nI T, nI L, nI M, nI N, sm_fl N, nI nc, nI ni, iS, nI ns, nI nw, rv, 1, rc, pn, bp, wt, va, we, so, ta, gu, gs, pl, mi, ad, nx, ss, wc, wl, ws, ce, re, fr, ly, pa)) (hv : v0 = (nI V, nI T, nI (T + 1), nI N, nI L, nI M, nI nc, nI ni, nI ns, nI nw, 1, rc, bp, wy, so, ta, gu, am, pl, mi, ad, wd, ln, sp, fa, le, ma)) (hD : rl_D V T L M N) (hV : pg_va V T N va we) (hC : rl_C V T L N nc so ta gu am pl mi ad gs nx) (hI : rl_I V T N ni am iS) (hS : rl_S V T N ns am ss) (hW : rl_W V T N M nc nw gu am pl mi ad wd ln wc wl ws) (hP : rl_P wd ln pa pn) (hE : rl_E V T L N ns nw so gu am pl mi ad wd ln ce) (hR : rl_R V T L N nc ni ns nw so ta gu am pl mi ad wd ln rv re)
    (h : ∀ (V : Nat) (T : Nat) (L : Nat) (M : Nat) (N : Nat) (nc : Nat) (ni : Nat) (iS : Int64) (ns : Nat) (nw : Nat) (rv : Int32) (st : Int32) (rc : Int32) (pn : Int32) (bp : Int32) (wt : Int32) (va : Nat → Int32) (we : Nat → Int32) (so : Nat → Int32) (ta : Nat → Int32) (gu : Nat → Int32) (gs : Nat → Int64) (pl : Nat → Int32) (mi : Nat → Int32) (ad : Nat → Int32) (nx : Nat → Int32) (ss : Nat → Int64) (wc : Nat → Int32) (wl : Nat → Int32) (ws : Nat → Int64) (ce : Nat → Int64) (re : Nat → Int64) (fr : Nat → Int64) (ly : Nat → Int64) (pa : Nat → Int32) (wy : Int32) (am : Nat → Int32) (wd : Nat → Int32) (ln : Nat → Int32) (sp : Nat → Int32) (fa : Nat → Int32) (le : Nat → Int32) (ma : Nat → Int32), rl_D V T L M N → pg_va V T N va we → rl_C V T L N nc so ta gu am pl mi ad gs nx → rl_I V T N ni am iS → rl_S V T N ns am ss → rl_W V T N M nc nw gu am pl mi ad wd ln wc wl ws → rl_P wd ln pa pn → rl_E V T L N ns nw so gu am pl mi ad wd ln ce → rl_R V T L N nc ni ns nw so ta gu am pl mi ad wd ln rv re → rl_O nw st wt wy → (∀ Q : SY → Prop, Q (nI V, nI T, nI (T + 1), nI N, nI L, nI M, nI nc, nI ni, nI ns, nI nw, st, rc, bp, wy, so, ta, gu, am, pl, mi, ad, wd, ln, sp, fa, le, ma) → wpY_round Q v0) → post (nI V, nI T, nI L, nI M, nI N, sm_fl N, nI nc, nI ni, iS, nI ns, nI nw, rv, st, rc, pn, bp, wt, va, we, so, ta, gu, gs, pl, mi, ad, nx, ss, wc, wl, ws, ce, re, fr, ly, pa)) : wpX_doRound post u0 := by
  subst hu
  have hyD := rl_yD hD hC
  have hT := rl_T hD hC
  have hB : cx_B (pg_ex V T gu am pl mi ad) nc N := yd_B hyD
  have hQ : pg_eqv (yd_Q V T ns nw gu am pl mi ad so wd ln) := yd_Qe
  have hWc : ∀ c, c < nc → pg_wc V gu am pl mi c := fun c hc => (hC.2.1 c hc).2.2.1
  obtain ⟨d1, d2, d3, d4, d5, hN64, d7, hL8, d9, hM32⟩ := id hD
  have hL0 : 0 < L := by omega
  have hc16 := hC.1
  have hEx := hC.2.2
  obtain ⟨i1, i2, rfl⟩ := hI
  have hI : rl_I V T N ni am (sm_of N (pg_in T ni am)) := ⟨i1, i2, rfl⟩
  have hw := hW.1
  have ol : ∀ p, p < 32 → upd ln 32 0 p = ln p := fun p hp => pk_un (by omega)
  have hW0 := rl_W_cg hD hW ol (fun _ _ => rfl)
  have eQ0 : yd_Q V T ns nw gu am pl mi ad so wd (upd ln 32 0) = (yd_Q V T ns nw gu am pl mi ad so wd ln) := rl_Q_cg hD hW ol (fun _ _ => rfl)
  obtain ⟨sp', fa', le', ma', G, g1, g2, g3, g4, g5, g6, w⟩ := yw_explore (M := M) (st := 1) (rc := rc + 1) (bp := 0) (wy := -3) (sp := sp) (fa := fa) (le := le) (ma := ma) hyD hWc hW0.2.1 hS.1 hS.2.1 i1 i2 hT
  rw [eQ0] at g2 g4 g5
  have RW : ∀ Q : SY → Prop, (∃ n40, wY_round_40 Q (nI V) (nI T) (nI (T + 1)) (nI N) (nI L) (nI M) (nI nc) (nI ni) (nI ns) (nI nw) (rc + 1) 0 (-3) so ta gu am pl mi ad wd (upd ln 32 0) sp' fa' le' ma' n40 0 2) → wpY_round Q v0 := fun Q hq => by
    subst hv
    exact nm_e (nm_e (w _ hq))
  obtain ⟨ma2, G2, n1, n2, n3, n4, wl⟩ := yw_least (V := V) (T := T) (M := M) (ni := ni) (ns := ns) (nw := nw) (gu := gu) (am := am) (pl := pl) (mi := mi) (ad := ad) (wd := wd) (fa := fa') (st := 1) (rc := rc + 1) (bp := 0) (wy := -3) (ln := upd ln 32 0) hN64 hL8 hL0 hc16 g1 hB hQ hT g2 g3 g5 g6
  have RO : ∀ Q : SY → Prop, (∃ a, a < N ∧ G (L - 1) a) → (∀ k, 1 ≤ k → k ≤ 24 → (∃ a, a < N ∧ pg_cl (yd_Q V T ns nw gu am pl mi ad so wd ln) N 0 (pg_in T ni am) a ∧ pg_ly (pg_ex V T gu am pl mi ad) (yd_Q V T ns nw gu am pl mi ad so wd ln) N nc L (rl_src so) (rl_src ta) k 0 a) → (∀ j, 1 ≤ j → j < k → ¬ ∃ a, a < N ∧ pg_cl (yd_Q V T ns nw gu am pl mi ad so wd ln) N 0 (pg_in T ni am) a ∧ pg_ly (pg_ex V T gu am pl mi ad) (yd_Q V T ns nw gu am pl mi ad so wd ln) N nc L (rl_src so) (rl_src ta) j 0 a) → wY_round_103 Q (nI k) (nI V) (nI T) (nI (T + 1)) (nI N) (nI L) (nI M) (nI nc) (nI ni) (nI ns) (nI nw) 1 (rc + 1) 0 (-3) so ta gu am pl mi ad wd (upd ln 32 0) sp' fa' le' ma2) →
      ((∀ j, 1 ≤ j → j ≤ 24 → ¬ ∃ a, a < N ∧ pg_cl (yd_Q V T ns nw gu am pl mi ad so wd ln) N 0 (pg_in T ni am) a ∧ pg_ly (pg_ex V T gu am pl mi ad) (yd_Q V T ns nw gu am pl mi ad so wd ln) N nc L (rl_src so) (rl_src ta) j 0 a) → Q (nI V, nI T, nI (T + 1), nI N, nI L, nI M, nI nc, nI ni, nI ns, nI nw, 5, (rc + 1), 0, (-3), so, ta, gu, am, pl, mi, ad, wd, upd ln 32 0, sp', fa', le', ma2)) → wpY_round Q v0 :=
    fun Q hG hk h0 => RW Q (yw_r40 hN64 hL8 hL0 g3 (Or.inr ⟨rfl, hG⟩) (br_t (nI_le (Nat.le_refl _) (by omega)) (br_f (by decide) (wl _ (fun k k1 k2 k3 k4 => br_t (nI_le (b := 24) k2 (by decide)) (hk k k1 k2 k3 k4)) (fun z => br_f (by decide) (br_f (by decide) (h0 z)))))))
  refine nm_e (xw_clear (xw_reach hN64 hL8 hL0 hc16 hEx hB hQ hE hT rfl hR (fun re' fr' hre => ?_)))
  have em : nI L - 1 = nI (L - 1) := pk_sub (b := 1) (by omega)
  have er : re' (nI L - 1).toNatClampNeg = sm_of N (pg_RR (pg_ex V T gu am pl mi ad) (yd_Q V T ns nw gu am pl mi ad so wd ln) N nc (rl_src so) (rl_src ta) (pg_in T ni am) (L - 1)) := rd_l em (by omega) (hre _ (by omega))
  refine And.intro (pk_in (L - 1) 8 (by omega) em) (br_c (fun q => ?_) (fun q => ?_))
  · -- safe
    rw [er, sm_e0 hN64] at q
    refine h _ _ _ _ _ _ _ _ _ _ _ _ _ _ _ _ _ _ _ _ _ _ _ _ _ _ _ _ _ _ _ _ _ _ _ (-3) am wd (upd ln 32 0) sp' fa' le' ma' hD hV hC hI hS hW0 ⟨hP.1, 0, by omega, rfl, pk_us⟩ ?_ (Or.inr ⟨rfl, ?_⟩) ⟨⟨2, by omega, rfl⟩, fun w => absurd w (by decide), fun w => absurd w (by decide), fun _ => rfl⟩ (fun Q hq => RW Q (yw_r40 hN64 hL8 hL0 g3 (Or.inl ⟨rfl, fun a ha w => q a ha ((g4 _ a (by omega) ha).mp w)⟩) (br_t (nI_le (Nat.le_refl _) (by omega)) (br_t rfl hq))))
    · unfold rl_E
      rw [eQ0]
      exact hE
    · rw [eQ0]
      exact hre
  · rw [er] at q
    have hG : ∃ a, a < N ∧ G (L - 1) a := Classical.byContradiction fun hh => q ((sm_e0 hN64).mpr fun a ha hs => hh ⟨a, ha, (g4 _ a (by omega) ha).mpr hs⟩)
    refine xw_short hN64 hL8 hL0 hc16 hEx hB hQ hE hT rfl (fun k ly' k1 k2 k3 k4 hly => ?_) (fun hn ly' => ?_)
    · -- a path of k commands
      obtain ⟨a0, b1, b2, b3⟩ := id k3
      obtain ⟨pc, lo, SS, hpt⟩ := pg_path hQ hB (fun a b h1 h2 => pg_cl_Q hQ h1 h2) b2 b3
      have hpcn : ∀ j, j < k → pc j < nc := fun j hj => (hpt.2.2 j hj).1.1
      obtain ⟨ma3, wd2, f1, f2, wf⟩ := yw_find (V := V) (T := T) (M := M) (ni := ni) (ns := ns) (nw := nw) (gu := gu) (am := am) (pl := pl) (mi := mi) (ad := ad) (wd := wd) (fa := fa') (st := 1) (rc := rc + 1) (bp := 0) (wy := -3) (ln := upd ln 32 0) hN64 hL8 hL0 hc16 g1 hB hQ hT g2 k2 n1 n2 n3 n4 hpt
      have hpcw : ∀ j, j < k → ∃ c, c < nc ∧ wd2 (768 + j) = nI c := fun j hj => ⟨pc j, hpcn j hj, f1 j hj⟩
      have rnE : ∀ j a, j ≤ k → pg_rn (pg_ex V T gu am pl mi ad) (pg_w wd2) j 768 a = pg_rn (pg_ex V T gu am pl mi ad) pc j 0 a := fun j a hj => pg_rn_cg (w := pg_w wd2) (w' := pc) (i := 768) (i' := 0) (fun i hi => by
        unfold pg_w
        rw [f1 i (by omega), nI_clamp (by have := hpcn i (by omega); omega), Nat.zero_add]) a
      have ol2 : ∀ p, p < 32 → upd (upd ln 32 0) 32 (nI k) p = ln p := fun p hp => by rw [pk_un (by omega), pk_un (by omega)]
      have ow2 : ∀ j, j < 768 → wd2 j = wd j := fun j hj => f2 j (Or.inl hj)
      have hW2 := rl_W_cg hD hW ol2 ow2
      have eQ2 : yd_Q V T ns nw gu am pl mi ad so wd2 (upd (upd ln 32 0) 32 (nI k)) = (yd_Q V T ns nw gu am pl mi ad so wd ln) := rl_Q_cg hD hW ol2 ow2
      have hE2 : rl_E V T L N ns nw so gu am pl mi ad wd2 (upd (upd ln 32 0) 32 (nI k)) ce := by
        unfold rl_E
        rw [eQ2]
        exact hE
      have hre2 : ∀ l, l < L → re' l = sm_of N (pg_RR (pg_ex V T gu am pl mi ad) (yd_Q V T ns nw gu am pl mi ad so wd2 (upd (upd ln 32 0) 32 (nI k))) N nc (rl_src so) (rl_src ta) (pg_in T ni am) l) := by
        rw [eQ2]
        exact hre
      -- the reference up to the runner
      have RP : ∀ Q : SY → Prop, wpY_runner (fun r => ((r < 0 → wY_round_136 Q (nI k) (nI V) (nI T) (nI (T + 1)) (nI N) (nI L) (nI M) (nI nc) (nI ni) (nI ns) (nI nw) 1 (rc + 1) 0 r so ta gu am pl mi ad wd2 (upd (upd ln 32 0) 32 (nI k)) sp' fa' le' ma3) ∧ (¬ r < 0 → wY_round_136 Q (nI k) (nI V) (nI T) (nI (T + 1)) (nI N) (nI L) (nI M) (nI nc) (nI ni) (nI ns) (nI nw) 3 (rc + 1) 0 r so ta gu am pl mi ad wd2 (upd (upd ln 32 0) 32 (nI k)) sp' fa' le' ma3))) (nI V, nI T, nI (T + 1), nI N, nI L, nI M, nI nc, nI ni, nI ns, nI nw, 1, (rc + 1), 0, (-3), so, ta, gu, am, pl, mi, ad, wd2, upd (upd ln 32 0) 32 (nI k), sp', fa', le', ma3) (nI k) → wpY_round Q v0 :=
        fun Q hq => RO Q hG (fun k' y1 y2 y3 y4 => by
          have : k' = k := by
            rcases Nat.lt_or_ge k' k with y | y
            · exact absurd y3 (k4 k' y1 y)
            · rcases Nat.lt_or_ge k k' with y5 | y5
              · exact absurd k3 (y4 k k1 y5)
              · omega
          subst this
          exact br_t (nI_le (b := 24) y2 (by decide)) (wf _ hq)) (fun y => absurd k3 (y k k1 k2))
      refine br_f (nI_ne0 (by omega) (by omega)) (xw_extract hN64 hL8 hL0 hc16 hEx hB hQ hE hT rfl k2 hly hpt (fun pa' p1 p2 => ?_))
      have hPa : ∀ j, j < 24 → pa' j = wd2 (768 + j) := fun j hj => by
        rcases Nat.lt_or_ge j k with y | y
        · rw [p1 j y, f1 j y]
        · rw [p2 j y, f2 _ (Or.inr (by omega))]
          exact hP.1 j hj
      have hPl : rl_P wd2 (upd (upd ln 32 0) 32 (nI k)) pa' (nI k) := ⟨hPa, k, k2, rfl, pk_us⟩
      refine xw_exec hN64 hc16 hEx hB k2 rfl (fun j hj => ⟨p1 j hj, hpcn j hj⟩) (nm_r (sm_and _ _ _) (br_c (fun q2 => ?_) (fun q2 => ?_)))
      · -- spurious
        rw [sm_e0 hN64] at q2
        obtain ⟨a1, c1, c2, c3⟩ := id b2
        have hk0 : ∀ a, a < N → pg_in T ni am a → pg_rn (pg_ex V T gu am pl mi ad) pc k 0 a = none := fun a ha hi => by
          cases z : pg_rn (pg_ex V T gu am pl mi ad) pc k 0 a with
          | none => rfl
          | some b => exact absurd ⟨by rw [z]; rfl, hi⟩ (q2 a ha)
        obtain ⟨jb, ⟨j1, j2⟩, j3⟩ := pk_least (fun j => 1 ≤ j ∧ ∀ a, a < N → pg_in T ni am a → pg_rn (pg_ex V T gu am pl mi ad) pc j 0 a = none) ⟨k, k1, hk0⟩
        have j4 : jb ≤ k := by
          rcases Nat.lt_or_ge k jb with y | y
          · exact absurd ⟨k1, hk0⟩ (j3 k y)
          · exact y
        have j5 : ∀ j, j < jb → ∃ a, a < N ∧ pg_in T ni am a ∧ (pg_rn (pg_ex V T gu am pl mi ad) pc j 0 a).isSome = true := by
          intro j hj
          by_cases y : j = 0
          · subst y
            exact ⟨a1, c1, c2, by rw [pg_rn]; rfl⟩
          · refine Classical.byContradiction fun hh => j3 j hj ⟨by omega, fun a ha hi => ?_⟩
            cases z : pg_rn (pg_ex V T gu am pl mi ad) pc j 0 a with
            | none => rfl
            | some b => exact absurd ⟨a, ha, hi, by rw [z]; rfl⟩ hh
        have RS : ∀ Q : SY → Prop, (∃ n177, wY_round_177 Q (nI V) (nI T) (nI (T + 1)) (nI N) (nI L) (nI M) (nI nc) (nI ni) (nI ns) (nI nw) 1 (rc + 1) (nI jb) (-3) so ta gu am pl mi ad wd2 (upd (upd ln 32 0) 32 (nI k)) sp' fa' le' ma3 n177 0 (nI jb)) → wpY_round Q v0 := fun Q hq => RP Q (yw_runner hyD hWc i1 i2 k2 hpcw (fun m hm y1 y2 _ => by
          rw [rnE k m (Nat.le_refl _), hk0 m hm y1] at y2
          exact absurd y2 (by decide)) (fun _ => br_t (by decide) (br_t (by decide) (yw_r146 hyD hWc i1 i2 k2 hpcw j1 j4 (fun j y1 y2 a ha y3 => by
            have := pg_rn_mono (j2 a ha y3.1) (j - jb)
            rw [show jb + (j - jb) = j by omega] at this
            rw [rnE j a y2, this] at y3
            exact absurd y3.2 (by decide)) (fun j hj => by
            obtain ⟨a, ha, y1, y2⟩ := j5 j hj
            exact ⟨a, ha, y1, by rw [rnE j a (by omega)]; exact y2⟩) hq))))
        refine xw_break hN64 hc16 hEx hB k2 rfl rfl (fun j hj => ⟨p1 j hj, hpcn j hj⟩) j1 j4 j2 j5 ?_
        refine jn_spur (wy := -3) (am := am) (wd := wd2) (ln := upd (upd ln 32 0) 32 (nI k)) (sp := sp') (fa := fa') (le := le') (ma := ma3) hD hC hW2 hE2 hPa j1 (by omega) (fun j hj => hpcw j (by omega)) (fun r => ?_) (fun nw' wc' wl' ws' ce' wd' ln' r1 r2 r3 r4 r5 => ?_)
        · exact h _ _ _ _ _ _ _ _ _ _ _ _ _ _ _ _ _ _ _ _ _ _ _ _ _ _ _ _ _ _ _ _ _ _ _ (-3) am wd2 (upd (upd ln 32 0) 32 (nI k)) sp' fa' le' ma3 hD hV hC hI hS hW2 hPl hE2 (Or.inr ⟨rfl, hre2⟩) ⟨⟨4, by omega, rfl⟩, fun w => absurd w (by decide), fun w => absurd w (by decide), fun _ => rfl⟩ (fun Q hq => RS Q (r Q hq))
        · exact h _ _ _ _ _ _ _ _ _ _ _ _ _ _ _ _ _ _ _ _ _ _ _ _ _ _ _ _ _ _ _ _ _ _ _ (-3) am wd' ln' sp' fa' le' ma3 hD hV hC hI hS r1 ⟨r3, k, k2, rfl, by rw [r4]; exact pk_us⟩ r2 (Or.inl rfl) ⟨⟨1, by omega, rfl⟩, fun w => absurd w (by decide), fun w => absurd w (by decide), fun _ => rfl⟩ (fun Q hq => RS Q (r5 Q hq))
      · -- a real path
        obtain ⟨m, hm, hm1, hm2⟩ := sm_least (N := N) (S := fun a => (pg_rn (pg_ex V T gu am pl mi ad) pc k 0 a).isSome = true ∧ pg_in T ni am a) (Classical.byContradiction fun hh => q2 ((sm_e0 hN64).mpr fun a ha hs => hh ⟨a, ha, hs⟩))
        refine xw_low hN64 hm hm1 hm2 ?_
        refine h _ _ _ _ _ _ _ _ _ _ _ _ _ _ _ _ _ _ _ _ _ _ _ _ _ _ _ _ _ _ _ _ _ _ _ (nI m) am wd2 (upd (upd ln 32 0) 32 (nI k)) sp' fa' le' ma3 hD hV hC hI hS hW2 hPl hE2 (Or.inr ⟨rfl, hre2⟩) ⟨⟨3, by omega, rfl⟩, fun w => absurd w (by decide), fun _ => rfl, fun w => absurd rfl w⟩ (fun Q hq => RP Q (yw_runner hyD hWc i1 i2 k2 hpcw (fun m' y0 y1 y2 y3 => ?_) (fun y => ?_)))
        · have : m' = m := by
            rcases Nat.lt_or_ge m' m with z | z
            · exact absurd ⟨by rw [← rnE k m' (Nat.le_refl _)]; exact y2, y1⟩ (hm2 m' z)
            · rcases Nat.lt_or_ge m m' with z2 | z2
              · exact absurd ⟨hm1.2, by rw [rnE k m (Nat.le_refl _)]; exact hm1.1⟩ (y3 m z2)
              · omega
          subst this
          exact br_f (nI_pos (by omega)) (br_f (nI_pos (by omega)) hq)
        · exact absurd ⟨hm1.2, by rw [rnE k m (Nat.le_refl _)]; exact hm1.1⟩ (y m hm)
    · -- no path of at most 24 commands
      refine br_t rfl (h _ _ _ _ _ _ _ _ _ _ _ _ _ _ _ _ _ _ _ _ _ _ _ _ _ _ _ _ _ _ _ _ _ _ _ (-3) am wd (upd ln 32 0) sp' fa' le' ma2 hD hV hC hI hS hW0 ⟨hP.1, 0, by omega, rfl, pk_us⟩ ?_ (Or.inr ⟨rfl, ?_⟩) ⟨⟨5, by omega, rfl⟩, fun w => absurd w (by decide), fun w => absurd w (by decide), fun _ => rfl⟩ (fun Q hq => RO Q hG (fun k k1 k2 k3 _ => absurd k3 (hn k k1 k2)) (fun _ => hq)))
      · unfold rl_E
        rw [eQ0]
        exact hE
      · rw [eQ0]
        exact hre
end
end
section
/-! the methods that only ask, and run -/
theorem i_up {k : Nat} {u : SX} {v : SY} (h : i_Rel k u v) : i_Rel (k + 5) u v := h
noncomputable def cl_n (p : Int32) (lo hi : Nat) : Nat := @ite Nat (nI lo ≤ p) (Classical.propDecidable _) (@ite Nat (p ≤ nI hi) (Classical.propDecidable _) p.toNatClampNeg hi) lo
theorem cl_b (p : Int32) {lo hi : Nat} (h : lo ≤ hi) (hh : hi < 2 ^ 31) : lo ≤ cl_n p lo hi ∧ cl_n p lo hi ≤ hi := by
  unfold cl_n
  by_cases h1 : nI lo ≤ p
  · rw [if_pos h1]
    by_cases h2 : p ≤ nI hi
    · rw [if_pos h2]
      have h0 : ¬ p < 0 := fun w => by
        have := Int32.lt_of_le_of_lt h1 w
        exact nI_pos (show lo < 2 ^ 31 by omega) this
      obtain ⟨j, hj, rfl⟩ := nI_of h0
      rw [nI_clamp hj]
      rw [nI_leI (by omega) hj] at h1
      rw [nI_leI hj (by omega)] at h2
      exact ⟨h1, h2⟩
    · rw [if_neg h2]
      exact ⟨h, Nat.le_refl _⟩
  · rw [if_neg h1]
    exact ⟨Nat.le_refl _, h⟩
theorem cl_v {p : Int32} {lo hi : Nat} {post : Int32 → Prop} (h : lo ≤ hi) (hh : hi < 2 ^ 31) (hp : post (nI (cl_n p lo hi))) : (nI lo ≤ p → (p ≤ nI hi → post p) ∧ (¬ p ≤ nI hi → post (nI hi))) ∧ (¬ nI lo ≤ p → post (nI lo)) := by
  unfold cl_n at hp
  refine br_c (fun h1 => br_c (fun h2 => ?_) (fun h2 => ?_)) (fun h1 => ?_)
  · rw [if_pos h1, if_pos h2] at hp
    have h0 : ¬ p < 0 := fun w => nI_pos (show lo < 2 ^ 31 by omega) (Int32.lt_of_le_of_lt h1 w)
    obtain ⟨j, hj, rfl⟩ := nI_of h0
    rw [nI_clamp hj] at hp
    exact hp
  · rw [if_pos h1, if_neg h2] at hp
    exact hp
  · rw [if_neg h1] at hp
    exact hp
section
variable {V T L M N nc ni ns nw : Nat} {rv st rc pn bp wt wy : Int32} {iS : Int64} {va we so ta gu pl mi ad nx wc wl pa am wd ln sp fa le ma : Nat → Int32} {gs ss ws ce re fr ly : Nat → Int64}
theorem xw_clamp {p : Int32} {lo hi : Nat} {post : Int32 → Prop} (h : lo ≤ hi) (hh : hi < 2 ^ 31) (hp : post (nI (cl_n p lo hi))) : wpX_clamp post (nI V, nI T, nI L, nI M, nI N, sm_fl N, nI nc, nI ni, iS, nI ns, nI nw, rv, st, rc, pn, bp, wt, va, we, so, ta, gu, gs, pl, mi, ad, nx, ss, wc, wl, ws, ce, re, fr, ly, pa) p (nI lo) (nI hi) := cl_v h hh hp
theorem yw_clamp {p : Int32} {lo hi : Nat} {post : Int32 → Prop} (h : lo ≤ hi) (hh : hi < 2 ^ 31) (hp : post (nI (cl_n p lo hi))) : wpY_clamp post (nI V, nI T, nI (T + 1), nI N, nI L, nI M, nI nc, nI ni, nI ns, nI nw, st, rc, bp, wy, so, ta, gu, am, pl, mi, ad, wd, ln, sp, fa, le, ma) p (nI lo) (nI hi) := cl_v h hh hp
end
theorem jn_run {k w : Nat} (hw : w ≤ 8) : ∀ d i, i + d = w → ∀ (V : Nat) (T : Nat) (L : Nat) (M : Nat) (N : Nat) (nc : Nat) (ni : Nat) (iS : Int64) (ns : Nat) (nw : Nat) (rv : Int32) (st : Int32) (rc : Int32) (pn : Int32) (bp : Int32) (wt : Int32) (va : Nat → Int32) (we : Nat → Int32) (so : Nat → Int32) (ta : Nat → Int32) (gu : Nat → Int32) (gs : Nat → Int64) (pl : Nat → Int32) (mi : Nat → Int32) (ad : Nat → Int32) (nx : Nat → Int32) (ss : Nat → Int64) (wc : Nat → Int32) (wl : Nat → Int32) (ws : Nat → Int64) (ce : Nat → Int64) (re : Nat → Int64) (fr : Nat → Int64) (ly : Nat → Int64) (pa : Nat → Int32) (wy : Int32) (am : Nat → Int32) (wd : Nat → Int32) (ln : Nat → Int32) (sp : Nat → Int32) (fa : Nat → Int32) (le : Nat → Int32) (ma : Nat → Int32), rl_D V T L M N → pg_va V T N va we → rl_C V T L N nc so ta gu am pl mi ad gs nx → rl_I V T N ni am iS → rl_S V T N ns am ss → rl_W V T N M nc nw gu am pl mi ad wd ln wc wl ws → rl_P wd ln pa pn → rl_E V T L N ns nw so gu am pl mi ad wd ln ce → rl_R V T L N nc ni ns nw so ta gu am pl mi ad wd ln rv re → rl_O nw st wt wy → ∀ (YP : (Int32 → SY → Prop) → Prop), (∀ R : Int32 → SY → Prop, wY_run_29 R (nI w) (d + 1) (nI i) (nI V) (nI T) (nI (T + 1)) (nI N) (nI L) (nI M) (nI nc) (nI ni) (nI ns) (nI nw) st rc bp wy so ta gu am pl mi ad wd ln sp fa le ma → YP R) →
    wX_run_36 (fun r u' => YP (fun r' v' => r' = r ∧ i_Rel (k + 5) u' v')) (nI w) (d + 1) (nI i) (nI V) (nI T) (nI L) (nI M) (nI N) (sm_fl N) (nI nc) (nI ni) iS (nI ns) (nI nw) rv st rc pn bp wt va we so ta gu gs pl mi ad nx ss wc wl ws ce re fr ly pa := by
  intro d
  induction d with
  | zero =>
    intro i hi
    intro V T L M N nc ni iS ns nw rv st rc pn bp wt va we so ta gu gs pl mi ad nx ss wc wl ws ce re fr ly pa wy am wd ln sp fa le ma hD hV hC hI hS hW hP hE hR hO YP hY
    have : i = w := by omega
    subst this
    have le : nI i ≤ nI i := nI_le (Nat.le_refl _) (by omega)
    exact br_t le (hY _ (br_t le ⟨rfl, rl_mk hD hV hC hI hS hW hP hE hR hO⟩))
  | succ d ih =>
    intro i hi
    intro V T L M N nc ni iS ns nw rv st rc pn bp wt va we so ta gu gs pl mi ad nx ss wc wl ws ce re fr ly pa wy am wd ln sp fa le ma hD hV hC hI hS hW hP hE hR hO YP hY
    have ge : ¬ nI w ≤ nI i := nI_ge (by omega) (by omega)
    refine br_f ge (br_c (fun hs => ?_) (fun hs => hY _ (br_f ge (br_f hs ⟨rfl, rl_mk hD hV hC hI hS hW hP hE hR hO⟩))))
    subst hs
    refine jn_round (v0 := (nI V, nI T, nI (T + 1), nI N, nI L, nI M, nI nc, nI ni, nI ns, nI nw, 1, rc, bp, wy, so, ta, gu, am, pl, mi, ad, wd, ln, sp, fa, le, ma)) (wy := wy) (sp := sp) (fa := fa) (le := le) (ma := ma) rfl rfl hD hV hC hI hS hW hP hE hR ?_
    intro V T L M N nc ni iS ns nw rv st rc pn bp wt va we so ta gu gs pl mi ad nx ss wc wl ws ce re fr ly pa wy am wd ln sp fa le ma g1 g2 g3 g4 g5 g6 g7 g8 g9 g10 hw2
    refine nm_r (nI_1 i) (ih (i + 1) (by omega) V T L M N nc ni iS ns nw rv st rc pn bp wt va we so ta gu gs pl mi ad nx ss wc wl ws ce re fr ly pa wy am wd ln sp fa le ma g1 g2 g3 g4 g5 g6 g7 g8 g9 g10 YP (fun R hR => hY R (br_f ge (br_t rfl (hw2 _ (nm_r (nI_1 i) hR))))))
theorem i_vc_run {k : Nat} {u : SX} {v : SY} (I : i_Rel k u v) (hk : k + 5 ≤ 2564) (v1 : Int32) : wpX_run (fun r u' => wpY_run (fun r' v' => r' = r ∧ i_Rel (k + 5) u' v') v v1) u v1 := by
  refine rl_el (P := fun u v => wpX_run (fun r u' => wpY_run (fun r' v' => r' = r ∧ i_Rel (k + 5) u' v') v v1) u v1) ?_ I
  intro V T L M N nc ni iS ns nw rv st rc pn bp wt va we so ta gu gs pl mi ad nx ss wc wl ws ce re fr ly pa wy am wd ln sp fa le ma hD hV hC hI hS hW hP hE hR hO
  have cb := cl_b v1 (lo := 1) (hi := 8) (by omega) (by omega)
  obtain ⟨o1, o2, o3, o4⟩ := id hO
  have go : ∀ (YP : (Int32 → SY → Prop) → Prop), ¬ st = 3 → (∀ R : Int32 → SY → Prop, (∃ n29, wY_run_29 R (nI (cl_n v1 1 8)) n29 0 (nI V) (nI T) (nI (T + 1)) (nI N) (nI L) (nI M) (nI nc) (nI ni) (nI ns) (nI nw) 1 rc bp wy so ta gu am pl mi ad wd ln sp fa le ma) → YP R) → wX_run_20 (fun r u' => YP (fun r' v' => r' = r ∧ i_Rel (k + 5) u' v')) v1 (nI V) (nI T) (nI L) (nI M) (nI N) (sm_fl N) (nI nc) (nI ni) iS (nI ns) (nI nw) rv st rc pn bp wt va we so ta gu gs pl mi ad nx ss wc wl ws ce re fr ly pa := by
    intro YP hs hY
    refine xw_clamp (lo := 1) (hi := 8) (by omega) (by omega) (Exists.intro (cl_n v1 1 8 + 1) ?_)
    exact jn_run (k := k) cb.2 (cl_n v1 1 8) 0 (by omega) _ _ _ _ _ _ _ _ _ _ _ 1 _ _ _ _ _ _ _ _ _ _ _ _ _ _ _ _ _ _ _ _ _ _ _ _ _ _ _ _ _ _ _ hD hV hC hI hS hW hP hE hR ⟨⟨1, by omega, rfl⟩, fun w => absurd w (by decide), fun w => absurd w (by decide), fun _ => o4 hs⟩ YP (fun R hR => hY R ⟨_, hR⟩)
  obtain ⟨j, hj, ej⟩ := o1
  by_cases z0 : st = 0
  · refine br_t z0 (go (fun R => wpY_run R (nI V, nI T, nI (T + 1), nI N, nI L, nI M, nI nc, nI ni, nI ns, nI nw, st, rc, bp, wy, so, ta, gu, am, pl, mi, ad, wd, ln, sp, fa, le, ma) v1) (by rw [z0]; decide) (fun R hR => br_t (by rw [z0]; decide) (yw_clamp (lo := 1) (hi := 8) (by omega) (by omega) hR)))
  · by_cases z1 : st = 1
    · refine br_f z0 (br_t z1 (go (fun R => wpY_run R (nI V, nI T, nI (T + 1), nI N, nI L, nI M, nI nc, nI ni, nI ns, nI nw, st, rc, bp, wy, so, ta, gu, am, pl, mi, ad, wd, ln, sp, fa, le, ma) v1) (by rw [z1]; decide) (fun R hR => br_t (by rw [z1]; decide) (yw_clamp (lo := 1) (hi := 8) (by omega) (by omega) hR))))
    · refine br_f z0 (br_f z1 (br_f (fun w => ?_) ⟨rfl, rl_mk hD hV hC hI hS hW hP hE hR hO⟩))
      rw [ej] at w z0 z1
      have w' : j ≤ 1 := (nI_leI (b := 1) (by omega) (by omega)).mp w
      have : j = 0 ∨ j = 1 := by omega
      rcases this with y | y
      · exact z0 (by rw [y]; rfl)
      · exact z1 (by rw [y]; rfl)
theorem i_vc_verdict {k : Nat} {u : SX} {v : SY} (I : i_Rel k u v) (hk : k + 5 ≤ 2564) : wpX_verdict (fun r => wpY_verdict (fun r' => r' = r ∧ i_Rel (k + 5) u v) v) u := by
  refine rl_el (P := fun u v => wpX_verdict (fun r => wpY_verdict (fun r' => r' = r ∧ i_Rel (k + 5) u v) v) u) ?_ I
  intro V T L M N nc ni iS ns nw rv st rc pn bp wt va we so ta gu gs pl mi ad nx ss wc wl ws ce re fr ly pa wy am wd ln sp fa le ma hD hV hC hI hS hW hP hE hR hO
  exact And.intro rfl (rl_mk hD hV hC hI hS hW hP hE hR hO)
theorem i_vc_rounds {k : Nat} {u : SX} {v : SY} (I : i_Rel k u v) (hk : k + 5 ≤ 2564) : wpX_rounds (fun r => wpY_rounds (fun r' => r' = r ∧ i_Rel (k + 5) u v) v) u := by
  refine rl_el (P := fun u v => wpX_rounds (fun r => wpY_rounds (fun r' => r' = r ∧ i_Rel (k + 5) u v) v) u) ?_ I
  intro V T L M N nc ni iS ns nw rv st rc pn bp wt va we so ta gu gs pl mi ad nx ss wc wl ws ce re fr ly pa wy am wd ln sp fa le ma hD hV hC hI hS hW hP hE hR hO
  exact And.intro rfl (rl_mk hD hV hC hI hS hW hP hE hR hO)
theorem i_vc_predicates {k : Nat} {u : SX} {v : SY} (I : i_Rel k u v) (hk : k + 5 ≤ 2564) : wpX_predicates (fun r => wpY_predicates (fun r' => r' = r ∧ i_Rel (k + 5) u v) v) u := by
  refine rl_el (P := fun u v => wpX_predicates (fun r => wpY_predicates (fun r' => r' = r ∧ i_Rel (k + 5) u v) v) u) ?_ I
  intro V T L M N nc ni iS ns nw rv st rc pn bp wt va we so ta gu gs pl mi ad nx ss wc wl ws ce re fr ly pa wy am wd ln sp fa le ma hD hV hC hI hS hW hP hE hR hO
  exact And.intro rfl (rl_mk hD hV hC hI hS hW hP hE hR hO)
theorem i_vc_pathLength {k : Nat} {u : SX} {v : SY} (I : i_Rel k u v) (hk : k + 5 ≤ 2564) : wpX_pathLength (fun r => wpY_pathLength (fun r' => r' = r ∧ i_Rel (k + 5) u v) v) u := by
  refine rl_el (P := fun u v => wpX_pathLength (fun r => wpY_pathLength (fun r' => r' = r ∧ i_Rel (k + 5) u v) v) u) ?_ I
  intro V T L M N nc ni iS ns nw rv st rc pn bp wt va we so ta gu gs pl mi ad nx ss wc wl ws ce re fr ly pa wy am wd ln sp fa le ma hD hV hC hI hS hW hP hE hR hO
  obtain ⟨p1, j, p2, p3, p4⟩ := id hP
  exact And.intro (p4.trans p3.symm) (rl_mk hD hV hC hI hS hW hP hE hR hO)
theorem i_vc_pathBreak {k : Nat} {u : SX} {v : SY} (I : i_Rel k u v) (hk : k + 5 ≤ 2564) : wpX_pathBreak (fun r => wpY_pathBreak (fun r' => r' = r ∧ i_Rel (k + 5) u v) v) u := by
  refine rl_el (P := fun u v => wpX_pathBreak (fun r => wpY_pathBreak (fun r' => r' = r ∧ i_Rel (k + 5) u v) v) u) ?_ I
  intro V T L M N nc ni iS ns nw rv st rc pn bp wt va we so ta gu gs pl mi ad nx ss wc wl ws ce re fr ly pa wy am wd ln sp fa le ma hD hV hC hI hS hW hP hE hR hO
  exact And.intro rfl (rl_mk hD hV hC hI hS hW hP hE hR hO)
theorem i_vc_witness {k : Nat} {u : SX} {v : SY} (I : i_Rel k u v) (hk : k + 5 ≤ 2564) : wpX_witness (fun r => wpY_witness (fun r' => r' = r ∧ i_Rel (k + 5) u v) v) u := by
  refine rl_el (P := fun u v => wpX_witness (fun r => wpY_witness (fun r' => r' = r ∧ i_Rel (k + 5) u v) v) u) ?_ I
  intro V T L M N nc ni iS ns nw rv st rc pn bp wt va we so ta gu gs pl mi ad nx ss wc wl ws ce re fr ly pa wy am wd ln sp fa le ma hD hV hC hI hS hW hP hE hR hO
  obtain ⟨o1, o2, o3, o4⟩ := id hO
  exact br_c (fun z => ⟨(o3 z).symm, rl_mk hD hV hC hI hS hW hP hE hR hO⟩) (fun z => ⟨(o4 z).symm, rl_mk hD hV hC hI hS hW hP hE hR hO⟩)
theorem i_vc_room {k : Nat} {u : SX} {v : SY} (I : i_Rel k u v) (hk : k + 5 ≤ 2564) (v1 : Int32) : wpX_room (fun r => wpY_room (fun r' => r' = r ∧ i_Rel (k + 5) u v) v v1) u v1 := by
  refine rl_el (P := fun u v => wpX_room (fun r => wpY_room (fun r' => r' = r ∧ i_Rel (k + 5) u v) v v1) u v1) ?_ I
  intro V T L M N nc ni iS ns nw rv st rc pn bp wt va we so ta gu gs pl mi ad nx ss wc wl ws ce re fr ly pa wy am wd ln sp fa le ma hD hV hC hI hS hW hP hE hR hO
  have ok := rl_mk (k := k + 5) (rc := rc) (bp := bp) (fr := fr) (ly := ly) (sp := sp) (fa := fa) (le := le) (ma := ma) hD hV hC hI hS hW hP hE hR hO
  have hc16 := hC.1
  refine br_c (fun z0 => br_t z0 ⟨rfl, ok⟩) (fun z0 => br_c (fun z1 => br_c (fun y => br_f z0 (br_t z1 (br_t y ⟨rfl, ok⟩))) (fun y => ?_)) (fun z1 => br_c (fun z2 => br_f z0 (br_f z1 (br_t z2 ⟨rfl, ok⟩))) (fun z2 => br_c (fun z3 => br_f z0 (br_f z1 (br_f z2 (br_t z3 ⟨rfl, ok⟩)))) (fun z3 => br_c (fun z4 => br_f z0 (br_f z1 (br_f z2 (br_f z3 (br_t z4 ⟨rfl, ok⟩))))) (fun z4 => br_f z0 (br_f z1 (br_f z2 (br_f z3 (br_f z4 ⟨rfl, ok⟩)))))))))
  have hn : nc ≠ 0 := fun w => y (by rw [w]; rfl)
  have vi : vp_in (nI nc - 1) 16 := pk_in (nc - 1) 16 (by omega) (pk_sub (b := 1) (by omega))
  exact And.intro vi (br_f z0 (br_t z1 (br_f y (And.intro vi ⟨rfl, ok⟩))))
theorem i_vc_commandFrom {k : Nat} {u : SX} {v : SY} (I : i_Rel k u v) (hk : k + 5 ≤ 2564) (v1 : Int32) : wpX_commandFrom (fun r => wpY_commandFrom (fun r' => r' = r ∧ i_Rel (k + 5) u v) v v1) u v1 := by
  refine rl_el (P := fun u v => wpX_commandFrom (fun r => wpY_commandFrom (fun r' => r' = r ∧ i_Rel (k + 5) u v) v v1) u v1) ?_ I
  intro V T L M N nc ni iS ns nw rv st rc pn bp wt va we so ta gu gs pl mi ad nx ss wc wl ws ce re fr ly pa wy am wd ln sp fa le ma hD hV hC hI hS hW hP hE hR hO
  have ok := rl_mk (k := k + 5) (rc := rc) (bp := bp) (fr := fr) (ly := ly) (sp := sp) (fa := fa) (le := le) (ma := ma) hD hV hC hI hS hW hP hE hR hO
  have hc16 := hC.1
  refine br_c (fun z0 => br_t rfl (br_t z0 ⟨rfl, ok⟩)) (fun z0 => br_c (fun z1 => br_t rfl (br_f z0 (br_f (Int32.not_lt.mpr z1) ⟨rfl, ok⟩))) (fun z1 => br_f (by decide) ?_))
  obtain ⟨j, hj, rfl⟩ := nI_of z0
  have hj2 : j < nc := by
    rw [nI_leI (by omega) hj] at z1
    omega
  have vi : vp_in (nI j) 16 := pk_in j 16 (by omega)
  exact And.intro vi (br_f z0 (br_t (nI_lt hj2 (by omega)) (And.intro vi ⟨rfl, ok⟩)))
theorem i_vc_commandTo {k : Nat} {u : SX} {v : SY} (I : i_Rel k u v) (hk : k + 5 ≤ 2564) (v1 : Int32) : wpX_commandTo (fun r => wpY_commandTo (fun r' => r' = r ∧ i_Rel (k + 5) u v) v v1) u v1 := by
  refine rl_el (P := fun u v => wpX_commandTo (fun r => wpY_commandTo (fun r' => r' = r ∧ i_Rel (k + 5) u v) v v1) u v1) ?_ I
  intro V T L M N nc ni iS ns nw rv st rc pn bp wt va we so ta gu gs pl mi ad nx ss wc wl ws ce re fr ly pa wy am wd ln sp fa le ma hD hV hC hI hS hW hP hE hR hO
  have ok := rl_mk (k := k + 5) (rc := rc) (bp := bp) (fr := fr) (ly := ly) (sp := sp) (fa := fa) (le := le) (ma := ma) hD hV hC hI hS hW hP hE hR hO
  have hc16 := hC.1
  refine br_c (fun z0 => br_t rfl (br_t z0 ⟨rfl, ok⟩)) (fun z0 => br_c (fun z1 => br_t rfl (br_f z0 (br_f (Int32.not_lt.mpr z1) ⟨rfl, ok⟩))) (fun z1 => br_f (by decide) ?_))
  obtain ⟨j, hj, rfl⟩ := nI_of z0
  have hj2 : j < nc := by
    rw [nI_leI (by omega) hj] at z1
    omega
  have vi : vp_in (nI j) 16 := pk_in j 16 (by omega)
  exact And.intro vi (br_f z0 (br_t (nI_lt hj2 (by omega)) (And.intro vi ⟨rfl, ok⟩)))
end
section
/-! the methods that ask about codes, words and paths -/
theorem i_vc_execute {k : Nat} {u : SX} {v : SY} (I : i_Rel k u v) (hk : k + 5 ≤ 2564) (v1 : Int32) (v2 : Int32) : wpX_execute (fun r => wpY_execute (fun r' => r' = r ∧ i_Rel (k + 5) u v) v v1 v2) u v1 v2 := by
  refine rl_el (P := fun u v => wpX_execute (fun r => wpY_execute (fun r' => r' = r ∧ i_Rel (k + 5) u v) v v1 v2) u v1 v2) ?_ I
  intro V T L M N nc ni iS ns nw rv st rc pn bp wt va we so ta gu gs pl mi ad nx ss wc wl ws ce re fr ly pa wy am wd ln sp fa le ma hD hV hC hI hS hW hP hE hR hO
  have ok := rl_mk (k := k + 5) (rc := rc) (bp := bp) (fr := fr) (ly := ly) (sp := sp) (fa := fa) (le := le) (ma := ma) hD hV hC hI hS hW hP hE hR hO
  have hc16 := hC.1
  have hN64 := hD.2.2.2.2.2.1
  refine br_c (fun z0 => br_t rfl (br_t z0 ⟨rfl, ok⟩)) (fun z0 => br_c (fun z1 => br_t rfl (br_f z0 (br_t z1 ⟨rfl, ok⟩))) (fun z1 => br_f (by decide) (br_c (fun z2 => br_t rfl (br_f z0 (br_f z1 (br_t z2 ⟨rfl, ok⟩)))) (fun z2 => br_c (fun z3 => br_t rfl (br_f z0 (br_f z1 (br_f z2 (br_f (Int32.not_lt.mpr z3) ⟨rfl, ok⟩))))) (fun z3 => br_f (by decide) ?_)))))
  obtain ⟨c, hc, rfl⟩ := nI_of z0
  obtain ⟨a, ha, rfl⟩ := nI_of z2
  rw [nI_leI (by omega) hc] at z1
  rw [nI_leI (by omega) ha] at z3
  refine And.intro (pk_in (c * 64 + a) 1024 (by omega) (ix_64 c a)) (yw_exec (rl_yD hD hC) (by omega) (by omega) (hC.2.1 c (by omega)).2.2.1 ⟨?_, ok⟩)
  exact (rd_i (ix_64 c a) (by omega) (hC.2.2 c a (by omega) (by omega))).symm
theorem i_vc_initial {k : Nat} {u : SX} {v : SY} (I : i_Rel k u v) (hk : k + 5 ≤ 2564) (v1 : Int32) : wpX_initial (fun r => wpY_initial (fun r' => r' = r ∧ i_Rel (k + 5) u v) v v1) u v1 := by
  refine rl_el (P := fun u v => wpX_initial (fun r => wpY_initial (fun r' => r' = r ∧ i_Rel (k + 5) u v) v v1) u v1) ?_ I
  intro V T L M N nc ni iS ns nw rv st rc pn bp wt va we so ta gu gs pl mi ad nx ss wc wl ws ce re fr ly pa wy am wd ln sp fa le ma hD hV hC hI hS hW hP hE hR hO
  have ok := rl_mk (k := k + 5) (rc := rc) (bp := bp) (fr := fr) (ly := ly) (sp := sp) (fa := fa) (le := le) (ma := ma) hD hV hC hI hS hW hP hE hR hO
  have hN64 := hD.2.2.2.2.2.1
  refine br_c (fun z0 => br_t rfl (br_t z0 ⟨rfl, ok⟩)) (fun z0 => br_c (fun z1 => br_t rfl (br_f z0 (br_f (Int32.not_lt.mpr z1) ⟨rfl, ok⟩))) (fun z1 => br_f (by decide) ?_))
  obtain ⟨a, ha, rfl⟩ := nI_of z0
  rw [nI_leI (by omega) ha] at z1
  obtain ⟨i1, i2, i3⟩ := id hI
  have ha2 : a < N := by omega
  have go : wpX_contains (fun r => ((r = 0 → wpY_initial (fun r' => r' = 0 ∧ i_Rel (k + 5) (nI V, nI T, nI L, nI M, nI N, sm_fl N, nI nc, nI ni, iS, nI ns, nI nw, rv, st, rc, pn, bp, wt, va, we, so, ta, gu, gs, pl, mi, ad, nx, ss, wc, wl, ws, ce, re, fr, ly, pa) (nI V, nI T, nI (T + 1), nI N, nI L, nI M, nI nc, nI ni, nI ns, nI nw, st, rc, bp, wy, so, ta, gu, am, pl, mi, ad, wd, ln, sp, fa, le, ma)) (nI V, nI T, nI (T + 1), nI N, nI L, nI M, nI nc, nI ni, nI ns, nI nw, st, rc, bp, wy, so, ta, gu, am, pl, mi, ad, wd, ln, sp, fa, le, ma) (nI a)) ∧ (¬ r = 0 → wpY_initial (fun r' => r' = 1 ∧ i_Rel (k + 5) (nI V, nI T, nI L, nI M, nI N, sm_fl N, nI nc, nI ni, iS, nI ns, nI nw, rv, st, rc, pn, bp, wt, va, we, so, ta, gu, gs, pl, mi, ad, nx, ss, wc, wl, ws, ce, re, fr, ly, pa) (nI V, nI T, nI (T + 1), nI N, nI L, nI M, nI nc, nI ni, nI ns, nI nw, st, rc, bp, wy, so, ta, gu, am, pl, mi, ad, wd, ln, sp, fa, le, ma)) (nI V, nI T, nI (T + 1), nI N, nI L, nI M, nI nc, nI ni, nI ns, nI nw, st, rc, bp, wy, so, ta, gu, am, pl, mi, ad, wd, ln, sp, fa, le, ma) (nI a)))) (nI V, nI T, nI L, nI M, nI N, sm_fl N, nI nc, nI ni, iS, nI ns, nI nw, rv, st, rc, pn, bp, wt, va, we, so, ta, gu, gs, pl, mi, ad, nx, ss, wc, wl, ws, ce, re, fr, ly, pa) (sm_of N (pg_in T ni am)) (nI a) :=
    xw_contains hN64 ha2 (fun hs => br_f (by decide) (yw_init (rl_yD hD hC) ha2 i1 i2 (fun _ => ⟨rfl, ok⟩) (fun w => absurd hs w))) (fun hs => br_t rfl (yw_init (rl_yD hD hC) ha2 i1 i2 (fun w => absurd w hs) (fun _ => ⟨rfl, ok⟩)))
  rw [← i3] at go
  exact go
theorem i_vc_predicateCommand {k : Nat} {u : SX} {v : SY} (I : i_Rel k u v) (hk : k + 5 ≤ 2564) (v1 : Int32) (v2 : Int32) : wpX_predicateCommand (fun r => wpY_predicateCommand (fun r' => r' = r ∧ i_Rel (k + 5) u v) v v1 v2) u v1 v2 := by
  refine rl_el (P := fun u v => wpX_predicateCommand (fun r => wpY_predicateCommand (fun r' => r' = r ∧ i_Rel (k + 5) u v) v v1 v2) u v1 v2) ?_ I
  intro V T L M N nc ni iS ns nw rv st rc pn bp wt va we so ta gu gs pl mi ad nx ss wc wl ws ce re fr ly pa wy am wd ln sp fa le ma hD hV hC hI hS hW hP hE hR hO
  have ok := rl_mk (k := k + 5) (rc := rc) (bp := bp) (fr := fr) (ly := ly) (sp := sp) (fa := fa) (le := le) (ma := ma) hD hV hC hI hS hW hP hE hR hO
  have hM := hD.2.2.2.2.2.2.2.2.2
  obtain ⟨w1, w2, w3, w4, w5⟩ := id hW
  refine br_c (fun z0 => br_t rfl (br_t z0 ⟨rfl, ok⟩)) (fun z0 => br_c (fun z1 => br_t rfl (br_f z0 (br_t z1 ⟨rfl, ok⟩))) (fun z1 => br_f (by decide) (br_c (fun z2 => ?_) (fun z2 => br_f z0 (br_f z1 (br_f z2 ⟨rfl, ok⟩))))))
  obtain ⟨p, hp, rfl⟩ := nI_of z0
  have z1' := z1
  rw [nI_leI (by omega) hp] at z1
  obtain ⟨len, l1, l2, l3, l4⟩ := w2.2 p (by omega)
  have ex : wl (nI p).toNatClampNeg = nI len := rd_i rfl hp ((w4 p (by omega)).trans l3)
  have ey : ln (nI p).toNatClampNeg = nI len := rd_i rfl hp l3
  refine And.intro (pk_in p 32 (by omega)) (br_c (fun z3 => ?_) (fun z3 => br_f z0 (br_f z1' (br_t z2 (And.intro (pk_in p 33 (by omega)) (br_f (by rw [ey]; rw [ex] at z3; exact z3) ⟨rfl, ok⟩))))))
  obtain ⟨m, hm, rfl⟩ := nI_of (Int32.not_lt.mpr z2)
  rw [ex] at z3
  have hml := (nI_ltI hm (by omega)).mp z3
  refine And.intro (pk_in (p * 24 + m) 768 (by omega) (ix_24 p m)) (br_f z0 (br_f z1' (br_t z2 (And.intro (pk_in p 33 (by omega)) (br_t (by rw [ey]; exact z3) (And.intro (pk_in (p * 24 + m) 792 (by omega) (ix_24 p m)) ⟨?_, ok⟩))))))
  rw [ix_24, nI_clamp (by omega)]
  exact (w3 _ (by omega)).symm
theorem i_vc_predicateHolds {k : Nat} {u : SX} {v : SY} (I : i_Rel k u v) (hk : k + 5 ≤ 2564) (v1 : Int32) (v2 : Int32) : wpX_predicateHolds (fun r => wpY_predicateHolds (fun r' => r' = r ∧ i_Rel (k + 5) u v) v v1 v2) u v1 v2 := by
  refine rl_el (P := fun u v => wpX_predicateHolds (fun r => wpY_predicateHolds (fun r' => r' = r ∧ i_Rel (k + 5) u v) v v1 v2) u v1 v2) ?_ I
  intro V T L M N nc ni iS ns nw rv st rc pn bp wt va we so ta gu gs pl mi ad nx ss wc wl ws ce re fr ly pa wy am wd ln sp fa le ma hD hV hC hI hS hW hP hE hR hO
  have ok := rl_mk (k := k + 5) (rc := rc) (bp := bp) (fr := fr) (ly := ly) (sp := sp) (fa := fa) (le := le) (ma := ma) hD hV hC hI hS hW hP hE hR hO
  have hM := hD.2.2.2.2.2.2.2.2.2
  have hN64 := hD.2.2.2.2.2.1
  obtain ⟨w1, w2, w3, w4, w5⟩ := id hW
  refine br_c (fun z0 => br_t rfl (br_t z0 ⟨rfl, ok⟩)) (fun z0 => br_c (fun z1 => br_t rfl (br_f z0 (br_t z1 ⟨rfl, ok⟩))) (fun z1 => br_f (by decide) (br_c (fun z2 => br_t rfl (br_f z0 (br_f z1 (br_t z2 ⟨rfl, ok⟩)))) (fun z2 => br_c (fun z3 => br_t rfl (br_f z0 (br_f z1 (br_f z2 (br_f (Int32.not_lt.mpr z3) ⟨rfl, ok⟩))))) (fun z3 => br_f (by decide) ?_)))))
  obtain ⟨p, hp, rfl⟩ := nI_of z0
  obtain ⟨a, ha, rfl⟩ := nI_of z2
  have z1' := z1
  rw [nI_leI (by omega) hp] at z1
  rw [nI_leI (by omega) ha] at z3
  have ha2 : a < N := by omega
  obtain ⟨len, l1, l2, l3, l4⟩ := w2.2 p (by omega)
  have ey : ln (nI p).toNatClampNeg = nI len := rd_i rfl hp l3
  have ewr : yd_wr V T gu am pl mi ad wd ln p a = (pg_rn (pg_ex V T gu am pl mi ad) (pg_w wd) len (p * 24) a).isSome := by
    unfold yd_wr
    rw [l3, nI_clamp (by omega)]
  refine And.intro (pk_in p 32 (by omega)) ?_
  rw [rd_l (f := ws) (x := nI p) rfl hp (w5 p (by omega))]
  refine xw_contains hN64 ha2 (fun hs => br_f (by decide) (br_f z0 (br_f z1' (br_f z2 (br_t (nI_lt ha2 (by omega)) (And.intro (pk_in p 33 (by omega)) ?_)))))) (fun hs => br_t rfl (br_f z0 (br_f z1' (br_f z2 (br_t (nI_lt ha2 (by omega)) (And.intro (pk_in p 33 (by omega)) ?_))))))
  · rw [ey]
    rw [ewr] at hs
    exact yw_runs (rl_yD hD hC) (fun c hc => (hC.2.1 c hc).2.2.1) ha2 (by omega) l2 l4 (br_f (fun w => pg_bI_z.mp w hs) ⟨rfl, ok⟩)
  · rw [ey]
    rw [ewr] at hs
    exact yw_runs (rl_yD hD hC) (fun c hc => (hC.2.1 c hc).2.2.1) ha2 (by omega) l2 l4 (br_t (pg_bI_z.mpr hs) ⟨rfl, ok⟩)
theorem i_vc_pathCommand {k : Nat} {u : SX} {v : SY} (I : i_Rel k u v) (hk : k + 5 ≤ 2564) (v1 : Int32) : wpX_pathCommand (fun r => wpY_pathCommand (fun r' => r' = r ∧ i_Rel (k + 5) u v) v v1) u v1 := by
  refine rl_el (P := fun u v => wpX_pathCommand (fun r => wpY_pathCommand (fun r' => r' = r ∧ i_Rel (k + 5) u v) v v1) u v1) ?_ I
  intro V T L M N nc ni iS ns nw rv st rc pn bp wt va we so ta gu gs pl mi ad nx ss wc wl ws ce re fr ly pa wy am wd ln sp fa le ma hD hV hC hI hS hW hP hE hR hO
  have ok := rl_mk (k := k + 5) (rc := rc) (bp := bp) (fr := fr) (ly := ly) (sp := sp) (fa := fa) (le := le) (ma := ma) hD hV hC hI hS hW hP hE hR hO
  obtain ⟨p1, j, p2, p3, p4⟩ := id hP
  refine br_c (fun z0 => br_t z0 ⟨rfl, ok⟩) (fun z0 => br_c (fun z1 => ?_) (fun z1 => br_f z0 (br_f (by rw [p4]; rw [p3] at z1; exact z1) ⟨rfl, ok⟩)))
  obtain ⟨m, hm, rfl⟩ := nI_of z0
  rw [p3] at z1
  have hmj := (nI_ltI hm (by omega)).mp z1
  have e1 : 768 + nI m = nI (768 + m) := nI_add 768 m
  refine And.intro (pk_in m 24 (by omega)) (br_f z0 (br_t (by rw [p4]; exact z1) (And.intro (pk_in (768 + m) 792 (by omega) e1) ⟨?_, ok⟩)))
  rw [e1, nI_clamp (by omega), nI_clamp hm]
  exact (p1 m (by omega)).symm
theorem i_vc_mayReach {k : Nat} {u : SX} {v : SY} (I : i_Rel k u v) (hk : k + 5 ≤ 2564) (v1 : Int32) (v2 : Int32) : wpX_mayReach (fun r u' => wpY_mayReach (fun r' v' => r' = r ∧ i_Rel (k + 5) u' v') v v1 v2) u v1 v2 := by
  refine rl_el (P := fun u v => wpX_mayReach (fun r u' => wpY_mayReach (fun r' v' => r' = r ∧ i_Rel (k + 5) u' v') v v1 v2) u v1 v2) ?_ I
  intro V T L M N nc ni iS ns nw rv st rc pn bp wt va we so ta gu gs pl mi ad nx ss wc wl ws ce re fr ly pa wy am wd ln sp fa le ma hD hV hC hI hS hW hP hE hR hO
  have ok := rl_mk (k := k + 5) (rc := rc) (bp := bp) (fr := fr) (ly := ly) (sp := sp) (fa := fa) (le := le) (ma := ma) hD hV hC hI hS hW hP hE hR hO
  have hL8 := hD.2.2.2.2.2.2.2.1
  have hL2 := hD.2.2.2.2.2.2.1
  have hN64 := hD.2.2.2.2.2.1
  refine br_c (fun z0 => br_t rfl (br_t z0 ⟨rfl, ok⟩)) (fun z0 => br_c (fun z1 => br_t rfl (br_f z0 (br_t z1 ⟨rfl, ok⟩))) (fun z1 => br_f (by decide) (br_c (fun z2 => br_t rfl (br_f z0 (br_f z1 (br_t z2 ⟨rfl, ok⟩)))) (fun z2 => br_c (fun z3 => br_t rfl (br_f z0 (br_f z1 (br_f z2 (br_f (Int32.not_lt.mpr z3) ⟨rfl, ok⟩))))) (fun z3 => br_f (by decide) ?_)))))
  obtain ⟨l, hl, rfl⟩ := nI_of z0
  obtain ⟨a, ha, rfl⟩ := nI_of z2
  have z1' := z1
  rw [nI_leI (by omega) hl] at z1
  rw [nI_leI (by omega) ha] at z3
  have ha2 : a < N := by omega
  have hl2 : l < L := by omega
  have hyD := rl_yD hD hC
  have hT := rl_T hD hC
  obtain ⟨i1, i2, i3⟩ := id hI
  obtain ⟨sp', fa', le', ma', G, g1, g2, g3, g4, g5, g6, w⟩ := yw_explore (M := M) (st := st) (rc := rc) (bp := bp) (wy := wy) (sp := sp) (fa := fa) (le := le) (ma := ma) hyD (fun c hc => (hC.2.1 c hc).2.2.1) hW.2.1 hS.1 hS.2.1 i1 i2 hT
  refine xw_reach hN64 hL8 (by omega) hC.1 hC.2.2 (yd_B hyD) yd_Qe hE hT i3 hR (fun re' fr' hre => And.intro (pk_in l 8 (by omega)) ?_)
  have ok2 := rl_mk (k := k + 5) (rv := 1) (re := re') (rc := rc) (bp := bp) (fr := fr') (ly := ly) (sp := sp') (fa := fa') (le := le') (ma := ma') hD hV hC hI hS hW hP hE (Or.inr ⟨rfl, hre⟩) hO
  have vi : vp_in (nI l * 64 + nI a) 14912 := pk_in (l * 64 + a) 14912 (by omega) (ix_64 l a)
  have m1 : ma' (nI l * 64 + nI a).toNatClampNeg = 0 ↔ ¬ pg_RR (pg_ex V T gu am pl mi ad) (yd_Q V T ns nw gu am pl mi ad so wd ln) N nc (rl_src so) (rl_src ta) (pg_in T ni am) l a := by
    rw [ix_64, nI_clamp (by omega), ym_0 g3 (by omega) (by omega), g4 l a hl2 ha2]
  rw [rd_l (f := re') (x := nI l) rfl hl (hre l hl2)]
  refine xw_contains hN64 ha2 (fun hs => br_f (by decide) (br_f z0 (br_f z1' (br_f z2 (br_t (nI_lt ha2 (by omega)) (w _ (And.intro vi (br_f (fun y => m1.mp y hs) ⟨rfl, ok2⟩)))))))) (fun hs => br_t rfl (br_f z0 (br_f z1' (br_f z2 (br_t (nI_lt ha2 (by omega)) (w _ (And.intro vi (br_t (m1.mpr hs) ⟨rfl, ok2⟩))))))))
theorem i_vc_classLeast {k : Nat} {u : SX} {v : SY} (I : i_Rel k u v) (hk : k + 5 ≤ 2564) (v1 : Int32) (v2 : Int32) : wpX_classLeast (fun r => wpY_classLeast (fun r' v' => r' = r ∧ i_Rel (k + 5) u v') v v1 v2) u v1 v2 := by
  refine rl_el (P := fun u v => wpX_classLeast (fun r => wpY_classLeast (fun r' v' => r' = r ∧ i_Rel (k + 5) u v') v v1 v2) u v1 v2) ?_ I
  intro V T L M N nc ni iS ns nw rv st rc pn bp wt va we so ta gu gs pl mi ad nx ss wc wl ws ce re fr ly pa wy am wd ln sp fa le ma hD hV hC hI hS hW hP hE hR hO
  have ok := rl_mk (k := k + 5) (rc := rc) (bp := bp) (fr := fr) (ly := ly) (sp := sp) (fa := fa) (le := le) (ma := ma) hD hV hC hI hS hW hP hE hR hO
  have hL8 := hD.2.2.2.2.2.2.2.1
  have hN64 := hD.2.2.2.2.2.1
  refine br_c (fun z0 => br_t rfl (br_t z0 ⟨rfl, ok⟩)) (fun z0 => br_c (fun z1 => br_t rfl (br_f z0 (br_t z1 ⟨rfl, ok⟩))) (fun z1 => br_f (by decide) (br_c (fun z2 => br_t rfl (br_f z0 (br_f z1 (br_t z2 ⟨rfl, ok⟩)))) (fun z2 => br_c (fun z3 => br_t rfl (br_f z0 (br_f z1 (br_f z2 (br_f (Int32.not_lt.mpr z3) ⟨rfl, ok⟩))))) (fun z3 => br_f (by decide) ?_)))))
  obtain ⟨l, hl, rfl⟩ := nI_of z0
  obtain ⟨a, ha, rfl⟩ := nI_of z2
  have z1' := z1
  rw [nI_leI (by omega) hl] at z1
  rw [nI_leI (by omega) ha] at z3
  have ha2 : a < N := by omega
  have hl2 : l < L := by omega
  have hT := rl_T hD hC
  obtain ⟨sp', fa', le', g1, g2, w⟩ := yw_prepare (M := M) (ni := ni) (st := st) (rc := rc) (bp := bp) (wy := wy) (sp := sp) (fa := fa) (le := le) (ma := ma) (ta := ta) (rl_yD hD hC) (fun c hc => (hC.2.1 c hc).2.2.1) hW.2.1 hS.1 hS.2.1 (fun c hc => ⟨rl_src so c, by have := (hT c hc).2.1; omega, (hT c hc).1⟩)
  have ok2 := rl_mk (k := k + 5) (rc := rc) (bp := bp) (fr := fr) (ly := ly) (sp := sp') (fa := fa') (le := le') (ma := ma) hD hV hC hI hS hW hP hE hR hO
  obtain ⟨m, m1, m2, m3, m4⟩ := g2 l hl2 a ha2 ha2
  have vi : vp_in (nI l * 64 + nI a) 512 := pk_in (l * 64 + a) 512 (by omega) (ix_64 l a)
  refine And.intro vi ?_
  rw [rd_l (f := ce) (ix_64 l a) (by omega) (hE l a hl2 ha2)]
  refine xw_low hN64 (show m < N by omega) m3 m4 (br_f z0 (br_f z1' (br_f z2 (br_t (nI_lt ha2 (by omega)) (w _ (And.intro vi ⟨?_, ok2⟩))))))
  exact rd_i (ix_64 l a) (by omega) m2
end
section
/-! what a change of the program keeps -/
def pw_3 (f : Nat → Int32) (c : Nat) (g : Nat → Int32) : Nat → Nat → Int32
  | 0 => f
  | n + 1 => upd (pw_3 f c g n) (c * 3 + n) (g n)
theorem pw_3n {f : Nat → Int32} {c : Nat} {g : Nat → Int32} {n j : Nat} (h : ∀ x, x < n → j ≠ c * 3 + x) : pw_3 f c g n j = f j := by
  induction n with
  | zero => rfl
  | succ n ih =>
    show upd (pw_3 f c g n) (c * 3 + n) (g n) j = f j
    rw [pk_un (h n (by omega))]
    exact ih (fun x hx => h x (by omega))
theorem pw_3s {f : Nat → Int32} {c : Nat} {g : Nat → Int32} {n x : Nat} (h : x < n) : pw_3 f c g n (c * 3 + x) = g x := by
  induction n with
  | zero => omega
  | succ n ih =>
    show upd (pw_3 f c g n) (c * 3 + n) (g n) (c * 3 + x) = g x
    by_cases w : x = n
    · subst w
      exact pk_us
    · rw [pk_un (by omega)]
      exact ih (by omega)
def pw_4 (am : Nat → Int32) (i : Nat) (x r y k : Int32) : Nat → Int32 := upd (upd (upd (upd am (i * 4) x) (i * 4 + 1) r) (i * 4 + 2) y) (i * 4 + 3) k
def pw_ag (am am' : Nat → Int32) (j : Nat) : Prop := am' (j * 4) = am (j * 4) ∧ am' (j * 4 + 1) = am (j * 4 + 1) ∧ am' (j * 4 + 2) = am (j * 4 + 2) ∧ am' (j * 4 + 3) = am (j * 4 + 3)
theorem pw_4ag {am : Nat → Int32} {i j : Nat} {x r y k : Int32} (h : j ≠ i) : pw_ag am (pw_4 am i x r y k) j := by
  unfold pw_ag pw_4
  refine ⟨?_, ?_, ?_, ?_⟩ <;> rw [pk_un (by omega), pk_un (by omega), pk_un (by omega), pk_un (by omega)]
theorem pw_40 {am : Nat → Int32} {i : Nat} {x r y k : Int32} : pw_4 am i x r y k (i * 4) = x := by
  unfold pw_4
  rw [pk_un (by omega), pk_un (by omega), pk_un (by omega), pk_us]
theorem pw_41 {am : Nat → Int32} {i : Nat} {x r y k : Int32} : pw_4 am i x r y k (i * 4 + 1) = r := by
  unfold pw_4
  rw [pk_un (by omega), pk_un (by omega), pk_us]
theorem pw_42 {am : Nat → Int32} {i : Nat} {x r y k : Int32} : pw_4 am i x r y k (i * 4 + 2) = y := by
  unfold pw_4
  rw [pk_un (by omega), pk_us]
theorem pw_43 {am : Nat → Int32} {i : Nat} {x r y k : Int32} : pw_4 am i x r y k (i * 4 + 3) = k := by
  unfold pw_4
  rw [pk_us]
theorem pw_hd {B : Nat} {am : Nat → Int32} {i a : Nat} {x r y k : Int32} : pg_hd B (pw_4 am i x r y k) i a = pg_hA B x r y k a := by
  unfold pg_hd
  rw [pw_40, pw_41, pw_42, pw_43]
theorem pw_hdk {B : Nat} {am am' : Nat → Int32} {j : Nat} (h : pw_ag am am' j) (a : Nat) : pg_hd B am' j a = pg_hd B am j a := by
  unfold pg_hd
  rw [h.1, h.2.1, h.2.2.1, h.2.2.2]
theorem pw_wak {V : Nat} {am am' : Nat → Int32} {j : Nat} (h : pw_ag am am' j) (w : pg_wa V am j) : pg_wa V am' j := by
  unfold pg_wa
  rw [h.1, h.2.2.1]
  exact w
theorem pw_wan {V : Nat} {am : Nat → Int32} {i : Nat} {x r y k : Int32} (h1 : pg_wo V x) (h2 : pg_wo V y) : pg_wa V (pw_4 am i x r y k) i := by
  unfold pg_wa
  rw [pw_40, pw_42]
  exact ⟨h1, h2⟩
theorem pw_ga {B : Nat} {am am' : Nat → Int32} {c a : Nat} : ∀ {g : Nat}, (∀ i, i < g → pw_ag am am' (c * 3 + i)) → pg_ga B am' c a g = pg_ga B am c a g
  | 0, _ => rfl
  | g + 1, h => by
    rw [pg_ga, pg_ga, pw_ga (g := g) (fun i hi => h i (by omega)), pw_hdk (h g (by omega))]
theorem pw_ea {B T : Nat} {pl mi ad pl' mi' ad' : Nat → Int32} {c a : Nat} : ∀ {n : Nat}, (∀ x, x < n → pl' (c * 3 + x) = pl (c * 3 + x) ∧ mi' (c * 3 + x) = mi (c * 3 + x) ∧ ad' (c * 3 + x) = ad (c * 3 + x)) → pg_ea B T pl' mi' ad' c a n = pg_ea B T pl mi ad c a n
  | 0, _ => rfl
  | n + 1, h => by
    have h1 := h n (by omega)
    have e : pg_fv B pl' mi' ad' c a n = pg_fv B pl mi ad c a n := by
      unfold pg_fv
      rw [h1.1, h1.2.1, h1.2.2]
    rw [pg_ea, pg_ea, pw_ea (n := n) (fun x hx => h x (by omega)), e]
theorem pw_ex {V T : Nat} {gu am pl mi ad gu' am' pl' mi' ad' : Nat → Int32} {c : Nat} (h1 : gu' c = gu c) (h2 : ∀ i, i < (gu c).toNatClampNeg → pw_ag am am' (c * 3 + i)) (h3 : ∀ x, x < V → pl' (c * 3 + x) = pl (c * 3 + x) ∧ mi' (c * 3 + x) = mi (c * 3 + x) ∧ ad' (c * 3 + x) = ad (c * 3 + x)) (a : Nat) :
    pg_ex V T gu' am' pl' mi' ad' c a = (pg_ex V T gu am pl mi ad) c a := by
  unfold pg_ex
  rw [h1, pw_ga h2, pw_ea h3]
theorem pw_in {T ni : Nat} {am am' : Nat → Int32} (h : ∀ i, i < ni → pw_ag am am' (48 + i)) : pg_in T ni am' = pg_in T ni am := by
  funext a
  apply propext
  unfold pg_in
  constructor
  · intro q i hi
    rw [← pw_hdk (h i hi)]
    exact q i hi
  · intro q i hi
    rw [pw_hdk (h i hi)]
    exact q i hi
section
variable {V T L M N nc ni ns nw : Nat} {rv st rc pn bp wt wy : Int32} {iS : Int64} {va we so ta gu pl mi ad nx wc wl pa am wd ln sp fa le ma : Nat → Int32} {gs ss ws ce re fr ly : Nat → Int64}
theorem rl_Ik {am' : Nat → Int32} (h : ∀ i, i < 4 → pw_ag am am' (48 + i)) (hI : rl_I V T N ni am iS) : rl_I V T N ni am' iS := by
  obtain ⟨i1, i2, i3⟩ := hI
  refine ⟨i1, fun i hi => pw_wak (h i (by omega)) (i2 i hi), ?_⟩
  rw [pw_in (fun i hi => h i (by omega))]
  exact i3
theorem rl_Sk {am' : Nat → Int32} (h : ∀ i, i < 4 → pw_ag am am' (52 + i)) (hS : rl_S V T N ns am ss) : rl_S V T N ns am' ss := by
  obtain ⟨i1, i2, i3⟩ := hS
  refine ⟨i1, fun i hi => pw_wak (h i (by omega)) (i2 i hi), fun s hs => ?_⟩
  rw [i3 s hs]
  exact sm_cg fun a _ => by rw [pw_hdk (h s (by omega))]
theorem rl_Wk {nc' : Nat} {gu' am' pl' mi' ad' : Nat → Int32} (h0 : nw = 0) (hW : rl_W V T N M nc nw gu am pl mi ad wd ln wc wl ws) : rl_W V T N M nc' nw gu' am' pl' mi' ad' wd ln wc wl ws := by
  subst h0
  exact ⟨hW.1, ⟨by omega, fun p hp => by omega⟩, hW.2.2.1, hW.2.2.2.1, fun p hp => by omega⟩
theorem rl_Ek {gu' am' pl' mi' ad' so' : Nat → Int32} (h0 : nw = 0) (hs : ns ≤ 4) (h : ∀ i, i < 4 → pw_ag am am' (52 + i)) (hE : rl_E V T L N ns nw so gu am pl mi ad wd ln ce) : rl_E V T L N ns nw so' gu' am' pl' mi' ad' wd ln ce := by
  subst h0
  intro l a hl ha
  rw [hE l a hl ha]
  refine sm_cg fun b _ => ?_
  rw [yd_Q_0, yd_Q_0]
  constructor
  · intro q s hs2
    rw [pw_hdk (h s (by omega)), pw_hdk (h s (by omega))]
    exact q s hs2
  · intro q s hs2
    rw [← pw_hdk (h s (by omega)), ← pw_hdk (B := T + 1) (h s (by omega)) b]
    exact q s hs2
theorem pw_agr (am : Nat → Int32) (j : Nat) : pw_ag am am j := ⟨rfl, rfl, rfl, rfl⟩
/-- the reference writes an atom -/
theorem yw_put {post : SY → Prop} {i : Nat} {x r y k : Int32} (hi : i < 56) (h : post (nI V, nI T, nI (T + 1), nI N, nI L, nI M, nI nc, nI ni, nI ns, nI nw, st, rc, bp, wy, so, ta, gu, pw_4 am i x r y k, pl, mi, ad, wd, ln, sp, fa, le, ma)) : wpY_putAtom post (nI V, nI T, nI (T + 1), nI N, nI L, nI M, nI nc, nI ni, nI ns, nI nw, st, rc, bp, wy, so, ta, gu, am, pl, mi, ad, wd, ln, sp, fa, le, ma) (nI i) x r y k := by
  have e0 := ix_4 i
  have e1 : nI i * 4 + 1 = nI (i * 4 + 1) := ix_4k i 1 rfl
  have e2 : nI i * 4 + 2 = nI (i * 4 + 2) := ix_4k i 2 rfl
  have e3 : nI i * 4 + 3 = nI (i * 4 + 3) := ix_4k i 3 rfl
  exact And.intro (pk_in _ 224 (by omega) e0) (nm_r (wr_i e0 (by omega) rfl) (And.intro (pk_in _ 224 (by omega) e1) (nm_r (wr_i e1 (by omega) rfl) (And.intro (pk_in _ 224 (by omega) e2) (nm_r (wr_i e2 (by omega) rfl) (And.intro (pk_in _ 224 (by omega) e3) (nm_r (wr_i e3 (by omega) rfl) h)))))))
theorem yw_wf {post : Int32 → Prop} {p0 p1 p2 p3 : Int32} (h1 : pg_wf V p0 p1 p2 p3 → post 1) (h0 : ¬ pg_wf V p0 p1 p2 p3 → post 0) : wpY_wellFormed post (nI V, nI T, nI (T + 1), nI N, nI L, nI M, nI nc, nI ni, nI ns, nI nw, st, rc, bp, wy, so, ta, gu, am, pl, mi, ad, wd, ln, sp, fa, le, ma) p0 p1 p2 p3 := by
  refine br_c (fun q => h0 (fun w => w.1 q)) (fun q1 => br_c (fun q => h0 (fun w => w.2.1 q)) (fun q2 => br_c (fun q => h0 (fun w => w.2.2.1 q)) (fun q3 => br_c (fun q => h0 (fun w => w.2.2.2.1 q)) (fun q4 => ?_))))
  exact br_c (fun q => h0 (fun w => w.2.2.2.2.1 q)) (fun q5 => br_c (fun q => h0 (fun w => w.2.2.2.2.2.1 q)) (fun q6 => br_c (fun q => h0 (fun w => w.2.2.2.2.2.2.1 q)) (fun q7 => br_c (fun q => h0 (fun w => w.2.2.2.2.2.2.2 q)) (fun q8 => h1 ⟨q1, q2, q3, q4, q5, q6, q7, q8⟩))))
theorem yw_c84 {post : Int32 → SY → Prop} (hn : nc < 16) (h : wY_command_84 post (nI V) (nI T) (nI (T + 1)) (nI N) (nI L) (nI M) (nI nc) (nI ni) (nI ns) (nI nw) st rc bp wy 1 (nI 3) so ta gu am (pw_3 pl nc nI 3) (pw_3 mi nc (fun _ => -1) 3) (pw_3 ad nc (fun _ => 0) 3) wd ln sp fa le ma) : ∃ n, wY_command_84 post (nI V) (nI T) (nI (T + 1)) (nI N) (nI L) (nI M) (nI nc) (nI ni) (nI ns) (nI nw) st rc bp wy n 0 so ta gu am pl mi ad wd ln sp fa le ma := by
  refine ⟨4, ?_⟩
  suffices H : ∀ d x, x + d = 3 → wY_command_84 post (nI V) (nI T) (nI (T + 1)) (nI N) (nI L) (nI M) (nI nc) (nI ni) (nI ns) (nI nw) st rc bp wy (d + 1) (nI x) so ta gu am (pw_3 pl nc nI x) (pw_3 mi nc (fun _ => -1) x) (pw_3 ad nc (fun _ => 0) x) wd ln sp fa le ma from H 3 0 (by omega)
  intro d
  induction d with
  | zero =>
    intro x hx
    have : x = 3 := by omega
    subst this
    exact h
  | succ d ih =>
    intro x hx
    have e1 := ix_3 nc x
    have vi : vp_in (nI nc * 3 + nI x) 48 := pk_in (nc * 3 + x) 48 (by omega) e1
    exact br_f (nI_ge (a := x) (b := 3) (by omega) (by omega)) (And.intro vi (nm_r (wr_i e1 (by omega) rfl) (And.intro vi (nm_r (wr_i e1 (by omega) rfl) (And.intro vi (nm_r (wr_i e1 (by omega) rfl) (nm_r (nI_1 x) (ih (x + 1) (by omega)))))))))
theorem xw_c95 {post : Int32 → SX → Prop} {c : Nat} (hn : c < 16) (h : wX_command_95 post (nI c) (nI V) (nI T) (nI L) (nI M) (nI N) (sm_fl N) (nI nc) (nI ni) iS (nI ns) (nI nw) rv st rc pn bp wt 1 (nI 3) va we so ta gu gs (pw_3 pl c nI 3) (pw_3 mi c (fun _ => -1) 3) (pw_3 ad c (fun _ => 0) 3) nx ss wc wl ws ce re fr ly pa) : ∃ n, wX_command_95 post (nI c) (nI V) (nI T) (nI L) (nI M) (nI N) (sm_fl N) (nI nc) (nI ni) iS (nI ns) (nI nw) rv st rc pn bp wt n 0 va we so ta gu gs pl mi ad nx ss wc wl ws ce re fr ly pa := by
  refine ⟨4, ?_⟩
  suffices H : ∀ d x, x + d = 3 → wX_command_95 post (nI c) (nI V) (nI T) (nI L) (nI M) (nI N) (sm_fl N) (nI nc) (nI ni) iS (nI ns) (nI nw) rv st rc pn bp wt (d + 1) (nI x) va we so ta gu gs (pw_3 pl c nI x) (pw_3 mi c (fun _ => -1) x) (pw_3 ad c (fun _ => 0) x) nx ss wc wl ws ce re fr ly pa from H 3 0 (by omega)
  intro d
  induction d with
  | zero =>
    intro x hx
    have : x = 3 := by omega
    subst this
    exact h
  | succ d ih =>
    intro x hx
    have e1 := ix_3 c x
    have vi : vp_in (nI c * 3 + nI x) 48 := pk_in (c * 3 + x) 48 (by omega) e1
    exact br_f (nI_ge (a := x) (b := 3) (by omega) (by omega)) (And.intro vi (nm_r (wr_i e1 (by omega) rfl) (And.intro vi (nm_r (wr_i e1 (by omega) rfl) (And.intro vi (nm_r (wr_i e1 (by omega) rfl) (nm_r (nI_1 x) (ih (x + 1) (by omega)))))))))
end
end
section
/-! command, guard, assign -/
theorem i_vc_command {k : Nat} {u : SX} {v : SY} (I : i_Rel k u v) (hk : k + 5 ≤ 2564) (v1 : Int32) (v2 : Int32) : wpX_command (fun r u' => wpY_command (fun r' v' => r' = r ∧ i_Rel (k + 5) u' v') v v1 v2) u v1 v2 := by
  refine rl_el (P := fun u v => wpX_command (fun r u' => wpY_command (fun r' v' => r' = r ∧ i_Rel (k + 5) u' v') v v1 v2) u v1 v2) ?_ I
  intro V T L M N nc ni iS ns nw rv st rc pn bp wt va we so ta gu gs pl mi ad nx ss wc wl ws ce re fr ly pa wy am wd ln sp fa le ma hD hV hC hI hS hW hP hE hR hO
  have ok := rl_mk (k := k + 5) (rc := rc) (bp := bp) (fr := fr) (ly := ly) (sp := sp) (fa := fa) (le := le) (ma := ma) hD hV hC hI hS hW hP hE hR hO
  obtain ⟨d1, d2, d3, d4, d5, hN64, d7, hL8, d9, hM32⟩ := id hD
  obtain ⟨o1, o2, o3, o4⟩ := id hO
  have hc16 := hC.1
  have e2 : nI L - 2 = nI (L - 2) := pk_sub (b := 2) (by omega)
  have e1 : nI L - 1 = nI (L - 1) := pk_sub (b := 1) (by omega)
  refine br_c (fun z => ?_) (fun z => br_f z ⟨rfl, ok⟩)
  refine br_c (fun q0 => br_t z (br_t q0 ⟨rfl, ok⟩)) (fun q0 => br_c (fun q1 => br_t z (br_f q0 (br_t q1 ⟨rfl, ok⟩))) (fun q1 => ?_))
  refine br_c (fun q2 => br_t rfl (br_t z (br_f q0 (br_f q1 (br_t q2 ⟨rfl, ok⟩))))) (fun q2 => ?_)
  obtain ⟨t, ht, rfl⟩ := nI_of q2
  refine pk_le L t (fun q3 => br_t rfl (br_t z (br_f q0 (br_f q1 (br_f q2 (br_f ?_ ⟨rfl, ok⟩)))))) (fun q3 => br_f (by decide) ?_)
  · rw [e1]
    exact nI_ge (by omega) (by omega)
  obtain ⟨l, hl, rfl⟩ := nI_of q0
  have q1' := q1
  rw [e2, nI_ltI (by omega) hl] at q1'
  have q4 : nI t ≤ nI L - 1 := by
    rw [e1]
    exact nI_le (by omega) (by omega)
  refine pk_lt nc 16 (fun lt => ?_) (fun ge => ?_)
  rotate_left
  · refine br_t z (br_f q0 (br_f q1 (br_f q2 (br_t q4 (br_t ?_ ⟨rfl, ok⟩)))))
    have : nc = 16 := by omega
    rw [this]
    rfl
  have vi : vp_in (nI nc) 16 := pk_in nc 16 lt
  have cl : (nI nc).toNatClampNeg = nc := nI_clamp (by omega)
  refine nm_r (nI_1 nc) (And.intro vi (nm_r (wr_i rfl (by omega) rfl) (And.intro vi (nm_r (wr_i rfl (by omega) rfl) (And.intro vi (nm_r (wr_i rfl (by omega) rfl) (And.intro vi (nm_r (wr_l rfl (by omega) rfl) ?_))))))))
  refine xw_c95 (nc := nc + 1) lt (br_t (by decide) ?_)
  have hga : vp_updL gs nc (sm_fl N) nc = sm_of N (fun a => pg_ga (T + 1) am nc a (upd gu nc 0 nc).toNatClampNeg = true) := by
    rw [pk_uLs, pk_us]
    exact sm_cg fun a _ => ⟨fun _ => rfl, fun _ => trivial⟩
  have hpo : ∀ x, x < V → pg_wo V (pw_3 pl nc nI 3 (nc * 3 + x)) ∧ pg_wo V (pw_3 mi nc (fun _ => -1) 3 (nc * 3 + x)) := fun x hx => by
    rw [pw_3s (by omega), pw_3s (by omega)]
    exact ⟨Or.inr ⟨x, hx, rfl⟩, Or.inl rfl⟩
  refine xw_row (nc := nc + 1) d2 d4 hN64 hV lt hga hpo (fun nx' h1 h2 => ?_)
  have q6 : ¬ nI nc = 16 := fun w => by
    have := (nI_eq (a := nc) (b := 16) (by omega) (by omega)).mp w
    omega
  have hn0 := o2 z
  have old : ∀ c, c < nc → pg_ex V T (upd gu nc 0) am (pw_3 pl nc nI 3) (pw_3 mi nc (fun _ => -1) 3) (pw_3 ad nc (fun _ => 0) 3) c = (pg_ex V T gu am pl mi ad) c := fun c hc => by
    funext a
    exact pw_ex (pk_un (by omega)) (fun i _ => pw_agr _ _) (fun x hx => ⟨pw_3n (fun y hy => by omega), pw_3n (fun y hy => by omega), pw_3n (fun y hy => by omega)⟩) a
  have hC' : rl_C V T L N (nc + 1) (upd so nc (nI l)) (upd ta nc (nI t)) (upd gu nc 0) am (pw_3 pl nc nI 3) (pw_3 mi nc (fun _ => -1) 3) (pw_3 ad nc (fun _ => 0) 3) (vp_updL gs nc (sm_fl N)) nx' := by
    refine ⟨by omega, fun c hc => ?_, fun c a hc ha => ?_⟩
    · by_cases y : c = nc
      · subst y
        exact ⟨⟨l, by omega, pk_us⟩, ⟨t, q3, pk_us⟩, ⟨⟨0, by omega, pk_us, fun i hi => by omega⟩, hpo⟩, hga⟩
      · obtain ⟨y1, y2, ⟨⟨g, y3, y4, y5⟩, y6⟩, y7⟩ := hC.2.1 c (by omega)
        refine ⟨by rw [pk_un y]; exact y1, by rw [pk_un y]; exact y2, ⟨⟨g, y3, by rw [pk_un y]; exact y4, y5⟩, fun x hx => ?_⟩, ?_⟩
        · rw [pw_3n (fun w hw => by omega), pw_3n (fun w hw => by omega)]
          exact y6 x hx
        · rw [pk_uLn y, pk_un y]
          exact y7
    · by_cases y : c = nc
      · subst y
        exact h1 a ha
      · rw [h2 _ (fun b hb => by omega), old c (by omega)]
        exact hC.2.2 c a (by omega) ha
  refine br_t z (br_f q0 (br_f q1 (br_f q2 (br_t q4 (br_f q6 (And.intro vi (nm_r (wr_i rfl (by omega) rfl) (And.intro vi (nm_r (wr_i rfl (by omega) rfl) (And.intro vi (nm_r (wr_i rfl (by omega) rfl) ?_)))))))))))
  refine yw_c84 lt (br_t (by decide) (nm_r (nI_1 nc) ⟨nI_pred nc, ?_⟩))
  exact rl_mk hD hV hC' hI hS (rl_Wk hn0 hW) hP (rl_Ek hn0 hS.1 (fun _ _ => pw_agr _ _) hE) (Or.inl rfl) hO
theorem i_vc_guard {k : Nat} {u : SX} {v : SY} (I : i_Rel k u v) (hk : k + 5 ≤ 2564) (v1 : Int32) (v2 : Int32) (v3 : Int32) (v4 : Int32) : wpX_guard (fun r u' => wpY_guard (fun r' v' => r' = r ∧ i_Rel (k + 5) u' v') v v1 v2 v3 v4) u v1 v2 v3 v4 := by
  refine rl_el (P := fun u v => wpX_guard (fun r u' => wpY_guard (fun r' v' => r' = r ∧ i_Rel (k + 5) u' v') v v1 v2 v3 v4) u v1 v2 v3 v4) ?_ I
  intro V T L M N nc ni iS ns nw rv st rc pn bp wt va we so ta gu gs pl mi ad nx ss wc wl ws ce re fr ly pa wy am wd ln sp fa le ma hD hV hC hI hS hW hP hE hR hO
  have ok := rl_mk (k := k + 5) (rc := rc) (bp := bp) (fr := fr) (ly := ly) (sp := sp) (fa := fa) (le := le) (ma := ma) hD hV hC hI hS hW hP hE hR hO
  obtain ⟨d1, d2, d3, d4, d5, hN64, d7, hL8, d9, hM32⟩ := id hD
  obtain ⟨o1, o2, o3, o4⟩ := id hO
  have hc16 := hC.1
  refine br_c (fun z => ?_) (fun z => br_f z ⟨rfl, ok⟩)
  refine xw_wf (fun wf => br_f (by decide) ?_) (fun wf => br_t rfl (br_t z (yw_wf (fun w => absurd w wf) (fun _ => br_t rfl ⟨rfl, ok⟩))))
  have YW : ∀ R : Int32 → Prop, R 1 → wpY_wellFormed R (nI V, nI T, nI (T + 1), nI N, nI L, nI M, nI nc, nI ni, nI ns, nI nw, st, rc, bp, wy, so, ta, gu, am, pl, mi, ad, wd, ln, sp, fa, le, ma) v1 v2 v3 v4 := fun R h => yw_wf (fun _ => h) (fun w => absurd wf w)
  obtain ⟨j, hj, rfl⟩ := pg_ix d2 wf.1 wf.2.1
  have hy : pg_wo V v3 := pg_wo_of d2 wf.2.2.2.2.1 wf.2.2.2.2.2.1
  refine br_c (fun q => br_t z (YW _ (br_f (by decide) (br_t q ⟨rfl, ok⟩)))) (fun q => ?_)
  obtain ⟨c, rfl⟩ : ∃ c, nc = c + 1 := ⟨nc - 1, by
    have : nc ≠ 0 := fun w => q (by rw [w]; rfl)
    omega⟩
  obtain ⟨y1, y2, ⟨⟨g, y3, y4, y5⟩, y6⟩, y7⟩ := hC.2.1 c (by omega)
  have vi : vp_in (nI c) 16 := pk_in c 16 (by omega)
  have eg : gu (nI c).toNatClampNeg = nI g := rd_i rfl (by omega) y4
  have es : gs (nI c).toNatClampNeg = sm_of N (fun a => pg_ga (T + 1) am c a g = true) := rd_l rfl (by omega) (by rw [y7, y4, nI_clamp (by omega)])
  refine nm_r (nI_pred c) (And.intro vi ?_)
  rw [eg]
  refine pk_lt g 3 (fun lt => ?_) (fun ge => ?_)
  rotate_left
  · refine br_t z (YW _ (br_f (by decide) (br_f q (nm_r (nI_pred c) (And.intro vi (br_t ?_ ⟨rfl, ok⟩))))))
    rw [eg, show g = 3 by omega]
    rfl
  have ne3 : ¬ gu (nI c).toNatClampNeg = 3 := fun w => by
    rw [eg] at w
    have := (nI_eq (a := g) (b := 3) (by omega) (by omega)).mp w
    omega
  refine xw_atom d2 hN64 hV hj hy ?_
  rw [es]
  refine And.intro vi (And.intro vi (nm_r (wr_l rfl (by omega) (sm_and _ _ _)) (And.intro vi (And.intro vi (nm_r (wr_i rfl (by omega) (nI_1 g)) ?_)))))
  have ag : ∀ i, i ≠ c * 3 + g → pw_ag am (pw_4 am (c * 3 + g) (nI j) v2 v3 v4) i := fun i hi => pw_4ag hi
  have hga : vp_updL gs c (sm_of N (fun a => pg_ga (T + 1) am c a g = true ∧ pg_hA (T + 1) (nI j) v2 v3 v4 a = true)) c = sm_of N (fun a => pg_ga (T + 1) (pw_4 am (c * 3 + g) (nI j) v2 v3 v4) c a (upd gu c (nI (g + 1)) c).toNatClampNeg = true) := by
    rw [pk_uLs, pk_us, nI_clamp (by omega)]
    refine sm_cg fun a _ => ?_
    rw [pg_ga, Bool.and_eq_true, pw_ga (fun i hi => ag _ (by omega)), pw_hd]
  refine xw_row d2 d4 hN64 hV (by omega) hga y6 (fun nx' h1 h2 => And.intro vi ?_)
  have hn0 := o2 z
  have old : ∀ c', c' < c → pg_ex V T (upd gu c (nI (g + 1))) (pw_4 am (c * 3 + g) (nI j) v2 v3 v4) pl mi ad c' = (pg_ex V T gu am pl mi ad) c' := fun c' hc' => by
    funext a
    obtain ⟨-, -, ⟨⟨g', x3, x4, -⟩, -⟩, -⟩ := hC.2.1 c' (by omega)
    refine pw_ex (pk_un (by omega)) (fun i hi => ag _ ?_) (fun x hx => ⟨rfl, rfl, rfl⟩) a
    rw [x4, nI_clamp (by omega)] at hi
    omega
  have hC' : rl_C V T L N (c + 1) so ta (upd gu c (nI (g + 1))) (pw_4 am (c * 3 + g) (nI j) v2 v3 v4) pl mi ad (vp_updL gs c (sm_of N (fun a => pg_ga (T + 1) am c a g = true ∧ pg_hA (T + 1) (nI j) v2 v3 v4 a = true))) nx' := by
    refine ⟨hc16, fun c' hc' => ?_, fun c' a hc' ha => ?_⟩
    · by_cases y : c' = c
      · subst y
        refine ⟨y1, y2, ⟨⟨g + 1, by omega, pk_us, fun i hi => ?_⟩, y6⟩, hga⟩
        by_cases w : i = g
        · subst w
          exact pw_wan (Or.inr ⟨j, hj, rfl⟩) hy
        · exact pw_wak (ag _ (by omega)) (y5 i (by omega))
      · obtain ⟨x1, x2, ⟨⟨g', x3, x4, x5⟩, x6⟩, x7⟩ := hC.2.1 c' (by omega)
        refine ⟨x1, x2, ⟨⟨g', x3, by rw [pk_un y]; exact x4, fun i hi => pw_wak (ag _ (by omega)) (x5 i hi)⟩, x6⟩, ?_⟩
        rw [pk_uLn y, pk_un y, x7]
        refine sm_cg fun a _ => ?_
        rw [pw_ga (fun i hi => ag _ ?_)]
        rw [x4, nI_clamp (by omega)] at hi
        omega
    · by_cases y : c' = c
      · subst y
        exact h1 a ha
      · rw [h2 _ (fun b hb => by omega), old c' (by omega)]
        exact hC.2.2 c' a (by omega) ha
  refine br_t z (YW _ (br_f (by decide) (br_f q (nm_r (nI_pred c) (And.intro vi (br_f ne3 (And.intro vi ?_)))))))
  rw [eg, ix_3]
  refine yw_put (by omega) ?_
  refine And.intro vi (And.intro vi (nm_r (wr_i rfl (by omega) ((congrArg (· + 1) eg).trans (nI_1 g))) (And.intro vi ⟨rfl, ?_⟩)))
  exact rl_mk hD hV hC' (rl_Ik (fun i hi => ag _ (by omega)) hI) (rl_Sk (fun i hi => ag _ (by omega)) hS) (rl_Wk hn0 hW) hP (rl_Ek hn0 hS.1 (fun i hi => ag _ (by omega)) hE) (Or.inl rfl) hO
theorem i_vc_assign {k : Nat} {u : SX} {v : SY} (I : i_Rel k u v) (hk : k + 5 ≤ 2564) (v1 : Int32) (v2 : Int32) (v3 : Int32) (v4 : Int32) : wpX_assign (fun r u' => wpY_assign (fun r' v' => r' = r ∧ i_Rel (k + 5) u' v') v v1 v2 v3 v4) u v1 v2 v3 v4 := by
  refine rl_el (P := fun u v => wpX_assign (fun r u' => wpY_assign (fun r' v' => r' = r ∧ i_Rel (k + 5) u' v') v v1 v2 v3 v4) u v1 v2 v3 v4) ?_ I
  intro V T L M N nc ni iS ns nw rv st rc pn bp wt va we so ta gu gs pl mi ad nx ss wc wl ws ce re fr ly pa wy am wd ln sp fa le ma hD hV hC hI hS hW hP hE hR hO
  have ok := rl_mk (k := k + 5) (rc := rc) (bp := bp) (fr := fr) (ly := ly) (sp := sp) (fa := fa) (le := le) (ma := ma) hD hV hC hI hS hW hP hE hR hO
  obtain ⟨d1, d2, d3, d4, d5, hN64, d7, hL8, d9, hM32⟩ := id hD
  obtain ⟨o1, o2, o3, o4⟩ := id hO
  have hc16 := hC.1
  refine br_c (fun z => ?_) (fun z => br_f z ⟨rfl, ok⟩)
  refine br_c (fun q0 => br_t z (br_t q0 ⟨rfl, ok⟩)) (fun q0 => br_c (fun q1 => br_t z (br_f q0 (br_t q1 ⟨rfl, ok⟩))) (fun q1 => ?_))
  refine br_c (fun q2 => br_t rfl (br_t z (br_f q0 (br_f q1 (br_t q2 ⟨rfl, ok⟩))))) (fun q2 => br_c (fun q3 => br_t rfl (br_t z (br_f q0 (br_f q1 (br_f q2 (br_t q3 ⟨rfl, ok⟩)))))) (fun q3 => br_f (by decide) ?_))
  refine br_c (fun q4 => br_t rfl (br_t z (br_f q0 (br_f q1 (br_f q2 (br_f q3 (br_t q4 ⟨rfl, ok⟩))))))) (fun q4 => br_c (fun q5 => br_t rfl (br_t z (br_f q0 (br_f q1 (br_f q2 (br_f q3 (br_f q4 (br_t q5 ⟨rfl, ok⟩)))))))) (fun q5 => br_f (by decide) ?_))
  refine br_c (fun q6 => br_t rfl (br_t z (br_f q0 (br_f q1 (br_f q2 (br_f q3 (br_f q4 (br_f q5 (br_t q6 ⟨rfl, ok⟩))))))))) (fun q6 => br_c (fun q7 => br_t rfl (br_t z (br_f q0 (br_f q1 (br_f q2 (br_f q3 (br_f q4 (br_f q5 (br_f q6 (br_f (Int32.not_le.mpr q7) ⟨rfl, ok⟩)))))))))) (fun q7 => br_f (by decide) ?_))
  have q7' := Int32.not_lt.mp q7
  refine br_c (fun q => br_t z (br_f q0 (br_f q1 (br_f q2 (br_f q3 (br_f q4 (br_f q5 (br_f q6 (br_t q7' (br_t q ⟨rfl, ok⟩)))))))))) (fun q => ?_)
  obtain ⟨c, rfl⟩ : ∃ c, nc = c + 1 := ⟨nc - 1, by
    have : nc ≠ 0 := fun w => q (by rw [w]; rfl)
    omega⟩
  obtain ⟨x, hx, rfl⟩ := pg_ix d2 q0 q1
  have hy2 : pg_wo V v2 := pg_wo_of d2 q2 q3
  have hy3 : pg_wo V v3 := pg_wo_of d2 q4 q5
  obtain ⟨y1, y2, ⟨⟨g, y3, y4, y5⟩, y6⟩, y7⟩ := hC.2.1 c (by omega)
  have ei := ix_3 c x
  have vi : vp_in (nI c * 3 + nI x) 48 := pk_in (c * 3 + x) 48 (by omega) ei
  have vj : vp_in (nI (c * 3 + x)) 48 := pk_in (c * 3 + x) 48 (by omega)
  refine nm_r (nI_pred c) (And.intro vi (nm_r (wr_i ei (by omega) rfl) (And.intro vi (nm_r (wr_i ei (by omega) rfl) (And.intro vi (nm_r (wr_i ei (by omega) rfl) ?_))))))
  have hpo : ∀ y, y < V → pg_wo V (upd pl (c * 3 + x) v2 (c * 3 + y)) ∧ pg_wo V (upd mi (c * 3 + x) v3 (c * 3 + y)) := fun y hy => by
    by_cases w : y = x
    · subst w
      rw [pk_us, pk_us]
      exact ⟨hy2, hy3⟩
    · rw [pk_un (by omega), pk_un (by omega)]
      exact y6 y hy
  refine xw_row d2 d4 hN64 hV (by omega) y7 hpo (fun nx' h1 h2 => ?_)
  have hn0 := o2 z
  have old : ∀ c', c' < c → pg_ex V T gu am (upd pl (c * 3 + x) v2) (upd mi (c * 3 + x) v3) (upd ad (c * 3 + x) v4) c' = (pg_ex V T gu am pl mi ad) c' := fun c' hc' => by
    funext a
    exact pw_ex rfl (fun i _ => pw_agr _ _) (fun y hy => ⟨pk_un (by omega), pk_un (by omega), pk_un (by omega)⟩) a
  have hC' : rl_C V T L N (c + 1) so ta gu am (upd pl (c * 3 + x) v2) (upd mi (c * 3 + x) v3) (upd ad (c * 3 + x) v4) gs nx' := by
    refine ⟨hc16, fun c' hc' => ?_, fun c' a hc' ha => ?_⟩
    · by_cases y : c' = c
      · subst y
        exact ⟨y1, y2, ⟨⟨g, y3, y4, y5⟩, hpo⟩, y7⟩
      · obtain ⟨x1, x2, ⟨x3, x6⟩, x7⟩ := hC.2.1 c' (by omega)
        refine ⟨x1, x2, ⟨x3, fun w hw => ?_⟩, x7⟩
        rw [pk_un (by omega), pk_un (by omega)]
        exact x6 w hw
    · by_cases y : c' = c
      · subst y
        exact h1 a ha
      · rw [h2 _ (fun b hb => by omega), old c' (by omega)]
        exact hC.2.2 c' a (by omega) ha
  have ei2 : (nI (c + 1) - 1) * 3 + nI x = nI (c * 3 + x) := by
    rw [nI_pred, ix_3]
  refine br_t z (br_f q0 (br_f q1 (br_f q2 (br_f q3 (br_f q4 (br_f q5 (br_f q6 (br_t q7' (br_f q (nm_r ei2 (And.intro vj (nm_r (wr_i rfl (by omega) rfl) (And.intro vj (nm_r (wr_i rfl (by omega) rfl) (And.intro vj (nm_r (wr_i rfl (by omega) rfl) ⟨nI_pred c, ?_⟩))))))))))))))))
  exact rl_mk hD hV hC' hI hS (rl_Wk hn0 hW) hP (rl_Ek hn0 hS.1 (fun _ _ => pw_agr _ _) hE) (Or.inl rfl) hO
end
section
/-! initially, seed, reopen -/
theorem i_vc_initially {k : Nat} {u : SX} {v : SY} (I : i_Rel k u v) (hk : k + 5 ≤ 2564) (v1 : Int32) (v2 : Int32) (v3 : Int32) (v4 : Int32) : wpX_initially (fun r u' => wpY_initially (fun r' v' => r' = r ∧ i_Rel (k + 5) u' v') v v1 v2 v3 v4) u v1 v2 v3 v4 := by
  refine rl_el (P := fun u v => wpX_initially (fun r u' => wpY_initially (fun r' v' => r' = r ∧ i_Rel (k + 5) u' v') v v1 v2 v3 v4) u v1 v2 v3 v4) ?_ I
  intro V T L M N nc ni iS ns nw rv st rc pn bp wt va we so ta gu gs pl mi ad nx ss wc wl ws ce re fr ly pa wy am wd ln sp fa le ma hD hV hC hI hS hW hP hE hR hO
  have ok := rl_mk (k := k + 5) (rc := rc) (bp := bp) (fr := fr) (ly := ly) (sp := sp) (fa := fa) (le := le) (ma := ma) hD hV hC hI hS hW hP hE hR hO
  obtain ⟨d1, d2, d3, d4, d5, hN64, d7, hL8, d9, hM32⟩ := id hD
  obtain ⟨o1, o2, o3, o4⟩ := id hO
  have hc16 := hC.1
  refine br_c (fun z => ?_) (fun z => br_f z ⟨rfl, ok⟩)
  refine xw_wf (fun wf => br_f (by decide) ?_) (fun wf => br_t rfl (br_t z (yw_wf (fun w => absurd w wf) (fun _ => br_t rfl ⟨rfl, ok⟩))))
  have YW : ∀ R : Int32 → Prop, R 1 → wpY_wellFormed R (nI V, nI T, nI (T + 1), nI N, nI L, nI M, nI nc, nI ni, nI ns, nI nw, st, rc, bp, wy, so, ta, gu, am, pl, mi, ad, wd, ln, sp, fa, le, ma) v1 v2 v3 v4 := fun R h => yw_wf (fun _ => h) (fun w => absurd wf w)
  obtain ⟨j, hj, rfl⟩ := pg_ix d2 wf.1 wf.2.1
  have hy : pg_wo V v3 := pg_wo_of d2 wf.2.2.2.2.1 wf.2.2.2.2.2.1
  obtain ⟨i1, i2, i3⟩ := id hI
  refine pk_lt ni 4 (fun lt => ?_) (fun ge => ?_)
  rotate_left
  · refine br_t z (YW _ (br_f (by decide) (br_t ?_ ⟨rfl, ok⟩)))
    rw [show ni = 4 by omega]
    rfl
  have ne4 : ¬ nI ni = 4 := fun w => by
    have := (nI_eq (a := ni) (b := 4) (by omega) (by omega)).mp w
    omega
  have ag : ∀ i, i ≠ 48 + ni → pw_ag am (pw_4 am (48 + ni) (nI j) v2 v3 v4) i := fun i hi => pw_4ag hi
  have hn0 := o2 z
  have esI : iS &&& sm_of N (fun a => pg_hA (T + 1) (nI j) v2 v3 v4 a = true) = sm_of N (pg_in T (ni + 1) (pw_4 am (48 + ni) (nI j) v2 v3 v4)) := by
    rw [i3, sm_and]
    refine sm_cg fun a _ => ⟨fun q i hi => ?_, fun q => ⟨fun i hi => ?_, ?_⟩⟩
    · by_cases w : i = ni
      · subst w
        rw [pw_hd]
        exact q.2
      · rw [pw_hdk (ag _ (by omega))]
        exact q.1 i (by omega)
    · rw [← pw_hdk (ag (48 + i) (by omega))]
      exact q i (by omega)
    · have := q ni (by omega)
      rw [pw_hd] at this
      exact this
  have hI' : rl_I V T N (ni + 1) (pw_4 am (48 + ni) (nI j) v2 v3 v4) (iS &&& sm_of N (fun a => pg_hA (T + 1) (nI j) v2 v3 v4 a = true)) := by
    refine ⟨by omega, fun i hi => ?_, esI⟩
    by_cases w : i = ni
    · subst w
      exact pw_wan (Or.inr ⟨j, hj, rfl⟩) hy
    · exact pw_wak (ag _ (by omega)) (i2 i (by omega))
  have hC' : rl_C V T L N nc so ta gu (pw_4 am (48 + ni) (nI j) v2 v3 v4) pl mi ad gs nx := by
    have gg : ∀ c, c < nc → ∀ i, i < (gu c).toNatClampNeg → pw_ag am (pw_4 am (48 + ni) (nI j) v2 v3 v4) (c * 3 + i) := fun c hc i hi => by
      obtain ⟨-, -, ⟨⟨g, x3, x4, -⟩, -⟩, -⟩ := hC.2.1 c hc
      rw [x4, nI_clamp (by omega)] at hi
      exact ag _ (by omega)
    refine ⟨hc16, fun c hc => ?_, fun c a hc ha => ?_⟩
    · obtain ⟨x1, x2, ⟨⟨g, x3, x4, x5⟩, x6⟩, x7⟩ := hC.2.1 c hc
      refine ⟨x1, x2, ⟨⟨g, x3, x4, fun i hi => pw_wak (ag _ (by omega)) (x5 i hi)⟩, x6⟩, ?_⟩
      rw [x7]
      exact sm_cg fun a _ => by rw [pw_ga (gg c hc)]
    · rw [pw_ex rfl (gg c hc) (fun x hx => ⟨rfl, rfl, rfl⟩) a]
      exact hC.2.2 c a hc ha
  refine xw_atom d2 hN64 hV hj hy (nm_e (nm_r (nI_1 ni) ?_))
  refine br_t z (YW _ (br_f (by decide) (br_f ne4 ?_)))
  rw [ix_k 48 ni (x := 48) rfl]
  refine yw_put (by omega) (nm_r (nI_1 ni) ⟨rfl, ?_⟩)
  exact rl_mk hD hV hC' hI' (rl_Sk (fun i hi => ag _ (by omega)) hS) (rl_Wk hn0 hW) hP (rl_Ek hn0 hS.1 (fun i hi => ag _ (by omega)) hE) (Or.inl rfl) hO
theorem i_vc_seed {k : Nat} {u : SX} {v : SY} (I : i_Rel k u v) (hk : k + 5 ≤ 2564) (v1 : Int32) (v2 : Int32) (v3 : Int32) (v4 : Int32) : wpX_seed (fun r u' => wpY_seed (fun r' v' => r' = r ∧ i_Rel (k + 5) u' v') v v1 v2 v3 v4) u v1 v2 v3 v4 := by
  refine rl_el (P := fun u v => wpX_seed (fun r u' => wpY_seed (fun r' v' => r' = r ∧ i_Rel (k + 5) u' v') v v1 v2 v3 v4) u v1 v2 v3 v4) ?_ I
  intro V T L M N nc ni iS ns nw rv st rc pn bp wt va we so ta gu gs pl mi ad nx ss wc wl ws ce re fr ly pa wy am wd ln sp fa le ma hD hV hC hI hS hW hP hE hR hO
  have ok := rl_mk (k := k + 5) (rc := rc) (bp := bp) (fr := fr) (ly := ly) (sp := sp) (fa := fa) (le := le) (ma := ma) hD hV hC hI hS hW hP hE hR hO
  obtain ⟨d1, d2, d3, d4, d5, hN64, d7, hL8, d9, hM32⟩ := id hD
  obtain ⟨o1, o2, o3, o4⟩ := id hO
  have hc16 := hC.1
  refine br_c (fun z => ?_) (fun z => br_f z ⟨rfl, ok⟩)
  refine xw_wf (fun wf => br_f (by decide) ?_) (fun wf => br_t rfl (br_t z (yw_wf (fun w => absurd w wf) (fun _ => br_t rfl ⟨rfl, ok⟩))))
  have YW : ∀ R : Int32 → Prop, R 1 → wpY_wellFormed R (nI V, nI T, nI (T + 1), nI N, nI L, nI M, nI nc, nI ni, nI ns, nI nw, st, rc, bp, wy, so, ta, gu, am, pl, mi, ad, wd, ln, sp, fa, le, ma) v1 v2 v3 v4 := fun R h => yw_wf (fun _ => h) (fun w => absurd wf w)
  obtain ⟨j, hj, rfl⟩ := pg_ix d2 wf.1 wf.2.1
  have hy : pg_wo V v3 := pg_wo_of d2 wf.2.2.2.2.1 wf.2.2.2.2.2.1
  obtain ⟨s1, s2, s3⟩ := id hS
  refine pk_lt ns 4 (fun lt => ?_) (fun ge => ?_)
  rotate_left
  · refine br_t z (YW _ (br_f (by decide) (br_t ?_ ⟨rfl, ok⟩)))
    rw [show ns = 4 by omega]
    rfl
  have ne4 : ¬ nI ns = 4 := fun w => by
    have := (nI_eq (a := ns) (b := 4) (by omega) (by omega)).mp w
    omega
  have ag : ∀ i, i ≠ 52 + ns → pw_ag am (pw_4 am (52 + ns) (nI j) v2 v3 v4) i := fun i hi => pw_4ag hi
  have hn0 := o2 z
  have hS' : rl_S V T N (ns + 1) (pw_4 am (52 + ns) (nI j) v2 v3 v4) (vp_updL ss ns (sm_of N (fun a => pg_hA (T + 1) (nI j) v2 v3 v4 a = true))) := by
    refine ⟨by omega, fun i hi => ?_, fun i hi => ?_⟩
    · by_cases w : i = ns
      · subst w
        exact pw_wan (Or.inr ⟨j, hj, rfl⟩) hy
      · exact pw_wak (ag _ (by omega)) (s2 i (by omega))
    · by_cases w : i = ns
      · subst w
        rw [pk_uLs]
        exact sm_cg fun a _ => by rw [pw_hd]
      · rw [pk_uLn w, s3 i (by omega)]
        exact sm_cg fun a _ => by rw [pw_hdk (ag _ (by omega))]
  have hC' : rl_C V T L N nc so ta gu (pw_4 am (52 + ns) (nI j) v2 v3 v4) pl mi ad gs nx := by
    have gg : ∀ c, c < nc → ∀ i, i < (gu c).toNatClampNeg → pw_ag am (pw_4 am (52 + ns) (nI j) v2 v3 v4) (c * 3 + i) := fun c hc i hi => by
      obtain ⟨-, -, ⟨⟨g, x3, x4, -⟩, -⟩, -⟩ := hC.2.1 c hc
      rw [x4, nI_clamp (by omega)] at hi
      exact ag _ (by omega)
    refine ⟨hc16, fun c hc => ?_, fun c a hc ha => ?_⟩
    · obtain ⟨x1, x2, ⟨⟨g, x3, x4, x5⟩, x6⟩, x7⟩ := hC.2.1 c hc
      refine ⟨x1, x2, ⟨⟨g, x3, x4, fun i hi => pw_wak (ag _ (by omega)) (x5 i hi)⟩, x6⟩, ?_⟩
      rw [x7]
      exact sm_cg fun a _ => by rw [pw_ga (gg c hc)]
    · rw [pw_ex rfl (gg c hc) (fun x hx => ⟨rfl, rfl, rfl⟩) a]
      exact hC.2.2 c a hc ha
  refine xw_atom d2 hN64 hV hj hy (And.intro (pk_in ns 4 lt) (nm_r (wr_l rfl (by omega) rfl) (nm_r (nI_1 ns) ?_)))
  refine xw_splitAll (ns := ns + 1) hN64 hL8 hE (fun ce' hce => ?_)
  have hE' : rl_E V T L N (ns + 1) nw so gu (pw_4 am (52 + ns) (nI j) v2 v3 v4) pl mi ad wd ln ce' := by
    intro l a hl ha
    rw [hce l a hl ha]
    refine sm_cg fun b _ => ?_
    dsimp only
    rw [hn0, yd_Q_0, yd_Q_0]
    constructor
    · rintro ⟨q1, q2⟩ s hs
      by_cases w : s = ns
      · subst w
        rw [pw_hd, pw_hd]
        exact Bool.eq_iff_iff.mpr q2
      · rw [pw_hdk (ag _ (by omega)), pw_hdk (ag _ (by omega))]
        exact q1 s (by omega)
    · intro q
      refine ⟨fun s hs => ?_, ?_⟩
      · rw [← pw_hdk (ag (52 + s) (by omega)), ← pw_hdk (B := T + 1) (ag (52 + s) (by omega)) b]
        exact q s (by omega)
      · have := q ns (by omega)
        rw [pw_hd, pw_hd] at this
        rw [this]
  refine br_t z (YW _ (br_f (by decide) (br_f ne4 ?_)))
  rw [ix_k 52 ns (x := 52) rfl]
  refine yw_put (by omega) (nm_r (nI_1 ns) ⟨rfl, ?_⟩)
  exact rl_mk hD hV hC' (rl_Ik (fun i hi => ag _ (by omega)) hI) hS' (rl_Wk hn0 hW) hP hE' (Or.inl rfl) hO
section
variable {V T L M N nc ni ns nw : Nat} {rv st rc pn bp wt wy : Int32} {iS : Int64} {va we so ta gu pl mi ad nx wc wl pa am wd ln sp fa le ma : Nat → Int32} {gs ss ws ce re fr ly : Nat → Int64}
/-- after reopening: the program may be smaller, no words, classes by the seeds alone -/
theorem rl_reopen {k nc' ni' ns' : Nat} {iS' : Int64} {ce' : Nat → Int64} (hD : rl_D V T L M N) (hV : pg_va V T N va we) (hC : rl_C V T L N nc so ta gu am pl mi ad gs nx) (hI : rl_I V T N ni am iS) (hS : rl_S V T N ns am ss) (hW : rl_W V T N M nc nw gu am pl mi ad wd ln wc wl ws) (hP : rl_P wd ln pa pn) (hc : nc' = nc ∨ nc' = 0) (hn : ni' = ni ∧ iS' = iS ∨ ni' = 0 ∧ iS' = sm_fl N) (hs : ns' = ns ∨ ns' = 0)
    (hce : cx_C (fun _ a b => ∀ s, s < ns' → ((pg_hd (T + 1) am (52 + s) a = true) ↔ (pg_hd (T + 1) am (52 + s) b = true))) L N ce') :
    i_Rel k (nI V, nI T, nI L, nI M, nI N, sm_fl N, nI nc', nI ni', iS', nI ns', 0, 0, 0, 0, 0, 0, (-3), va, we, so, ta, gu, gs, pl, mi, ad, nx, ss, wc, wl, ws, ce', re, fr, ly, pa) (nI V, nI T, nI (T + 1), nI N, nI L, nI M, nI nc', nI ni', nI ns', 0, 0, 0, 0, (-3), so, ta, gu, am, pl, mi, ad, wd, upd ln 32 0, sp, fa, le, ma) := by
  refine rl_mk (nw := 0) hD hV ?_ ?_ ?_ ?_ ⟨hP.1, 0, by omega, rfl, pk_us⟩ ?_ (Or.inl rfl) ⟨⟨0, by omega, rfl⟩, fun _ => rfl, fun w => absurd w (by decide), fun _ => rfl⟩
  · rcases hc with hc | hc
    · rw [hc]
      exact hC
    · rw [hc]
      exact ⟨by omega, fun c hc => by omega, fun c a hc => by omega⟩
  · rcases hn with ⟨h1, h2⟩ | ⟨h1, h2⟩
    · rw [h1, h2]
      exact hI
    · rw [h1, h2]
      exact ⟨by omega, fun i hi => by omega, sm_cg fun a _ => ⟨fun _ i hi => by omega, fun _ => trivial⟩⟩
  · rcases hs with hs | hs
    · rw [hs]
      exact hS
    · rw [hs]
      exact ⟨by omega, fun i hi => by omega, fun i hi => by omega⟩
  · exact ⟨by omega, ⟨by omega, fun p hp => by omega⟩, hW.2.2.1, fun p hp => by rw [pk_un (by omega)]; exact hW.2.2.2.1 p hp, fun p hp => by omega⟩
  · intro l a hl ha
    rw [hce l a hl ha]
    refine sm_cg fun b _ => ?_
    rw [yd_Q_0]
    exact ⟨fun q s hs => Bool.eq_iff_iff.mpr (q s hs), fun q s hs => by rw [q s hs]⟩
end
theorem i_vc_reopen {k : Nat} {u : SX} {v : SY} (I : i_Rel k u v) (hk : k + 5 ≤ 2564) (v1 : Int32) : wpX_reopen (fun r u' => wpY_reopen (fun r' v' => r' = r ∧ i_Rel (k + 5) u' v') v v1) u v1 := by
  refine rl_el (P := fun u v => wpX_reopen (fun r u' => wpY_reopen (fun r' v' => r' = r ∧ i_Rel (k + 5) u' v') v v1) u v1) ?_ I
  intro V T L M N nc ni iS ns nw rv st rc pn bp wt va we so ta gu gs pl mi ad nx ss wc wl ws ce re fr ly pa wy am wd ln sp fa le ma hD hV hC hI hS hW hP hE hR hO
  have ok := rl_mk (k := k + 5) (rc := rc) (bp := bp) (fr := fr) (ly := ly) (sp := sp) (fa := fa) (le := le) (ma := ma) hD hV hC hI hS hW hP hE hR hO
  obtain ⟨d1, d2, d3, d4, d5, hN64, d7, hL8, d9, hM32⟩ := id hD
  refine br_c (fun z0 => br_t z0 ⟨rfl, ok⟩) (fun z0 => br_c (fun z1 => ?_) (fun z1 => br_f z0 (br_f z1 ⟨rfl, ok⟩)))
  obtain ⟨j, hj, rfl⟩ := nI_of z0
  have hj2 := (nI_leI (b := 2) hj (by omega)).mp z1
  have : j = 0 ∨ j = 1 ∨ j = 2 := by omega
  rcases this with y | y | y
  · subst y
    refine br_t (by decide) (br_f (by decide) (xw_reset (nw := 0) (ns := ns) (SD := fun s a => pg_hd (T + 1) am (52 + s) a = true) hN64 hL8 hS.1 hS.2.2 (fun ce' hce => ?_)))
    exact br_f z0 (br_t z1 (nm_e (br_t (by decide) (br_f (by decide) (br_f (by decide) ⟨rfl, rl_reopen hD hV hC hI hS hW hP (Or.inl rfl) (Or.inl ⟨rfl, rfl⟩) (Or.inl rfl) hce⟩)))))
  · subst y
    refine br_f (by decide) (br_f (by decide) (xw_reset (nw := 0) (ns := 0) (SD := fun s a => pg_hd (T + 1) am (52 + s) a = true) hN64 hL8 (by omega) (fun s hs => by omega) (fun ce' hce => ?_)))
    exact br_f z0 (br_t z1 (nm_e (br_f (by decide) (br_f (by decide) (br_f (by decide) ⟨rfl, rl_reopen hD hV hC hI hS hW hP (Or.inl rfl) (Or.inl ⟨rfl, rfl⟩) (Or.inr rfl) hce⟩)))))
  · subst y
    refine br_f (by decide) (br_t (by decide) (xw_reset (nw := 0) (ns := 0) (nc := 0) (ni := 0) (SD := fun s a => pg_hd (T + 1) am (52 + s) a = true) hN64 hL8 (by omega) (fun s hs => by omega) (fun ce' hce => ?_)))
    exact br_f z0 (br_t z1 (nm_e (br_f (by decide) (br_t (by decide) (br_t (by decide) ⟨rfl, rl_reopen hD hV hC hI hS hW hP (Or.inr rfl) (Or.inr ⟨rfl, rfl⟩) (Or.inr rfl) hce⟩)))))
end
section
/-! the constructors -/
theorem in_step {T a : Nat} (h1 : 1 ≤ T) (h7 : T ≤ 7) : (a % (T + 1) + 1 ≤ T → (a + 1) % (T + 1) = a % (T + 1) + 1 ∧ (a + 1) / (T + 1) = a / (T + 1)) ∧ (T < a % (T + 1) + 1 → (a + 1) % (T + 1) = 0 ∧ (a + 1) / (T + 1) = a / (T + 1) + 1) := by
  have : T = 1 ∨ T = 2 ∨ T = 3 ∨ T = 4 ∨ T = 5 ∨ T = 6 ∨ T = 7 := by omega
  rcases this with h | h | h | h | h | h | h <;> subst h <;> omega
section
variable {V T L M N nc ni ns nw : Nat} {rv st rc pn bp wt : Int32} {iS : Int64} {va we fo tt gc po mo co nx wc wl pa : Nat → Int32} {gs ss ws ce re fr ly : Nat → Int64}
theorem xw_fv {post : SX → Prop} (hV : V ≤ 3) (h1 : 1 ≤ T) (h7 : T ≤ 7) (hNe : N = (T + 1) ^ V) (hN : N ≤ 64)
    (h : ∀ va' : Nat → Int32, (∀ j a, j < V → a < N → va' (j * 64 + a) = nI (a / (T + 1) ^ j % (T + 1))) → post (nI V, nI T, nI L, nI M, nI N, sm_fl N, nI nc, nI ni, iS, nI ns, nI nw, rv, st, rc, pn, bp, wt, va', we, fo, tt, gc, gs, po, mo, co, nx, ss, wc, wl, ws, ce, re, fr, ly, pa)) : wpX_fillValues post (nI V, nI T, nI L, nI M, nI N, sm_fl N, nI nc, nI ni, iS, nI ns, nI nw, rv, st, rc, pn, bp, wt, va, we, fo, tt, gc, gs, po, mo, co, nx, ss, wc, wl, ws, ce, re, fr, ly, pa) := by
  refine Exists.intro (N + 1) ?_
  suffices W : ∀ n a (va' : Nat → Int32), N - a < n → a ≤ N → (∀ b, b < a → va' b = nI (b % (T + 1)) ∧ va' (64 + b) = nI (b / (T + 1) % (T + 1)) ∧ va' (128 + b) = nI (b / (T + 1) / (T + 1))) → wX_fillValues_9 post (nI V) (nI T) (nI L) (nI M) (nI N) (sm_fl N) (nI nc) (nI ni) iS (nI ns) (nI nw) rv st rc pn bp wt n (nI (a % (T + 1))) (nI (a / (T + 1) % (T + 1))) (nI (a / (T + 1) / (T + 1))) (nI a) va' we fo tt gc gs po mo co nx ss wc wl ws ce re fr ly pa by
    have := W (N + 1) 0 va (by omega) (by omega) (fun b hb => by omega)
    rw [Nat.zero_mod, Nat.zero_div, Nat.zero_mod, Nat.zero_div] at this
    exact this
  intro n
  induction n with
  | zero => intro a va' hn; omega
  | succ n ih =>
    intro a va' hn ha hva
    refine pk_le N a (fun z => h va' (fun j b hj hb => ?_)) (fun z => ?_)
    · obtain ⟨y0, y1, y2⟩ := hva b (by omega)
      have : j = 0 ∨ j = 1 ∨ j = 2 := by omega
      rcases this with y | y | y
      · subst y
        rw [Nat.zero_mul, Nat.zero_add, Nat.pow_zero, Nat.div_one]
        exact y0
      · subst y
        rw [Nat.one_mul, Nat.pow_one]
        exact y1
      · subst y
        rw [show 2 * 64 + b = 128 + b by omega, y2]
        have e3 : V = 3 := by omega
        subst e3
        have e4 : b / (T + 1) / (T + 1) = b / (T + 1) ^ 2 := by
          rw [Nat.div_div_eq_div_mul, Nat.pow_two]
        have lt : b / (T + 1) ^ 2 < T + 1 := by
          apply Nat.div_lt_of_lt_mul
          rw [← Nat.pow_succ]
          show b < (T + 1) ^ 3
          omega
        rw [e4, Nat.mod_eq_of_lt lt]
    · have hb0 : a % (T + 1) < T + 1 := Nat.mod_lt _ (by omega)
      have hb1 : a / (T + 1) % (T + 1) < T + 1 := Nat.mod_lt _ (by omega)
      have hd1 : a / (T + 1) ≤ a := Nat.div_le_self _ _
      have hd2 : a / (T + 1) / (T + 1) ≤ a / (T + 1) := Nat.div_le_self _ _
      have s1 := in_step (a := a) h1 h7
      have s2 := in_step (a := a / (T + 1)) h1 h7
      have e64 : 64 + nI a = nI (64 + a) := nI_add 64 a
      have e128 : 128 + nI a = nI (128 + a) := nI_add 128 a
      refine And.intro (pk_in a 192 (by omega)) (nm_r (wr_i rfl (by omega) rfl) (And.intro (pk_in (64 + a) 192 (by omega) e64) (nm_r (wr_i e64 (by omega) rfl) (And.intro (pk_in (128 + a) 192 (by omega) e128) (nm_r (wr_i e128 (by omega) rfl) (nm_r (nI_1 _) ?_))))))
      have hva' : ∀ b, b < a + 1 → upd (upd (upd va' a (nI (a % (T + 1)))) (64 + a) (nI (a / (T + 1) % (T + 1)))) (128 + a) (nI (a / (T + 1) / (T + 1))) b = nI (b % (T + 1)) ∧ upd (upd (upd va' a (nI (a % (T + 1)))) (64 + a) (nI (a / (T + 1) % (T + 1)))) (128 + a) (nI (a / (T + 1) / (T + 1))) (64 + b) = nI (b / (T + 1) % (T + 1)) ∧ upd (upd (upd va' a (nI (a % (T + 1)))) (64 + a) (nI (a / (T + 1) % (T + 1)))) (128 + a) (nI (a / (T + 1) / (T + 1))) (128 + b) = nI (b / (T + 1) / (T + 1)) := by
        intro b hb
        by_cases w : b = a
        · subst w
          refine ⟨?_, ?_, pk_us⟩
          · rw [pk_un (by omega), pk_un (by omega), pk_us]
          · rw [pk_un (by omega), pk_us]
        · obtain ⟨y0, y1, y2⟩ := hva b (by omega)
          refine ⟨?_, ?_, ?_⟩
          · rw [pk_un (by omega), pk_un (by omega), pk_un (by omega)]
            exact y0
          · rw [pk_un (by omega), pk_un (by omega), pk_un (by omega)]
            exact y1
          · rw [pk_un (by omega), pk_un (by omega), pk_un (by omega)]
            exact y2
      have nx := ih (a + 1) _ (by omega) (by omega) hva'
      refine pk_le (a % (T + 1) + 1) T (fun q => ?_) (fun q => ?_)
      · rw [(s1.1 q).1, (s1.1 q).2] at nx
        exact br_t (nI_le (by omega) (by omega)) (nm_r (nI_1 a) nx)
      · rw [(s1.2 q).1, (s1.2 q).2] at nx
        refine nm_r (nI_1 _) (pk_le (a / (T + 1) % (T + 1) + 1) T (fun q2 => ?_) (fun q2 => ?_))
        · rw [(s2.1 q2).1, (s2.1 q2).2] at nx
          exact nm_r (nI_1 a) nx
        · rw [(s2.2 q2).1, (s2.2 q2).2] at nx
          exact nm_r (nI_1 _) (nm_r (nI_1 a) nx)
end
theorem in_pow {T : Nat} (h7 : T ≤ 7) {V : Nat} (hV : V ≤ 3) (h3 : V = 3 → T ≤ 3) : (T + 1) ^ V ≤ 64 := by
  have : V = 0 ∨ V = 1 ∨ V = 2 ∨ V = 3 := by omega
  rcases this with y | y | y | y
  · subst y
    simp
  · subst y
    rw [Nat.pow_one]
    omega
  · subst y
    exact Nat.le_trans (Nat.pow_le_pow_left (show T + 1 ≤ 8 by omega) 2) (by decide)
  · subst y
    exact Nat.le_trans (Nat.pow_le_pow_left (show T + 1 ≤ 4 from by have := h3 rfl; omega) 3) (by decide)
/-- both constructors, behind the clamped arguments -/
theorem in_main {V T L M : Nat} (hV1 : 1 ≤ V) (hV : V ≤ 3) (h1 : 1 ≤ T) (h7 : T ≤ 7) (h3 : V = 3 → T ≤ 3) (hL2 : 2 ≤ L) (hL : L ≤ 8) (hM1 : 1 ≤ M) (hM : M ≤ 32) {post : SX → Prop}
    (h : ∀ u, i_Rel 4 u (nI V, nI T, nI (T + 1), nI ((T + 1) ^ V), nI L, nI M, 0, 0, 0, 0, 0, 0, 0, 0, (fun _ => 0), (fun _ => 0), (fun _ => 0), (fun _ => 0), (fun _ => 0), (fun _ => 0), (fun _ => 0), (fun _ => 0), (fun _ => 0), (fun _ => 0), (fun _ => 0), (fun _ => 0), (fun _ => 0)) → post u) :
    ∃ n, wX_init_264 post (nI (T + 1)) (nI V) (nI T) (nI L) (nI M) 0 0 0 0 0 0 0 0 0 0 0 0 0 (fun _ => 0) (upd (upd (upd (fun _ => 0) 0 1) 1 (nI (T + 1))) 2 (nI (T + 1) * nI (T + 1))) (fun _ => 0) (fun _ => 0) (fun _ => 0) (fun _ => 0) (fun _ => 0) (fun _ => 0) (fun _ => 0) (fun _ => 0) (fun _ => 0) (fun _ => 0) (fun _ => 0) (fun _ => 0) (fun _ => 0) (fun _ => 0) (fun _ => 0) (fun _ => 0) (fun _ => 0) n (nI (T + 1)) 1 := by
  have hp := in_pow h7 hV h3
  have fin : wX_init_312 post (sm_fl ((T + 1) ^ V)) (nI V) (nI T) (nI L) (nI M) (nI ((T + 1) ^ V)) 0 0 0 0 0 0 0 0 0 0 0 0 (fun _ => 0) (upd (upd (upd (fun _ => 0) 0 1) 1 (nI (T + 1))) 2 (nI (T + 1) * nI (T + 1))) (fun _ => 0) (fun _ => 0) (fun _ => 0) (fun _ => 0) (fun _ => 0) (fun _ => 0) (fun _ => 0) (fun _ => 0) (fun _ => 0) (fun _ => 0) (fun _ => 0) (fun _ => 0) (fun _ => 0) (fun _ => 0) (fun _ => 0) (fun _ => 0) (fun _ => 0) := by
    refine xw_fv (N := (T + 1) ^ V) (nc := 0) (ni := 0) (ns := 0) (nw := 0) hV h1 h7 rfl hp (fun va' hva => ?_)
    refine xw_reset (N := (T + 1) ^ V) (nc := 0) (ni := 0) (ns := 0) (nw := 0) (SD := fun _ _ => True) hp hL (by omega) (fun s hs => by omega) (fun ce' hce => ?_)
    refine xw_clear (N := (T + 1) ^ V) (nc := 0) (ni := 0) (ns := 0) (nw := 0) (h _ ?_)
    refine rl_mk (N := (T + 1) ^ V) (nc := 0) (ni := 0) (ns := 0) (nw := 0) ⟨hV1, hV, h1, h7, rfl, hp, hL2, hL, hM1, hM⟩ ⟨hva, fun x hx => ?_⟩ ⟨by omega, fun c hc => by omega, fun c a hc => by omega⟩ ⟨by omega, fun i hi => by omega, sm_cg fun a _ => ⟨fun _ i hi => by omega, fun _ => trivial⟩⟩ ⟨by omega, fun i hi => by omega, fun i hi => by omega⟩ ⟨by omega, ⟨by omega, fun p hp => by omega⟩, fun _ _ => rfl, fun _ _ => rfl, fun p hp => by omega⟩ ⟨fun _ _ => rfl, 0, by omega, rfl, rfl⟩ (fun l a hl ha => ?_) (Or.inl rfl) ⟨⟨0, by omega, rfl⟩, fun _ => rfl, fun w => absurd w (by decide), fun _ => rfl⟩
    · have : x = 0 ∨ x = 1 ∨ x = 2 := by omega
      rcases this with y | y | y
      · subst y
        rw [pk_un (by omega), pk_un (by omega), pk_us, Nat.pow_zero]
        rfl
      · subst y
        rw [pk_un (by omega), pk_us, Nat.pow_one]
      · subst y
        rw [pk_us, pk_mul, Nat.pow_two]
    · rw [hce l a hl ha]
      refine sm_cg fun b _ => ?_
      rw [yd_Q_0]
      exact ⟨fun _ s hs => by omega, fun _ s hs => by omega⟩
  refine ⟨V + 1, ?_⟩
  suffices H : ∀ n x, V - x < n → 1 ≤ x → x ≤ V → wX_init_264 post (nI (T + 1)) (nI V) (nI T) (nI L) (nI M) 0 0 0 0 0 0 0 0 0 0 0 0 0 (fun _ => 0) (upd (upd (upd (fun _ => 0) 0 1) 1 (nI (T + 1))) 2 (nI (T + 1) * nI (T + 1))) (fun _ => 0) (fun _ => 0) (fun _ => 0) (fun _ => 0) (fun _ => 0) (fun _ => 0) (fun _ => 0) (fun _ => 0) (fun _ => 0) (fun _ => 0) (fun _ => 0) (fun _ => 0) (fun _ => 0) (fun _ => 0) (fun _ => 0) (fun _ => 0) (fun _ => 0) n (nI ((T + 1) ^ x)) (nI x) by
    have := H (V + 1) 1 (by omega) (by omega) hV1
    rw [Nat.pow_one] at this
    exact this
  intro n
  induction n with
  | zero => intro x hn; omega
  | succ n ih =>
    intro x hn hx1 hx
    refine pk_le V x (fun z => ?_) (fun z => nm_r (e' := nI ((T + 1) ^ (x + 1))) (by rw [pk_mul, Nat.pow_succ]) (nm_r (nI_1 x) (ih (x + 1) (by omega) (by omega) (by omega))))
    have : x = V := by omega
    subst this
    refine pk_lt ((T + 1) ^ x) 64 (fun q => ?_) (fun q => ?_)
    · rw [sm_low q]
      exact fin
    · have e : (T + 1) ^ x = 64 := by omega
      have e2 : sm_fl ((T + 1) ^ x) = -1 := by rw [e]; exact sm_m1.symm
      rw [e2] at fin
      exact fin
/-- the reference's count of codes -/
theorem in_y {V T L M : Nat} {post : SY → Prop} (hV : V ≤ 3) (h : post (nI V, nI T, nI (T + 1), nI ((T + 1) ^ V), nI L, nI M, 0, 0, 0, 0, 0, 0, 0, 0, (fun _ => 0), (fun _ => 0), (fun _ => 0), (fun _ => 0), (fun _ => 0), (fun _ => 0), (fun _ => 0), (fun _ => 0), (fun _ => 0), (fun _ => 0), (fun _ => 0), (fun _ => 0), (fun _ => 0))) :
    ∃ n, wY_init_194 post (nI V) (nI T) (nI (T + 1)) 0 (nI L) (nI M) 0 0 0 0 0 0 0 0 (fun _ => 0) (fun _ => 0) (fun _ => 0) (fun _ => 0) (fun _ => 0) (fun _ => 0) (fun _ => 0) (fun _ => 0) (fun _ => 0) (fun _ => 0) (fun _ => 0) (fun _ => 0) (fun _ => 0) n 1 0 := by
  refine ⟨V + 1, ?_⟩
  suffices H : ∀ n x, V - x < n → x ≤ V → wY_init_194 post (nI V) (nI T) (nI (T + 1)) 0 (nI L) (nI M) 0 0 0 0 0 0 0 0 (fun _ => 0) (fun _ => 0) (fun _ => 0) (fun _ => 0) (fun _ => 0) (fun _ => 0) (fun _ => 0) (fun _ => 0) (fun _ => 0) (fun _ => 0) (fun _ => 0) (fun _ => 0) (fun _ => 0) n (nI ((T + 1) ^ x)) (nI x) by
    have := H (V + 1) 0 (by omega) (by omega)
    rw [Nat.pow_zero] at this
    exact this
  intro n
  induction n with
  | zero => intro x hn; omega
  | succ n ih =>
    intro x hn hx
    refine pk_le V x (fun z => ?_) (fun z => nm_r (e' := nI ((T + 1) ^ (x + 1))) (by rw [pk_mul, Nat.pow_succ]) (nm_r (nI_1 x) (ih (x + 1) (by omega) (by omega))))
    have : x = V := by omega
    subst this
    exact h
theorem cl_v0 {p : Int32} {lo hi : Nat} {post : Int32 → Prop} {x y : Int32} (hx : x = nI lo) (hy : y = nI hi) (h : lo ≤ hi) (hh : hi < 2 ^ 31) (hp : post (nI (cl_n p lo hi))) : (x ≤ p → (p ≤ y → post p) ∧ (¬ p ≤ y → post y)) ∧ (¬ x ≤ p → post x) := by
  subst hx hy
  exact cl_v h hh hp
theorem xw_clz {p : Int32} {lo hi : Nat} {post : Int32 → Prop} {x y : Int32} {u : SX} (hx : x = nI lo) (hy : y = nI hi) (h : lo ≤ hi) (hh : hi < 2 ^ 31) (hp : post (nI (cl_n p lo hi))) : wpX_clamp post u p x y := by
  obtain ⟨_, _, _, _, _, _, _, _, _, _, _, _, _, _, _, _, _, _, _, _, _, _, _, _, _, _, _, _, _, _, _, _, _, _, _, _⟩ := u
  exact cl_v0 hx hy h hh hp
theorem yw_clz {p : Int32} {lo hi : Nat} {post : Int32 → Prop} {x y : Int32} {u : SY} (hx : x = nI lo) (hy : y = nI hi) (h : lo ≤ hi) (hh : hi < 2 ^ 31) (hp : post (nI (cl_n p lo hi))) : wpY_clamp post u p x y := by
  obtain ⟨_, _, _, _, _, _, _, _, _, _, _, _, _, _, _, _, _, _, _, _, _, _, _, _, _, _, _⟩ := u
  exact cl_v0 hx hy h hh hp
theorem i_vc0 (k0 : Int32) (k1 : Int32) (k2 : Int32) (k3 : Int32) : wpX_init (fun u => wpY_init (fun v => i_Rel 4 u v) k0 k1 k2 k3) k0 k1 k2 k3 := by
  have b0 := cl_b k0 (lo := 1) (hi := 3) (by omega) (by omega)
  have b2 := cl_b k2 (lo := 2) (hi := 8) (by omega) (by omega)
  have b3 := cl_b k3 (lo := 1) (hi := 32) (by omega) (by omega)
  have b7 := cl_b k1 (lo := 1) (hi := 7) (by omega) (by omega)
  have b3t := cl_b k1 (lo := 1) (hi := 3) (by omega) (by omega)
  refine xw_clz (lo := 1) (hi := 3) rfl rfl (by omega) (by omega) ?_
  by_cases q : nI (cl_n k0 1 3) = 3
  · have hv3 : cl_n k0 1 3 = 3 := (nI_eq (b := 3) (by omega) (by omega)).mp q
    refine br_t q ?_
    refine xw_clz (lo := 1) (hi := 3) rfl rfl (by omega) (by omega) (xw_clz (lo := 2) (hi := 8) rfl rfl (by omega) (by omega) (xw_clz (lo := 1) (hi := 32) rfl rfl (by omega) (by omega) (nm_r (nI_1 _) (nm_e (nm_e (nm_e ?_))))))
    refine in_main b0.1 b0.2 b3t.1 (by omega) (fun _ => b3t.2) b2.1 b2.2 b3.1 b3.2 (fun u hu => ?_)
    refine yw_clz (lo := 1) (hi := 3) rfl rfl (by omega) (by omega) (br_t q ?_)
    exact yw_clz (lo := 1) (hi := 3) rfl rfl (by omega) (by omega) (nm_r (nI_1 _) (yw_clz (lo := 2) (hi := 8) rfl rfl (by omega) (by omega) (yw_clz (lo := 1) (hi := 32) rfl rfl (by omega) (by omega) (in_y b0.2 hu))))
  · have hv3 : cl_n k0 1 3 ≠ 3 := fun w => q (by rw [w]; rfl)
    refine br_f q ?_
    refine xw_clz (lo := 1) (hi := 7) rfl rfl (by omega) (by omega) (xw_clz (lo := 2) (hi := 8) rfl rfl (by omega) (by omega) (xw_clz (lo := 1) (hi := 32) rfl rfl (by omega) (by omega) (nm_r (nI_1 _) (nm_e (nm_e (nm_e ?_))))))
    refine in_main b0.1 b0.2 b7.1 b7.2 (fun w => absurd w hv3) b2.1 b2.2 b3.1 b3.2 (fun u hu => ?_)
    refine yw_clz (lo := 1) (hi := 3) rfl rfl (by omega) (by omega) (br_f q ?_)
    exact yw_clz (lo := 1) (hi := 7) rfl rfl (by omega) (by omega) (nm_r (nI_1 _) (yw_clz (lo := 2) (hi := 8) rfl rfl (by omega) (by omega) (yw_clz (lo := 1) (hi := 32) rfl rfl (by omega) (by omega) (in_y b0.2 hu))))
end
