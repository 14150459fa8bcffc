section
/-! rows of kit/rows (starting text) -/
theorem pk_us {f : Nat → Int32} {k : Nat} {x : Int32} : upd f k x k = x := if_pos rfl
theorem pk_un {f : Nat → Int32} {k j : Nat} {x : Int32} (h : j ≠ k) : upd f k x j = f j := if_neg h
theorem pk_uLs {f : Nat → Int64} {k : Nat} {x : Int64} : vp_updL f k x k = x := if_pos rfl
theorem pk_uLn {f : Nat → Int64} {k j : Nat} {x : Int64} (h : j ≠ k) : vp_updL f k x j = f j := if_neg h
theorem pk_sub {a b : Nat} (h : b ≤ a) : nI a - nI b = nI (a - b) := by
  obtain ⟨c, rfl⟩ : ∃ c, a = c + b := ⟨a - b, by omega⟩
  rw [← nI_add, Int32.add_sub_cancel, Nat.add_sub_cancel]
theorem pk_m1 (n : Nat) : nI (n + 1) + (-1) = nI n := by
  rw [← nI_1, Int32.add_assoc, show (1 : Int32) + (-1) = 0 from rfl, Int32.add_zero]
theorem pk_mul (a b : Nat) : nI a * nI b = nI (a * b) := (Int32.ofNat_mul a b).symm
theorem pk_div {a d : Nat} (ha : a < 2 ^ 31) (h0 : 0 < d) (hd : d < 2 ^ 31) : nI a / nI d = nI (a / d) := by
  apply Int32.toInt_inj.mp
  rw [lg_idiv_nonneg (by rw [nI_toInt ha]; omega) (by rw [nI_toInt hd]; omega), nI_toInt ha, nI_toInt hd, nI_toInt (Nat.lt_of_le_of_lt (Nat.div_le_self a d) ha)]
  first | rfl | exact (Int.natCast_ediv _ _).symm
theorem pk_rem {a d : Nat} (ha : a < 2 ^ 31) (h0 : 0 < d) (hd : d < 2 ^ 31) : nI a - nI a / nI d * nI d = nI (a % d) := by
  rw [pk_div ha h0 hd, pk_mul, pk_sub (Nat.div_mul_le_self a d)]
  exact congrArg nI (by have := Nat.div_add_mod' a d; omega)
theorem pk_ix (x : Int32) {n : Nat} (hn : n < 2 ^ 31) : x < 0 ∨ nI n ≤ x ∨ ∃ j : Nat, j < n ∧ x = nI j := by
  by_cases h : x < 0
  · exact Or.inl h
  · obtain ⟨j, hj, rfl⟩ := nI_of h
    by_cases h2 : j < n
    · exact Or.inr (Or.inr ⟨j, h2, rfl⟩)
    · exact Or.inr (Or.inl (nI_le (by omega) hj))
theorem pk_le {x y : Int32} {A B : Prop} (a b : Nat) (f : a ≤ b → A) (g : b < a → B) (hx : x = nI a := by rfl) (hy : y = nI b := by rfl) (ha : a < 2 ^ 31 := by omega) (hb : b < 2 ^ 31 := by omega) : (x ≤ y → A) ∧ (¬ x ≤ y → B) := by
  subst hx hy
  rw [nI_leI ha hb]
  exact ⟨f, fun z => g (by omega)⟩
theorem pk_lt {x y : Int32} {A B : Prop} (a b : Nat) (f : a < b → A) (g : b ≤ a → B) (hx : x = nI a := by rfl) (hy : y = nI b := by rfl) (ha : a < 2 ^ 31 := by omega) (hb : b < 2 ^ 31 := by omega) : (x < y → A) ∧ (¬ x < y → B) := by
  subst hx hy
  rw [nI_ltI ha hb]
  exact ⟨f, fun z => g (by omega)⟩
theorem pk_eq {x y : Int32} {A B : Prop} (a b : Nat) (f : a = b → A) (g : a ≠ b → B) (hx : x = nI a := by rfl) (hy : y = nI b := by rfl) (ha : a < 2 ^ 31 := by omega) (hb : b < 2 ^ 31 := by omega) : (x = y → A) ∧ (¬ x = y → B) := by
  subst hx hy
  rw [nI_eq ha hb]
  exact ⟨f, g⟩
theorem pk_in {x : Int32} (n N : Nat) (h : n < N) (hx : x = nI n := by rfl) (hN : N < 2 ^ 31 := by omega) : vp_in x N := by
  subst hx
  exact vp_in_nI h hN
theorem pk_cl {x : Int32} (n : Nat) (hx : x = nI n := by rfl) (h : n < 2 ^ 31 := by omega) : x.toNatClampNeg = n := by
  subst hx
  exact nI_clamp h
theorem pk_tn {n : Nat} (h : n < 2 ^ 32) : (nI n).toBitVec.toNat = n := Nat.mod_eq_of_lt h
theorem pk_lT {n : Nat} (h : n < 2 ^ 63) : (lN n).toInt = (n : Int) := lg_ofNat_toInt h
theorem pk_lLT {a b : Nat} (ha : a < 2 ^ 63) (hb : b < 2 ^ 63) : lN a < lN b ↔ a < b := by
  rw [Int64.lt_iff_toInt_lt, pk_lT ha, pk_lT hb]; omega
theorem pk_lLE {a b : Nat} (ha : a < 2 ^ 63) (hb : b < 2 ^ 63) : lN a ≤ lN b ↔ a ≤ b := by
  rw [Int64.le_iff_toInt_le, pk_lT ha, pk_lT hb]; omega
theorem pk_lEQ {a b : Nat} (ha : a < 2 ^ 63) (hb : b < 2 ^ 63) : lN a = lN b ↔ a = b := by
  rw [← Int64.toInt_inj, pk_lT ha, pk_lT hb]; omega
theorem pk_lOf {x : Int64} (h : ¬ x < 0) : ∃ k : Nat, k < 2 ^ 63 ∧ x = lN k := by
  rw [Int64.lt_iff_toInt_lt] at h
  have h0 : (0 : Int64).toInt = 0 := by decide
  have hx := Int64.toInt_lt x
  refine ⟨x.toInt.toNat, by omega, Int64.toInt_inj.mp ?_⟩
  rw [pk_lT (by omega)]
  omega
theorem pk_least (P : Nat → Prop) (h : ∃ k, P k) : ∃ k, P k ∧ ∀ j, j < k → ¬ P j := by
  obtain ⟨k, hk⟩ := h
  induction k using Nat.strongRecOn with
  | ind k ih =>
    by_cases e : ∃ j, j < k ∧ P j
    · obtain ⟨j, hj, pj⟩ := e
      exact ih j hj pj
    · exact ⟨k, hk, fun j hj pj => e ⟨j, hj, pj⟩⟩
def bt (x : Int32) (i : Nat) : Bool := x.toBitVec.getLsbD i
theorem b_ext {x y : Int32} (h : ∀ i, i < 32 → bt x i = bt y i) : x = y := Int32.toBitVec_inj.mp (BitVec.eq_of_getLsbD_eq (fun i hi => h i hi))
theorem b_or (x y : Int32) (i : Nat) : bt (x ||| y) i = (bt x i || bt y i) := by unfold bt; rw [Int32.toBitVec_or, BitVec.getLsbD_or]
theorem b_and (x y : Int32) (i : Nat) : bt (x &&& y) i = (bt x i && bt y i) := by unfold bt; rw [Int32.toBitVec_and, BitVec.getLsbD_and]
theorem b_xor (x y : Int32) (i : Nat) : bt (x ^^^ y) i = (bt x i ^^ bt y i) := by unfold bt; rw [Int32.toBitVec_xor, BitVec.getLsbD_xor]
theorem b_big {x : Int32} {i : Nat} (h : 32 ≤ i) : bt x i = false := BitVec.getLsbD_of_ge _ _ h
theorem b_m1 : ∀ i, i < 32 → bt (-1) i = true := by decide +kernel
theorem b_0 (i : Nat) : bt 0 i = false := BitVec.getLsbD_zero
theorem s_l : ∀ n, n < 32 → ((nI n &&& 31).toBitVec.smod 32).toNat = n := by decide +kernel
theorem s_u : ∀ n, n < 32 → (((nI n).toUInt32 &&& Int32.toUInt32 31).toBitVec % 32).toNat = n := by decide +kernel
theorem b_shl (n : Nat) (hn : n < 32) (x : Int32) {i : Nat} (hi : i < 32) : bt (x <<< (nI n &&& 31)) i = (decide (n ≤ i) && bt x (i - n)) := by
  unfold bt
  rw [Int32.toBitVec_shiftLeft]
  show (x.toBitVec <<< ((nI n &&& 31).toBitVec.smod 32).toNat).getLsbD i = _
  rw [s_l n hn, BitVec.getLsbD_shiftLeft]
  rcases Nat.lt_or_ge i n with h | h
  · simp [h, Nat.not_le.mpr h]
  · simp [hi, h, Nat.not_lt.mpr h]
theorem b_ushr (n : Nat) (hn : n < 32) (x : Int32) (i : Nat) : bt ((x.toUInt32 >>> ((nI n).toUInt32 &&& Int32.toUInt32 31)).toInt32) i = bt x (n + i) := by
  show (x.toUInt32 >>> ((nI n).toUInt32 &&& Int32.toUInt32 31)).toBitVec.getLsbD i = x.toUInt32.toBitVec.getLsbD (n + i)
  rw [UInt32.toBitVec_shiftRight]
  show (x.toUInt32.toBitVec >>> (((nI n).toUInt32 &&& Int32.toUInt32 31).toBitVec % 32).toNat).getLsbD i = _
  rw [s_u n hn, BitVec.getLsbD_ushiftRight]
theorem nf_sh : ∀ l, l < 32 → ((1 : Int32) <<< (nI l &&& 31)).toBitVec = BitVec.twoPow 32 l := by decide +kernel
theorem nf_sl : ∀ l, l < 32 → (((nI l).toUInt32 &&& Int32.toUInt32 31).toBitVec % 32).toNat = l := by decide +kernel
theorem nf_tp : ∀ l, l < 32 → BitVec.twoPow 32 l ≠ 0#32 := by decide +kernel
theorem nf_bit (m : Int32) (l : Nat) (hl : l < 32) : ((m.toUInt32 >>> ((nI l).toUInt32 &&& Int32.toUInt32 31)).toInt32 &&& 1) = 0 ↔ (m &&& ((1 : Int32) <<< (nI l &&& 31))) = 0 := by
  have e : ((m.toUInt32 >>> ((nI l).toUInt32 &&& Int32.toUInt32 31)).toInt32).toBitVec = m.toBitVec >>> l := by
    show m.toBitVec >>> (((nI l).toUInt32 &&& Int32.toUInt32 31).toBitVec % 32) = m.toBitVec >>> l
    rw [BitVec.ushiftRight_eq', nf_sl l hl]
  rw [← Int32.toBitVec_inj, ← Int32.toBitVec_inj, Int32.toBitVec_and, Int32.toBitVec_and, nf_sh l hl, e, BitVec.and_twoPow]
  show (m.toBitVec >>> l &&& 1#32) = 0#32 ↔ _ = 0#32
  rw [BitVec.and_one_eq_setWidth_ofBool_getLsbD, BitVec.getLsbD_ushiftRight, Nat.add_zero]
  cases hb : m.toBitVec.getLsbD l
  · exact ⟨fun _ => by simp, fun _ => by decide⟩
  · exact ⟨fun z => absurd z (by decide), fun z => absurd ((if_pos rfl).symm.trans z) (nf_tp l hl)⟩
end
section
/-! masks as sets of numbers; counting -/
def Hb (m : Int32) (c : Nat) : Prop := bt m c = true
theorem hb_lt {x : Int32} {i : Nat} (h : Hb x i) : i < 32 := by
  rcases Nat.lt_or_ge i 32 with z | z
  · exact z
  · exact absurd h (by unfold Hb; rw [b_big z]; decide)
theorem hb_or {x y : Int32} {i : Nat} : Hb (x ||| y) i ↔ Hb x i ∨ Hb y i := by
  unfold Hb; rw [b_or, Bool.or_eq_true]
theorem hb_and {x y : Int32} {i : Nat} : Hb (x &&& y) i ↔ Hb x i ∧ Hb y i := by
  unfold Hb; rw [b_and, Bool.and_eq_true]
theorem hb_not {x : Int32} {i : Nat} (hi : i < 32) : Hb (x ^^^ (-1)) i ↔ ¬ Hb x i := by
  unfold Hb; rw [b_xor, b_m1 i hi]; cases bt x i <;> simp
theorem hb_andn {x y : Int32} {i : Nat} : Hb (x &&& (y ^^^ (-1))) i ↔ Hb x i ∧ ¬ Hb y i := by
  rw [hb_and]
  exact ⟨fun h => ⟨h.1, (hb_not (hb_lt h.1)).mp h.2⟩, fun h => ⟨h.1, (hb_not (hb_lt h.1)).mpr h.2⟩⟩
theorem hb_one {c i : Nat} (hc : c < 32) : Hb ((1 : Int32) <<< (nI c &&& 31)) i ↔ i = c := by
  constructor
  · intro h
    have hi := hb_lt h
    have := (by decide +kernel : ∀ c, c < 32 → ∀ i, i < 32 → bt ((1 : Int32) <<< (nI c &&& 31)) i = decide (i = c)) c hc i hi
    unfold Hb at h
    rw [this] at h
    exact of_decide_eq_true h
  · intro h
    subst h
    exact (by decide +kernel : ∀ c, c < 32 → bt ((1 : Int32) <<< (nI c &&& 31)) c = true) i hc
theorem hb_0 {i : Nat} : ¬ Hb 0 i := by unfold Hb; rw [b_0]; decide
theorem hb_ext {x y : Int32} (h : ∀ i, Hb x i ↔ Hb y i) : x = y := by
  apply b_ext
  intro i _
  have := h i
  unfold Hb at this
  cases hx : bt x i <;> cases hy : bt y i <;> simp_all
theorem hb_z {x : Int32} : x = 0 ↔ ∀ i, ¬ Hb x i :=
  ⟨fun h i => by rw [h]; exact hb_0, fun h => hb_ext fun i => ⟨fun z => absurd z (h i), fun z => absurd z hb_0⟩⟩
theorem hb_nz {x : Int32} : ¬ x = 0 ↔ ∃ i, Hb x i := by
  rw [hb_z]
  exact ⟨fun h => Classical.byContradiction fun z => h fun i hi => z ⟨i, hi⟩, fun ⟨i, hi⟩ h => h i hi⟩
theorem hb_an {x y : Int32} : x &&& y = 0 ↔ ∀ i, Hb x i → ¬ Hb y i := by
  rw [hb_z]
  exact ⟨fun h i a b => h i (hb_and.mpr ⟨a, b⟩), fun h i z => h i (hb_and.mp z).1 (hb_and.mp z).2⟩
theorem hb_t {x : Int32} {c : Nat} (hc : c < 32) : x &&& ((1 : Int32) <<< (nI c &&& 31)) = 0 ↔ ¬ Hb x c := by
  rw [hb_an]
  exact ⟨fun h z => h c z ((hb_one hc).mpr rfl), fun h i a b => h (by rw [(hb_one hc).mp b] at a; exact a)⟩
theorem hb_all : ∀ N, N < 11 → ∀ i, i < 32 → bt (((1 : Int32) <<< (nI N &&& 31)) - 1) i = decide (i < N) := by decide +kernel
theorem hb_allv {N i : Nat} (hN : N ≤ 10) : Hb (((1 : Int32) <<< (nI N &&& 31)) - 1) i ↔ i < N := by
  rcases Nat.lt_or_ge i 32 with z | z
  · unfold Hb; rw [hb_all N (by omega) i z, decide_eq_true_iff]
  · exact ⟨fun h => absurd (hb_lt h) (by omega), fun h => by omega⟩
theorem nt_low : ∀ X : Nat, X ≠ 0 → ∃ c, X.testBit c = true ∧ ∀ i, (X.testBit i = true ∧ (X - 1).testBit i = true) ↔ (X.testBit i = true ∧ i ≠ c) := by
  intro X
  induction X using Nat.strongRecOn with
  | ind X ih =>
    intro h
    by_cases e : X % 2 = 1
    · refine ⟨0, by rw [Nat.testBit_zero]; simp [e], fun i => ?_⟩
      cases i with
      | zero =>
        have : (X - 1) % 2 = 0 := by omega
        simp [Nat.testBit_zero, this]
      | succ i =>
        rw [Nat.testBit_succ, Nat.testBit_succ, show (X - 1) / 2 = X / 2 by omega]; simp
    · obtain ⟨c, hc, hi⟩ := ih (X / 2) (by omega) (by omega)
      refine ⟨c + 1, by rw [Nat.testBit_succ]; exact hc, fun i => ?_⟩
      cases i with
      | zero => simp [Nat.testBit_zero, e]
      | succ i =>
        rw [Nat.testBit_succ, Nat.testBit_succ, show (X - 1) / 2 = X / 2 - 1 by omega, hi i]
        simp
theorem hb_nat {x : Int32} {i : Nat} : Hb x i ↔ x.toBitVec.toNat.testBit i = true := Iff.rfl
theorem hb_low {x : Int32} (h : ¬ x = 0) : ∃ c, Hb x c ∧ ∀ i, Hb (x &&& (x - 1)) i ↔ Hb x i ∧ i ≠ c := by
  have hX : x.toBitVec.toNat ≠ 0 := by
    intro z
    apply h
    apply Int32.toBitVec_inj.mp
    apply BitVec.eq_of_toNat_eq
    rw [z]; rfl
  obtain ⟨c, hc, hi⟩ := nt_low _ hX
  refine ⟨c, hc, fun i => ?_⟩
  rw [hb_and, hb_nat, hb_nat, ← hi i]
  have e : (x - 1).toBitVec.toNat = x.toBitVec.toNat - 1 := by
    rw [Int32.toBitVec_sub, BitVec.toNat_sub]
    have hl := x.toBitVec.isLt
    have h1 : (1 : Int32).toBitVec.toNat = 1 := by decide
    rw [h1]
    omega
  rw [e]
theorem hb_single {x : Int32} (h : ¬ x = 0) (h1 : x &&& (x - 1) = 0) : ∃ c, c < 32 ∧ ∀ i, Hb x i ↔ i = c := by
  obtain ⟨c, hc, hi⟩ := hb_low h
  refine ⟨c, hb_lt hc, fun i => ⟨fun z => ?_, fun z => by rw [z]; exact hc⟩⟩
  rcases Classical.em (i = c) with e | e
  · exact e
  · have := (hi i).mpr ⟨z, e⟩
    rw [h1] at this
    exact absurd this hb_0
theorem hb_multi {x : Int32} (h : ¬ x = 0) (h1 : ¬ x &&& (x - 1) = 0) (c : Nat) : ∃ d, d ≠ c ∧ Hb x d := by
  obtain ⟨e, he, hi⟩ := hb_low h
  obtain ⟨d, hd⟩ := hb_nz.mp h1
  have hd2 := (hi d).mp hd
  rcases Classical.em (e = c) with z | z
  · exact ⟨d, fun q => hd2.2 (q.trans z.symm), hd2.1⟩
  · exact ⟨e, z, he⟩
noncomputable def b01 (P : Prop) : Nat := @ite Nat P (Classical.propDecidable P) 1 0
theorem b01_t {P : Prop} (h : P) : b01 P = 1 := by unfold b01; rw [if_pos h]
theorem b01_f {P : Prop} (h : ¬ P) : b01 P = 0 := by unfold b01; rw [if_neg h]
theorem b01_le (P : Prop) : b01 P ≤ 1 := by
  rcases Classical.em P with h | h
  · rw [b01_t h]; omega
  · rw [b01_f h]; omega
theorem b01_mono {P Q : Prop} (h : P → Q) : b01 P ≤ b01 Q := by
  rcases Classical.em P with hp | hp
  · rw [b01_t hp, b01_t (h hp)]; omega
  · rw [b01_f hp]; omega
noncomputable def cn (P : Nat → Prop) : Nat → Nat
  | 0 => 0
  | k + 1 => cn P k + b01 (P k)
theorem cn_mono {P Q : Nat → Prop} : ∀ {N : Nat}, (∀ k, k < N → P k → Q k) → cn P N ≤ cn Q N
  | 0, _ => Nat.le_refl _
  | N + 1, h => by
    have a := cn_mono (P := P) (Q := Q) (N := N) (fun k hk => h k (by omega))
    have b := b01_mono (h N (by omega))
    simp only [cn]; omega
theorem cn_le (P : Nat → Prop) : ∀ N, cn P N ≤ N
  | 0 => Nat.le_refl _
  | N + 1 => by have := cn_le P N; have := b01_le (P N); simp only [cn]; omega
theorem cn_eq {P Q : Nat → Prop} {N : Nat} (h : ∀ k, k < N → (P k ↔ Q k)) : cn P N = cn Q N :=
  Nat.le_antisymm (cn_mono fun k hk => (h k hk).mp) (cn_mono fun k hk => (h k hk).mpr)
theorem cn_add {P : Nat → Prop} {a : Nat} (hp : ¬ P a) : ∀ {N : Nat}, a < N → cn (fun k => P k ∨ k = a) N = cn P N + 1
  | 0, h => by omega
  | N + 1, h => by
    simp only [cn]
    rcases Nat.lt_or_ge a N with z | z
    · rw [cn_add hp z]
      have : b01 (P N ∨ N = a) = b01 (P N) := Nat.le_antisymm (b01_mono fun q => q.elim id (fun e => by omega)) (b01_mono Or.inl)
      omega
    · have e : a = N := by omega
      subst e
      rw [cn_eq (P := fun k => P k ∨ k = a) (Q := P) (fun k hk => ⟨fun q => q.elim id (fun e => by omega), Or.inl⟩), b01_t (Or.inr rfl), b01_f hp]
theorem cn_sub {P : Nat → Prop} {a N : Nat} (hp : P a) (h : a < N) : cn P N = cn (fun k => P k ∧ k ≠ a) N + 1 := by
  rw [← cn_add (P := fun k => P k ∧ k ≠ a) (fun z => z.2 rfl) h]
  apply cn_eq
  intro k _
  constructor
  · intro z
    rcases Classical.em (k = a) with e | e
    · exact Or.inr e
    · exact Or.inl ⟨z, e⟩
  · rintro (z | z)
    · exact z.1
    · rw [z]; exact hp
theorem cn_zero {P : Nat → Prop} : ∀ {N : Nat}, (∀ k, k < N → ¬ P k) → cn P N = 0
  | 0, _ => rfl
  | N + 1, h => by
    have a := cn_zero (P := P) (N := N) (fun k hk => h k (by omega))
    simp only [cn]; rw [a, b01_f (h N (by omega))]
theorem cn_pos {P : Nat → Prop} {N : Nat} (h : 0 < cn P N) : ∃ k, k < N ∧ P k := by
  refine Classical.byContradiction fun z => ?_
  have := cn_zero (P := P) (N := N) (fun k hk hp => z ⟨k, hk, hp⟩)
  omega
theorem cn_or {P Q : Nat → Prop} : ∀ N, cn (fun k => P k ∨ Q k) N ≤ cn P N + cn Q N
  | 0 => Nat.le_refl _
  | N + 1 => by
    have a := cn_or (P := P) (Q := Q) N
    have b : b01 (P N ∨ Q N) ≤ b01 (P N) + b01 (Q N) := by
      rcases Classical.em (P N) with h | h
      · rw [b01_t h]; have := b01_le (P N ∨ Q N); omega
      · have : b01 (P N ∨ Q N) ≤ b01 (Q N) := b01_mono fun z => z.elim (fun q => absurd q h) id
        omega
    simp only [cn]; omega
theorem cn_is (a : Nat) : ∀ N, cn (fun k => k = a) N ≤ 1 := by
  intro N
  rcases Nat.lt_or_ge a N with h | h
  · rw [cn_sub (P := fun k => k = a) rfl h, cn_zero (fun k _ z => z.2 z.1)]; omega
  · rw [cn_zero (fun k hk z => by omega)]; omega
theorem cn_none {P : Nat → Prop} {N k : Nat} (h : cn P N = 0) (hk : k < N) : ¬ P k := fun hp => by
  have := cn_sub hp hk
  omega
theorem cn_s (P : Nat → Prop) (N : Nat) : cn P (N + 1) = cn P N + b01 (P N) := rfl
theorem cn_ext {P : Nat → Prop} {M N : Nat} (h : M ≤ N) (hz : ∀ k, M ≤ k → k < N → ¬ P k) : cn P N = cn P M := by
  obtain ⟨d, rfl⟩ : ∃ d, N = M + d := ⟨N - M, by omega⟩
  clear h
  induction d with
  | zero => rfl
  | succ d ih =>
    rw [show M + (d + 1) = (M + d) + 1 from rfl, cn_s, b01_f (hz (M + d) (by omega) (by omega)), ih (fun k h1 h2 => hz k h1 (by omega))]; rfl
theorem pg_in {p N : Nat} {f : Nat → Nat} (hf : ∀ i, i < p → f i < N) (hi : ∀ i j, i < j → j < p → f i ≠ f j) : p ≤ N := by
  have key : ∀ q, q ≤ p → cn (fun v => ∃ i, i < q ∧ f i = v) N = q := by
    intro q
    induction q with
    | zero => intro _; exact cn_zero fun k _ ⟨i, h, _⟩ => by omega
    | succ q ih =>
      intro hq
      have hn : ¬ ∃ i, i < q ∧ f i = f q := fun ⟨i, h, e⟩ => hi i q h (by omega) e
      have := cn_add (P := fun v => ∃ i, i < q ∧ f i = v) hn (hf q (by omega))
      rw [ih (by omega)] at this
      rw [← this]
      apply cn_eq
      intro v _
      constructor
      · rintro ⟨i, h, e⟩
        rcases Nat.lt_or_ge i q with z | z
        · exact Or.inl ⟨i, z, e⟩
        · have : i = q := by omega
          subst this
          exact Or.inr e.symm
      · rintro (⟨i, h, e⟩ | e)
        · exact ⟨i, by omega, e⟩
        · exact ⟨q, by omega, e.symm⟩
  have a := key p (Nat.le_refl p)
  have b := cn_le (fun v => ∃ i, i < p ∧ f i = v) N
  omega
noncomputable def pcn (x : Int32) : Nat := cn (Hb x) 32
theorem pcn_low {x : Int32} (h : ¬ x = 0) : pcn x = pcn (x &&& (x - 1)) + 1 := by
  obtain ⟨c, hc, hi⟩ := hb_low h
  unfold pcn
  rw [cn_sub hc (hb_lt hc)]
  rw [cn_eq (P := Hb (x &&& (x - 1))) (fun k _ => hi k)]
theorem pcn_0 : pcn 0 = 0 := cn_zero fun _ _ => hb_0
theorem pcn_n0 {x : Int32} (h : pcn x = 0) : x = 0 := by
  rw [hb_z]
  intro i hi
  exact cn_none h (hb_lt hi) hi
theorem pcn_le (x : Int32) : pcn x ≤ 32 := cn_le _ _
end
section
/-! solvable sets, cores, flows, choices -/
def Stk (us mk : Nat → Nat → Prop) (T : Nat → Prop) : Prop := ∀ c v, T c → mk c v → ∃ d, d ≠ c ∧ T d ∧ us d v
def Slv (us mk : Nat → Nat → Prop) (S : Nat → Prop) : Prop := ∀ T : Nat → Prop, (∀ c, T c → S c) → Stk us mk T → ∀ c, ¬ T c
def Cor (us mk : Nat → Nat → Prop) (S : Nat → Prop) (c : Nat) : Prop := ∃ T : Nat → Prop, (∀ d, T d → S d) ∧ Stk us mk T ∧ T c
section
variable {us mk us' mk' : Nat → Nat → Prop}
theorem sv_mono {S S' : Nat → Prop} (h : ∀ c, S c → S' c) (H : Slv us mk S') : Slv us mk S := fun T hT => H T (fun c hc => h c (hT c hc))
theorem sv_eq {S S' : Nat → Prop} (h : ∀ c, S c ↔ S' c) : Slv us mk S ↔ Slv us mk S' :=
  ⟨sv_mono fun c => (h c).mpr, sv_mono fun c => (h c).mp⟩
theorem sv_cor {S : Nat → Prop} : Slv us mk S ↔ ∀ c, ¬ Cor us mk S c :=
  ⟨fun H c ⟨T, h1, h2, h3⟩ => H T h1 h2 c h3, fun H T h1 h2 c h3 => H c ⟨T, h1, h2, h3⟩⟩
theorem co_sub {S : Nat → Prop} {c : Nat} (h : Cor us mk S c) : S c := by
  obtain ⟨T, h1, _, h3⟩ := h
  exact h1 c h3
theorem co_stk {S : Nat → Prop} : Stk us mk (Cor us mk S) := by
  intro c v h hv
  obtain ⟨T, h1, h2, h3⟩ := h
  obtain ⟨d, hd, hT, hu⟩ := h2 c v h3 hv
  exact ⟨d, hd, ⟨T, h1, h2, hT⟩, hu⟩
theorem co_of {S T : Nat → Prop} (hT : ∀ c, T c → S c) (hs : Stk us mk T) {c : Nat} (hc : T c) : Cor us mk S c := ⟨T, hT, hs, hc⟩
theorem co_step {S R : Nat → Prop} {c v : Nat} (hR : ∀ d, Cor us mk S d → R d) (hc : mk c v) (hu : ∀ d, R d → us d v → d = c) : ∀ d, Cor us mk S d → R d ∧ d ≠ c :=
  fun d hd => ⟨hR d hd, fun e => by
    subst e
    obtain ⟨x, hx, hcx, hux⟩ := co_stk d v hd hc
    exact hx (hu x (hR x hcx) hux)⟩
theorem co_mono {A B : Nat → Prop} (h : ∀ c, A c → B c) {c : Nat} (hc : Cor us mk A c) : Cor us mk B c := by
  obtain ⟨T, h1, h2, h3⟩ := hc
  exact ⟨T, fun d hd => h d (h1 d hd), h2, h3⟩
theorem co_co {A B : Nat → Prop} (h : ∀ c, A c → B c) {c : Nat} : Cor us mk (fun d => Cor us mk B d ∧ A d) c ↔ Cor us mk A c :=
  ⟨co_mono fun _ hd => hd.2, fun hc => ⟨Cor us mk A, fun _ hd => ⟨co_mono h hd, co_sub hd⟩, co_stk, hc⟩⟩
theorem sv_congr {S : Nat → Prop} (hu : ∀ c v, S c → (us c v ↔ us' c v)) (hm : ∀ c v, S c → (mk c v ↔ mk' c v)) (H : Slv us mk S) : Slv us' mk' S := by
  intro T hT hs
  refine H T hT fun c v hc hv => ?_
  obtain ⟨d, hd, hTd, hud⟩ := hs c v hc ((hm c v (hT c hc)).mp hv)
  exact ⟨d, hd, hTd, (hu d v (hT d hTd)).mpr hud⟩
theorem sv_ren {S : Nat → Prop} {a b : Nat} (ha : ¬ S a) (hb : ¬ S b) (hu : ∀ c v, S c → (us c v ↔ us' c v)) (hm : ∀ c v, S c → (mk c v ↔ mk' c v)) (hua : ∀ v, us a v ↔ us' b v) (hma : ∀ v, mk a v ↔ mk' b v) (H : Slv us mk (fun c => S c ∨ c = a)) : Slv us' mk' (fun c => S c ∨ c = b) := by
  intro T hT hs
  have K := H (fun c => (S c ∧ T c) ∨ (c = a ∧ T b)) (fun c h => h.elim (fun z => Or.inl z.1) (fun z => Or.inr z.1)) (by
    intro c v hc hv
    rcases hc with ⟨h1, h2⟩ | ⟨h1, h2⟩
    · obtain ⟨d, hd, hTd, hud⟩ := hs c v h2 ((hm c v h1).mp hv)
      rcases hT d hTd with z | z
      · exact ⟨d, hd, Or.inl ⟨z, hTd⟩, (hu d v z).mpr hud⟩
      · subst z
        exact ⟨a, fun e => ha (e ▸ h1), Or.inr ⟨rfl, hTd⟩, (hua v).mpr hud⟩
    · subst h1
      obtain ⟨d, hd, hTd, hud⟩ := hs b v h2 ((hma v).mp hv)
      rcases hT d hTd with z | z
      · exact ⟨d, fun e => ha (e ▸ z), Or.inl ⟨z, hTd⟩, (hu d v z).mpr hud⟩
      · exact absurd z hd)
  intro c hc
  rcases hT c hc with z | z
  · exact K c (Or.inl ⟨z, hc⟩)
  · subst z
    exact K a (Or.inr ⟨rfl, hc⟩)
theorem sv_empty {S : Nat → Prop} (h : ∀ c, ¬ S c) : Slv us mk S := fun _ hT _ c hc => h c (hT c hc)
theorem sv_one {a v : Nat} (hm : mk a v) : Slv us mk (fun c => c = a) := by
  intro T hT hs c hc
  have e := hT c hc
  subst e
  obtain ⟨d, hd, hTd, _⟩ := hs c v hc hm
  exact hd (hT d hTd)
theorem sv_free {S : Nat → Prop} {a v : Nat} (H : Slv us mk S) (hm : mk a v) (hf : ∀ c, S c → c ≠ a → ¬ us c v) : Slv us mk (fun c => S c ∨ c = a) := by
  intro T hT hs
  have h1 : ¬ T a := fun hc => by
    obtain ⟨d, hd, hTd, hu⟩ := hs a v hc hm
    rcases hT d hTd with z | z
    · exact hf d z hd hu
    · exact hd z
  exact H T (fun c hc => (hT c hc).elim id fun e => absurd (e ▸ hc) h1) hs
theorem sv_peel {S : Nat → Prop} (H : Slv us mk S) {c0 : Nat} (h0 : S c0) : ∃ c v, S c ∧ mk c v ∧ ∀ d, S d → us d v → d = c := by
  refine Classical.byContradiction fun z => ?_
  refine H S (fun _ h => h) (fun c v hc hv => ?_) c0 h0
  refine Classical.byContradiction fun y => z ⟨c, v, hc, hv, fun d hd hu => ?_⟩
  refine Classical.byContradiction fun e => y ⟨d, e, hd, hu⟩
theorem sv_cnt {N : Nat} (hmu : ∀ c v, mk c v → us c v) : ∀ (k : Nat) (S W : Nat → Prop), (∀ c, S c → c < 32) → Slv us mk S → (∀ c v, S c → us c v → W v ∧ v < N) → cn S 32 = k → k ≤ cn W N := by
  intro k
  induction k with
  | zero => intros; exact Nat.zero_le _
  | succ k ih =>
    intro S W h32 H hW hk
    obtain ⟨c0, _, h0⟩ := cn_pos (P := S) (N := 32) (by omega)
    obtain ⟨c, v, hc, hv, hd⟩ := sv_peel H h0
    have hw := hW c v hc (hmu c v hv)
    have e1 := cn_sub (P := S) hc (h32 c hc)
    have e2 := cn_sub (P := W) hw.1 hw.2
    have := ih (fun k => S k ∧ k ≠ c) (fun k => W k ∧ k ≠ v) (fun d hd => h32 d hd.1) (sv_mono (fun _ h => h.1) H) (fun d w hd1 hu => ⟨⟨(hW d w hd1.1 hu).1, fun e => hd1.2 (hd d hd1.1 (e ▸ hu))⟩, (hW d w hd1.1 hu).2⟩) (by omega)
    omega
/-- a flow by places: xs i is executed at place i and outputs os i -/
def Fps (us mk : Nat → Nat → Prop) (S : Nat → Prop) (p : Nat) (xs os : Nat → Nat) : Prop :=
  (∀ i, i < p → S (xs i) ∧ mk (xs i) (os i)) ∧ (∀ c, S c → ∃ i, i < p ∧ xs i = c) ∧ (∀ i j, i < p → j < p → us (xs j) (os i) → j ≠ i → i < j)
theorem dn_ind {P : Nat → Prop} (p : Nat) (h : ∀ i, i < p → (∀ j, i < j → j < p → P j) → P i) : ∀ i, i < p → P i := by
  have key : ∀ k i, i < p → p - i ≤ k → P i := by
    intro k
    induction k with
    | zero => intro i hi hk; omega
    | succ k ih => intro i hi hk; exact h i hi fun j h1 h2 => ih j h2 (by omega)
  exact fun i hi => key _ i hi (Nat.le_refl _)
theorem fp_slv {S : Nat → Prop} {p : Nat} {xs os : Nat → Nat} (F : Fps us mk S p xs os) : Slv us mk S := by
  intro T hT hs
  have key : ∀ i, i < p → ¬ T (xs i) := by
    refine dn_ind (P := fun i => ¬ T (xs i)) p fun i hi ih hc => ?_
    obtain ⟨d, hd, hTd, hu⟩ := hs _ _ hc (F.1 i hi).2
    obtain ⟨j, hj, e⟩ := F.2.1 d (hT d hTd)
    subst e
    exact ih j (F.2.2 i j hi hj hu fun e => hd (by rw [e])) hj hTd
  intro c hc
  obtain ⟨i, hi, e⟩ := F.2.1 c (hT c hc)
  subst e
  exact key i hi hc
theorem fp_os {S : Nat → Prop} {p : Nat} {xs os : Nat → Nat} (F : Fps us mk S p xs os) (hmu : ∀ c v, mk c v → us c v) {i j : Nat} (hi : i < p) (hj : j < p) (e : os i = os j) : i = j := by
  refine Classical.byContradiction fun z => ?_
  have a := F.2.2 i j hi hj (by rw [e]; exact hmu _ _ (F.1 j hj).2) (fun q => z q.symm)
  have b := F.2.2 j i hj hi (by rw [← e]; exact hmu _ _ (F.1 i hi).2) z
  omega
theorem fp_xs {S : Nat → Prop} {p : Nat} {xs os : Nat → Nat} (F : Fps us mk S p xs os) (hmu : ∀ c v, mk c v → us c v) {i j : Nat} (hi : i < p) (hj : j < p) (e : xs i = xs j) : i = j := by
  refine Classical.byContradiction fun z => ?_
  have a := F.2.2 i j hi hj (by rw [← e]; exact hmu _ _ (F.1 i hi).2) (fun q => z q.symm)
  have b := F.2.2 j i hj hi (by rw [e]; exact hmu _ _ (F.1 j hj).2) z
  omega
theorem fp_cmp {S : Nat → Prop} {p : Nat} {xs os : Nat → Nat} (F : Fps us mk S p xs os) {a v : Nat} (hS : S a ∨ ¬ Slv us mk (fun c => S c ∨ c = a)) (hm : ∀ w, mk a w ↔ w = v) (hu : ∀ w, us a w → w = v) : ∃ i, i < p ∧ os i = v := by
  refine Classical.byContradiction fun no => ?_
  have hno : ∀ i, i < p → os i ≠ v := fun i hi e => no ⟨i, hi, e⟩
  rcases hS with h | h
  · obtain ⟨i, hi, e⟩ := F.2.1 a h
    exact hno i hi ((hm _).mp (e ▸ (F.1 i hi).2))
  · refine h fun T hT hs => ?_
    have key : ∀ i, i < p → ¬ T (xs i) := by
      refine dn_ind (P := fun i => ¬ T (xs i)) p fun i hi ih hc => ?_
      obtain ⟨d, hd, hTd, hud⟩ := hs _ _ hc (F.1 i hi).2
      rcases hT d hTd with z | z
      · obtain ⟨j, hj, e⟩ := F.2.1 d z
        subst e
        exact ih j (F.2.2 i j hi hj hud fun e => hd (by rw [e])) hj hTd
      · subst z
        exact hno i hi (hu _ hud)
    have hTS : ∀ c, T c → c = a := by
      intro c hc
      rcases hT c hc with z | z
      · obtain ⟨i, hi, e⟩ := F.2.1 c z
        subst e
        exact absurd hc (key i hi)
      · exact z
    intro c hc
    have e := hTS c hc
    subst e
    obtain ⟨d, hd, hTd, _⟩ := hs c v hc ((hm v).mpr rfl)
    exact hd (hTS d hTd)
theorem fp_uniq {S : Nat → Prop} {p N : Nat} {xs os out : Nat → Nat} (F : Fps us mk S p xs os) (hmu : ∀ c v, mk c v → us c v) (hs : ∀ v, v < N → ∃ i, i < p ∧ os i = v) (ho : ∀ c, S c → mk c (out c) ∧ out c < N) (hi : ∀ c d, S c → S d → out c = out d → c = d) : ∀ i, i < p → out (xs i) = os i := by
  intro i
  induction i using Nat.strongRecOn with
  | ind i ih =>
    intro hp
    have hx := (F.1 i hp).1
    obtain ⟨j, hj, e⟩ := hs _ (ho _ hx).2
    rcases Classical.em (j = i) with z | z
    · rw [← e, z]
    · have hlt := F.2.2 j i hj hp (by rw [e]; exact hmu _ _ (ho _ hx).1) (fun q => z q.symm)
      have e2 := ih j hlt hj
      have := hi _ _ (F.1 j hj).1 hx (e2.trans e)
      exact absurd (fp_xs F hmu hj hp this) z
/-- a choice over the candidates D by the key: every candidate is chosen just if it fits the chosen ones ahead of it -/
def Chs (us mk : Nat → Nat → Prop) (key : Nat → Nat) (D C : Nat → Prop) : Prop :=
  (∀ c, C c → D c) ∧ ∀ c, D c → (C c ↔ Slv us mk (fun d => (C d ∧ key d < key c) ∨ d = c))
theorem ch_uniq {key : Nat → Nat} {D C C' : Nat → Prop} (h : Chs us mk key D C) (h' : Chs us mk key D C') (c : Nat) : C c ↔ C' c := by
  have key' : ∀ k c, key c < k → (C c ↔ C' c) := by
    intro k
    induction k with
    | zero => intro c hc; omega
    | succ k ih =>
      intro c hc
      rcases Classical.em (D c) with hd | hd
      · rw [h.2 c hd, h'.2 c hd]
        apply sv_eq
        intro d
        constructor
        · rintro (z | z)
          · exact Or.inl ⟨(ih d (by omega)).mp z.1, z.2⟩
          · exact Or.inr z
        · rintro (z | z)
          · exact Or.inl ⟨(ih d (by omega)).mpr z.1, z.2⟩
          · exact Or.inr z
      · exact ⟨fun z => absurd (h.1 c z) hd, fun z => absurd (h'.1 c z) hd⟩
  exact key' _ c (Nat.lt_succ_self _)
theorem ch_congr {key key' : Nat → Nat} {D D' C C' : Nat → Prop} (h : Chs us mk key D C) (hD : ∀ c, D c ↔ D' c) (hC : ∀ c, C c ↔ C' c) (hk : ∀ c d, D c → D d → (key d < key c ↔ key' d < key' c)) (hu : ∀ c v, D c → (us c v ↔ us' c v)) (hm : ∀ c v, D c → (mk c v ↔ mk' c v)) : Chs us' mk' key' D' C' := by
  refine ⟨fun c hc => (hD c).mp (h.1 c ((hC c).mpr hc)), fun c hc => ?_⟩
  have hc' := (hD c).mpr hc
  rw [← hC c, h.2 c hc']
  have e : ∀ d, ((C d ∧ key d < key c) ∨ d = c) ↔ ((C' d ∧ key' d < key' c) ∨ d = c) := by
    intro d
    constructor
    · rintro (z | z)
      · exact Or.inl ⟨(hC d).mp z.1, (hk c d hc' (h.1 d z.1)).mp z.2⟩
      · exact Or.inr z
    · rintro (z | z)
      · have := (hC d).mpr z.1
        exact Or.inl ⟨this, (hk c d hc' (h.1 d this)).mpr z.2⟩
      · exact Or.inr z
  have dd : ∀ d, ((C d ∧ key d < key c) ∨ d = c) → D d := fun d z => z.elim (fun q => h.1 d q.1) (fun q => q ▸ hc')
  constructor
  · intro H
    exact (sv_eq e).mp (sv_congr (fun d v hd => hu d v (dd d hd)) (fun d v hd => hm d v (dd d hd)) H)
  · intro H
    exact sv_congr (fun d v hd => (hu d v (dd d hd)).symm) (fun d v hd => (hm d v (dd d hd)).symm) ((sv_eq e).mpr H)
theorem ch_yes {key : Nat → Nat} {D C : Nat → Prop} {a : Nat} (h : Chs us mk key D C) (hk : ∀ d, D d → key d < key a) (hs : Slv us mk (fun c => C c ∨ c = a)) : Chs us mk key (fun c => D c ∨ c = a) (fun c => C c ∨ c = a) := by
  refine ⟨fun c hc => hc.elim (fun z => Or.inl (h.1 c z)) Or.inr, fun c hc => ?_⟩
  have e : ∀ c, D c → ∀ d, ((C d ∧ key d < key c) ∨ d = c) ↔ (((C d ∨ d = a) ∧ key d < key c) ∨ d = c) := by
    intro c hc d
    have := hk c hc
    constructor
    · rintro (z | z)
      · exact Or.inl ⟨Or.inl z.1, z.2⟩
      · exact Or.inr z
    · rintro (⟨z | z, q⟩ | z)
      · exact Or.inl ⟨z, q⟩
      · subst z; omega
      · exact Or.inr z
  rcases Classical.em (D c) with hd | hd
  · constructor
    · rintro (z | z)
      · exact (sv_eq (e c hd)).mp ((h.2 c hd).mp z)
      · subst z; exact absurd (hk c hd) (Nat.lt_irrefl _)
    · intro H
      exact Or.inl ((h.2 c hd).mpr ((sv_eq (e c hd)).mpr H))
  · have hca : c = a := hc.elim (fun z => absurd z hd) id
    subst hca
    exact ⟨fun _ => sv_mono (fun d z => z.elim (fun q => q.1) Or.inr) hs, fun _ => Or.inr rfl⟩
theorem ch_no {key : Nat → Nat} {D C : Nat → Prop} {a : Nat} (h : Chs us mk key D C) (hD : ¬ D a) (hs : ¬ Slv us mk (fun d => (C d ∧ key d < key a) ∨ d = a)) : Chs us mk key (fun c => D c ∨ c = a) C := by
  refine ⟨fun c hc => Or.inl (h.1 c hc), fun c hc => ?_⟩
  rcases Classical.em (D c) with hd | hd
  · exact h.2 c hd
  · have hca : c = a := hc.elim (fun z => absurd z hd) id
    subst hca
    exact ⟨fun z => absurd (h.1 c z) hd, fun z => absurd z hs⟩
theorem ch_sub {key : Nat → Nat} {D C D' : Nat → Prop} (h : Chs us mk key D C) (hs : ∀ c, D' c → D c) (hk : ∀ c d, D' c → C d → key d < key c → D' d) : Chs us mk key D' (fun c => C c ∧ D' c) := by
  refine ⟨fun c hc => hc.2, fun c hc => ?_⟩
  have e : ∀ d, ((C d ∧ key d < key c) ∨ d = c) ↔ (((C d ∧ D' d) ∧ key d < key c) ∨ d = c) := by
    intro d
    constructor
    · rintro (z | z)
      · exact Or.inl ⟨⟨z.1, hk c d hc z.1 z.2⟩, z.2⟩
      · exact Or.inr z
    · rintro (z | z)
      · exact Or.inl ⟨z.1.1, z.2⟩
      · exact Or.inr z
  rw [← sv_eq e, ← h.2 c (hs c hc)]
  exact ⟨fun z => z.1, fun z => ⟨z, hc⟩⟩
/-- an enforced one that gets a smaller key leaves the choice as it is -/
theorem ch_up {key key' : Nat → Nat} {D C : Nat → Prop} {a : Nat} (h : Chs us mk key D C) (hC : Slv us mk C) (ha : C a) (hk : ∀ c, c ≠ a → key' c = key c) (hlt : key' a ≤ key a) : Chs us mk key' D C := by
  refine ⟨h.1, fun c hc => ⟨fun z => ?_, fun H => ?_⟩⟩
  · exact sv_mono (fun d q => q.elim (fun r => r.1) (fun r => r ▸ z)) hC
  · rcases Classical.em (c = a) with e | e
    · rw [e]; exact ha
    · refine (h.2 c hc).mpr (sv_mono (fun d q => q.elim (fun r => Or.inl ⟨r.1, ?_⟩) Or.inr) H)
      rw [hk c e]
      rcases Classical.em (d = a) with f | f
      · have := r.2; rw [f] at this ⊢; omega
      · rw [hk d f]; exact r.2
/-- the choice is maximal at each candidate -/
theorem ch_max {key : Nat → Nat} {D C : Nat → Prop} (h : Chs us mk key D C) {a : Nat} (ha : D a) : C a ∨ ¬ Slv us mk (fun c => C c ∨ c = a) := by
  rcases Classical.em (C a) with z | z
  · exact Or.inl z
  · exact Or.inr fun H => z ((h.2 a ha).mpr (sv_mono (fun d q => q.elim (fun r => Or.inl r.1) Or.inr) H))
/-- evaluation along a flow -/
def Evl (p : Nat) (xs os : Nat → Nat) (D : Nat → Nat → (Nat → Int32) → Int32) (v0 v1 : Nat → Int32) : Prop :=
  ∀ i, i < p → v1 (os i) = D (xs i) (os i) (fun w => if w = os i then v0 w else v1 w)
theorem ev_uniq {S : Nat → Prop} {p N : Nat} {xs os : Nat → Nat} {D D' : Nat → Nat → (Nat → Int32) → Int32} {v0 v0' v1 v1' : Nat → Int32} (F : Fps us mk S p xs os) (huN : ∀ c v, us c v → v < N) (hs : ∀ v, v < N → ∃ i, i < p ∧ os i = v)
    (hD : ∀ i, i < p → ∀ f g : Nat → Int32, (∀ w, us (xs i) w → f w = g w) → D (xs i) (os i) f = D' (xs i) (os i) g)
    (h0 : ∀ v, v < N → v0 v = v0' v) (E : Evl p xs os D v0 v1) (E' : Evl p xs os D' v0' v1') : ∀ v, v < N → v1 v = v1' v := by
  have key : ∀ i, i < p → v1 (os i) = v1' (os i) := by
    intro i
    induction i using Nat.strongRecOn with
    | ind i ih =>
      intro hp
      rw [E i hp, E' i hp]
      apply hD i hp
      intro w hw
      rcases Classical.em (w = os i) with z | z
      · rw [if_pos z, if_pos z]; exact h0 w (huN _ _ hw)
      · rw [if_neg z, if_neg z]
        obtain ⟨j, hj, e⟩ := hs w (huN _ _ hw)
        subst e
        exact ih j (F.2.2 j i hj hp hw fun q => z (by rw [q])) hj
  intro v hv
  obtain ⟨i, hi, e⟩ := hs v hv
  subst e
  exact key i hi
/-- evaluation by places, after i of them -/
def VI (xs os : Nat → Nat) (D : Nat → Nat → (Nat → Int32) → Int32) (v0 : Nat → Int32) (i : Nat) (val : Nat → Int32) : Prop :=
  (∀ j, j < i → val (os j) = D (xs j) (os j) (fun w => if w = os j then v0 w else val w)) ∧ ∀ v, (∀ j, j < i → os j ≠ v) → val v = v0 v
theorem vi_step {S : Nat → Prop} {p N i : Nat} {xs os : Nat → Nat} {D : Nat → Nat → (Nat → Int32) → Int32} {v0 val : Nat → Int32} (F : Fps us mk S p xs os) (hmu : ∀ c v, mk c v → us c v) (huN : ∀ c v, us c v → v < N) (hs : ∀ v, v < N → ∃ i, i < p ∧ os i = v)
    (hD : ∀ i, i < p → ∀ f g : Nat → Int32, (∀ w, us (xs i) w → f w = g w) → D (xs i) (os i) f = D (xs i) (os i) g) (hi : i < p) (h : VI xs os D v0 i val) : VI xs os D v0 (i + 1) (upd val (os i) (D (xs i) (os i) val)) := by
  have hne : ∀ j, j < i → os j ≠ os i := fun j hj e => by have := fp_os F hmu (by omega) hi e; omega
  refine ⟨fun j hj => ?_, fun v hv => ?_⟩
  · rcases Nat.lt_or_ge j i with y | y
    · rw [pk_un (hne j y), h.1 j y]
      apply hD j (by omega)
      intro w hw
      rcases Classical.em (w = os j) with z | z
      · rw [if_pos z, if_pos z]
      · rw [if_neg z, if_neg z]
        obtain ⟨l, hl, e⟩ := hs w (huN _ _ hw)
        subst e
        have := F.2.2 l j hl (by omega) hw fun q => z (by rw [q])
        rw [pk_un (hne l (by omega))]
    · have : j = i := by omega
      subst this
      rw [pk_us]
      apply hD j hi
      intro w hw
      rcases Classical.em (w = os j) with z | z
      · rw [if_pos z, z]; exact h.2 _ hne
      · rw [if_neg z, pk_un z]
  · rw [pk_un fun q => hv i (by omega) q.symm]
    exact h.2 v fun j hj => hv j (by omega)
theorem fp_congr {S S' : Nat → Prop} {p : Nat} {xs os : Nat → Nat} (F : Fps us mk S p xs os) (hS : ∀ c, S c ↔ S' c) (hu : ∀ c v, S c → (us c v ↔ us' c v)) (hm : ∀ c v, S c → (mk c v ↔ mk' c v)) : Fps us' mk' S' p xs os :=
  ⟨fun i hi => ⟨(hS _).mp (F.1 i hi).1, (hm _ _ (F.1 i hi).1).mp (F.1 i hi).2⟩, fun c hc => F.2.1 c ((hS c).mpr hc), fun i j hi hj h hne => F.2.2 i j hi hj ((hu _ _ (F.1 j hj).1).mpr h) hne⟩
end
end
section
/-! the small reading loops of the component -/
def UX (N : Nat) (u : Nat → Int32) (c v : Nat) : Prop := v < N ∧ Hb (u v) c
section
variable {f_draftId f_editId f_firstStay f_n f_m f_allVariables f_live f_liveCount f_marked f_draftOpen f_enforced f_execCount f_walkKnown f_peelCount f_planCount : Int32} {f_nextStamp : Int64} {a_values a_before a_kinds a_strengths a_constants a_termCounts a_termVars a_termSigns a_termModes a_variableMasks a_outputMasks a_users a_makers a_ranked a_atStrength a_execIds a_outputs a_feeders a_determiner a_upstream a_walk a_agenda a_peelIds a_peelVars a_plan : Nat → Int32} {a_stamps : Nat → Int64}
variable {N M L : Nat}
theorem xl_vars (hn : f_n = nI N) (hN : N ≤ 10) (post : Int32 → Prop) (x1 : Int32) (H : ∀ r, (∀ v, Hb r v ↔ v < N ∧ ∃ c, Hb (a_users v) c ∧ Hb x1 c) → post r) :
    ∀ d i acc fuel, i + d = N → d < fuel → (∀ v, Hb acc v ↔ v < i ∧ ∃ c, Hb (a_users v) c ∧ Hb x1 c) → wX_variablesOf_4 post x1 f_draftId f_editId f_firstStay f_n f_m f_allVariables f_nextStamp f_live f_liveCount f_marked f_draftOpen f_enforced f_execCount f_walkKnown f_peelCount f_planCount a_values a_before a_kinds a_strengths a_constants a_termCounts a_termVars a_termSigns a_termModes a_variableMasks a_outputMasks a_stamps a_users a_makers a_ranked a_atStrength a_execIds a_outputs a_feeders a_determiner a_upstream a_walk a_agenda a_peelIds a_peelVars a_plan fuel acc (nI i) := by
  intro d
  induction d with
  | zero =>
    intro i acc fuel hi hf ha
    have e : i = N := by omega
    subst e
    cases fuel with
    | zero => omega
    | succ fuel => exact br_t (by rw [hn]; exact Int32.le_refl _) (H acc ha)
  | succ d ih =>
    intro i acc fuel hi hf ha
    cases fuel with
    | zero => omega
    | succ fuel =>
      have ec : (nI i).toNatClampNeg = i := nI_clamp (by omega)
      refine pk_le N i (fun h => absurd h (by omega)) (fun _ => And.intro (vp_in_nI (by omega) (by omega)) (br_c (fun z => ?_) (fun z => ?_))) hn rfl (by omega) (by omega)
      · rw [ec, hb_an] at z
        refine nm_r (nI_1 i) (ih (i + 1) acc fuel (by omega) (by omega) fun v => ?_)
        rw [ha v]
        constructor
        · exact fun h => ⟨by omega, h.2⟩
        · rintro ⟨h, c, h1, h2⟩
          refine ⟨?_, c, h1, h2⟩
          rcases Nat.lt_or_ge v i with q | q
          · exact q
          · have : v = i := by omega
            subst this
            exact absurd h2 (z c h1)
      · rw [ec, hb_nz] at z
        refine nm_e (nm_r (nI_1 i) (ih (i + 1) _ fuel (by omega) (by omega) fun v => ?_))
        rw [hb_or, ha v, hb_one (by omega)]
        constructor
        · rintro (h | h)
          · exact ⟨by omega, h.2⟩
          · subst h
            obtain ⟨c, hc⟩ := z
            exact ⟨by omega, c, hb_and.mp hc⟩
        · rintro ⟨h, hc⟩
          rcases Nat.lt_or_ge v i with q | q
          · exact Or.inl ⟨q, hc⟩
          · exact Or.inr (by omega)
theorem xs_vars (hn : f_n = nI N) (hN : N ≤ 10) (post : Int32 → Prop) (x1 : Int32) (H : ∀ r, (∀ v, Hb r v ↔ v < N ∧ ∃ c, Hb (a_users v) c ∧ Hb x1 c) → post r) : wpX_variablesOf post (f_draftId, f_editId, f_firstStay, f_n, f_m, f_allVariables, f_nextStamp, f_live, f_liveCount, f_marked, f_draftOpen, f_enforced, f_execCount, f_walkKnown, f_peelCount, f_planCount, a_values, a_before, a_kinds, a_strengths, a_constants, a_termCounts, a_termVars, a_termSigns, a_termModes, a_variableMasks, a_outputMasks, a_stamps, a_users, a_makers, a_ranked, a_atStrength, a_execIds, a_outputs, a_feeders, a_determiner, a_upstream, a_walk, a_agenda, a_peelIds, a_peelVars, a_plan) x1 :=
  Exists.intro (N + 1) (xl_vars hn hN post x1 H N 0 0 (N + 1) (by omega) (by omega) (fun v => ⟨fun h => absurd h hb_0, fun h => absurd h.1 (by omega)⟩))
theorem xl_size (post : Int32 → Prop) (x : Int32) (H : post (nI (pcn x))) : ∀ k y j fuel, pcn y = k → k + j = pcn x → k < fuel → wX_size_7 post f_draftId f_editId f_firstStay f_n f_m f_allVariables f_nextStamp f_live f_liveCount f_marked f_draftOpen f_enforced f_execCount f_walkKnown f_peelCount f_planCount a_values a_before a_kinds a_strengths a_constants a_termCounts a_termVars a_termSigns a_termModes a_variableMasks a_outputMasks a_stamps a_users a_makers a_ranked a_atStrength a_execIds a_outputs a_feeders a_determiner a_upstream a_walk a_agenda a_peelIds a_peelVars a_plan fuel (nI j) y (nI j) := by
  have hx := pcn_le x
  intro k
  induction k with
  | zero =>
    intro y j fuel hk hj hf
    cases fuel with
    | zero => omega
    | succ fuel =>
      have e : j = pcn x := by omega
      subst e
      exact br_c (fun _ => H) (fun _ => br_t (pcn_n0 hk) H)
  | succ k ih =>
    intro y j fuel hk hj hf
    cases fuel with
    | zero => omega
    | succ fuel =>
      have hy : ¬ y = 0 := fun e => by rw [e, pcn_0] at hk; omega
      have hl := pcn_low hy
      exact pk_le 32 j (fun h => absurd h (by omega)) (fun _ => br_f hy (nm_e (nm_r (nI_1 j) (nm_r (nI_1 j) (ih _ (j + 1) fuel (by omega) (by omega) (by omega)))))) rfl rfl (by omega) (by omega)
theorem xs_size (post : Int32 → Prop) (x : Int32) (H : post (nI (pcn x))) : wpX_size post (f_draftId, f_editId, f_firstStay, f_n, f_m, f_allVariables, f_nextStamp, f_live, f_liveCount, f_marked, f_draftOpen, f_enforced, f_execCount, f_walkKnown, f_peelCount, f_planCount, a_values, a_before, a_kinds, a_strengths, a_constants, a_termCounts, a_termVars, a_termSigns, a_termModes, a_variableMasks, a_outputMasks, a_stamps, a_users, a_makers, a_ranked, a_atStrength, a_execIds, a_outputs, a_feeders, a_determiner, a_upstream, a_walk, a_agenda, a_peelIds, a_peelVars, a_plan) x :=
  Exists.intro (pcn x + 1) (xl_size post x H (pcn x) x 0 (pcn x + 1) rfl rfl (by omega))
theorem ix_16 : ∀ c, c < 32 → (((1 : Int32) <<< (nI c &&& 31)) &&& (-65536) = 0 ↔ c / 16 % 2 = 0) := by decide +kernel
theorem ix_8 : ∀ c, c < 32 → (((1 : Int32) <<< (nI c &&& 31)) &&& (-16711936) = 0 ↔ c / 8 % 2 = 0) := by decide +kernel
theorem ix_4 : ∀ c, c < 32 → (((1 : Int32) <<< (nI c &&& 31)) &&& (-252645136) = 0 ↔ c / 4 % 2 = 0) := by decide +kernel
theorem ix_2 : ∀ c, c < 32 → (((1 : Int32) <<< (nI c &&& 31)) &&& (-858993460) = 0 ↔ c / 2 % 2 = 0) := by decide +kernel
theorem ix_1 : ∀ c, c < 32 → (((1 : Int32) <<< (nI c &&& 31)) &&& (-1431655766) = 0 ↔ c % 2 = 0) := by decide +kernel
theorem nI_a (a b : Nat) (y : Int32) (h : y = nI b) : nI a + y = nI (a + b) := by rw [h, nI_add]
theorem xi_1 (post : Int32 → Prop) {c a : Nat} (hc : c < 32) (h : a + c % 2 = c) (H : post (nI c)) : wX_indexOf_42 post ((1 : Int32) <<< (nI c &&& 31)) (nI a) f_draftId f_editId f_firstStay f_n f_m f_allVariables f_nextStamp f_live f_liveCount f_marked f_draftOpen f_enforced f_execCount f_walkKnown f_peelCount f_planCount a_values a_before a_kinds a_strengths a_constants a_termCounts a_termVars a_termSigns a_termModes a_variableMasks a_outputMasks a_stamps a_users a_makers a_ranked a_atStrength a_execIds a_outputs a_feeders a_determiner a_upstream a_walk a_agenda a_peelIds a_peelVars a_plan := by
  refine br_c (fun z => ?_) (fun z => nm_r (nI_1 a) ?_)
  · rw [ix_1 c hc] at z
    rw [show a = c by omega]; exact H
  · rw [ix_1 c hc] at z
    rw [show a + 1 = c by omega]; exact H
theorem xi_2 (post : Int32 → Prop) {c a : Nat} (hc : c < 32) (h : a + c % 4 = c) (H : post (nI c)) : wX_indexOf_32 post ((1 : Int32) <<< (nI c &&& 31)) (nI a) f_draftId f_editId f_firstStay f_n f_m f_allVariables f_nextStamp f_live f_liveCount f_marked f_draftOpen f_enforced f_execCount f_walkKnown f_peelCount f_planCount a_values a_before a_kinds a_strengths a_constants a_termCounts a_termVars a_termSigns a_termModes a_variableMasks a_outputMasks a_stamps a_users a_makers a_ranked a_atStrength a_execIds a_outputs a_feeders a_determiner a_upstream a_walk a_agenda a_peelIds a_peelVars a_plan := by
  refine br_c (fun z => ?_) (fun z => nm_r (nI_a a 2 2 rfl) ?_)
  · rw [ix_2 c hc] at z
    exact xi_1 post hc (by omega) H
  · rw [ix_2 c hc] at z
    exact xi_1 post hc (by omega) H
theorem xi_4 (post : Int32 → Prop) {c a : Nat} (hc : c < 32) (h : a + c % 8 = c) (H : post (nI c)) : wX_indexOf_22 post ((1 : Int32) <<< (nI c &&& 31)) (nI a) f_draftId f_editId f_firstStay f_n f_m f_allVariables f_nextStamp f_live f_liveCount f_marked f_draftOpen f_enforced f_execCount f_walkKnown f_peelCount f_planCount a_values a_before a_kinds a_strengths a_constants a_termCounts a_termVars a_termSigns a_termModes a_variableMasks a_outputMasks a_stamps a_users a_makers a_ranked a_atStrength a_execIds a_outputs a_feeders a_determiner a_upstream a_walk a_agenda a_peelIds a_peelVars a_plan := by
  refine br_c (fun z => ?_) (fun z => nm_r (nI_a a 4 4 rfl) ?_)
  · rw [ix_4 c hc] at z
    exact xi_2 post hc (by omega) H
  · rw [ix_4 c hc] at z
    exact xi_2 post hc (by omega) H
theorem xi_8 (post : Int32 → Prop) {c a : Nat} (hc : c < 32) (h : a + c % 16 = c) (H : post (nI c)) : wX_indexOf_12 post ((1 : Int32) <<< (nI c &&& 31)) (nI a) f_draftId f_editId f_firstStay f_n f_m f_allVariables f_nextStamp f_live f_liveCount f_marked f_draftOpen f_enforced f_execCount f_walkKnown f_peelCount f_planCount a_values a_before a_kinds a_strengths a_constants a_termCounts a_termVars a_termSigns a_termModes a_variableMasks a_outputMasks a_stamps a_users a_makers a_ranked a_atStrength a_execIds a_outputs a_feeders a_determiner a_upstream a_walk a_agenda a_peelIds a_peelVars a_plan := by
  refine br_c (fun z => ?_) (fun z => nm_r (nI_a a 8 8 rfl) ?_)
  · rw [ix_8 c hc] at z
    exact xi_4 post hc (by omega) H
  · rw [ix_8 c hc] at z
    exact xi_4 post hc (by omega) H
theorem xs_index (post : Int32 → Prop) {x : Int32} {c : Nat} (hc : c < 32) (hx : ∀ i, Hb x i ↔ i = c) (H : post (nI c)) : wpX_indexOf post (f_draftId, f_editId, f_firstStay, f_n, f_m, f_allVariables, f_nextStamp, f_live, f_liveCount, f_marked, f_draftOpen, f_enforced, f_execCount, f_walkKnown, f_peelCount, f_planCount, a_values, a_before, a_kinds, a_strengths, a_constants, a_termCounts, a_termVars, a_termSigns, a_termModes, a_variableMasks, a_outputMasks, a_stamps, a_users, a_makers, a_ranked, a_atStrength, a_execIds, a_outputs, a_feeders, a_determiner, a_upstream, a_walk, a_agenda, a_peelIds, a_peelVars, a_plan) x := by
  have e : x = (1 : Int32) <<< (nI c &&& 31) := hb_ext fun i => by rw [hx i, hb_one hc]
  subst e
  refine br_c (fun z => ?_) (fun z => nm_r (e' := nI 16) (by decide) ?_)
  · rw [ix_16 c hc] at z
    exact xi_8 (a := 0) post hc (by omega) H
  · rw [ix_16 c hc] at z
    exact xi_8 (a := 16) post hc (by omega) H
theorem xl_upTo (post : Int32 → Prop) {s : Nat} (hs : s < 8) (H : ∀ r, (∀ c, Hb r c ↔ Hb f_enforced c ∧ ∃ j, j ≤ s ∧ Hb (a_atStrength j) c) → post r) :
    ∀ d i acc fuel, i + d = s + 1 → d < fuel → (∀ c, Hb acc c ↔ ∃ j, j < i ∧ Hb (a_atStrength j) c) → wX_enforcedUpTo_4 post (nI s) f_draftId f_editId f_firstStay f_n f_m f_allVariables f_nextStamp f_live f_liveCount f_marked f_draftOpen f_enforced f_execCount f_walkKnown f_peelCount f_planCount a_values a_before a_kinds a_strengths a_constants a_termCounts a_termVars a_termSigns a_termModes a_variableMasks a_outputMasks a_stamps a_users a_makers a_ranked a_atStrength a_execIds a_outputs a_feeders a_determiner a_upstream a_walk a_agenda a_peelIds a_peelVars a_plan fuel acc (nI i) := by
  intro d
  induction d with
  | zero =>
    intro i acc fuel hi hf ha
    cases fuel with
    | zero => omega
    | succ fuel =>
      refine pk_lt s i (fun _ => H _ fun c => ?_) (fun h => absurd h (by omega)) rfl rfl (by omega) (by omega)
      rw [hb_and, ha c]
      constructor
      · rintro ⟨⟨j, hj, h⟩, he⟩
        exact ⟨he, j, by omega, h⟩
      · rintro ⟨he, j, hj, h⟩
        exact ⟨⟨j, by omega, h⟩, he⟩
  | succ d ih =>
    intro i acc fuel hi hf ha
    cases fuel with
    | zero => omega
    | succ fuel =>
      have ec : (nI i).toNatClampNeg = i := nI_clamp (by omega)
      refine pk_lt s i (fun h => absurd h (by omega)) (fun _ => And.intro (vp_in_nI (by omega) (by omega)) (nm_e (nm_r (nI_1 i) (ih (i + 1) _ fuel (by omega) (by omega) fun c => ?_)))) rfl rfl (by omega) (by omega)
      rw [hb_or, ha c, ec]
      constructor
      · rintro (⟨j, hj, h⟩ | h)
        · exact ⟨j, by omega, h⟩
        · exact ⟨i, by omega, h⟩
      · rintro ⟨j, hj, h⟩
        rcases Nat.lt_or_ge j i with q | q
        · exact Or.inl ⟨j, q, h⟩
        · have : j = i := by omega
          subst this
          exact Or.inr h
theorem xs_upTo (post : Int32 → Prop) {s : Nat} (hs : s < 8) (H : ∀ r, (∀ c, Hb r c ↔ Hb f_enforced c ∧ ∃ j, j ≤ s ∧ Hb (a_atStrength j) c) → post r) : wpX_enforcedUpTo post (f_draftId, f_editId, f_firstStay, f_n, f_m, f_allVariables, f_nextStamp, f_live, f_liveCount, f_marked, f_draftOpen, f_enforced, f_execCount, f_walkKnown, f_peelCount, f_planCount, a_values, a_before, a_kinds, a_strengths, a_constants, a_termCounts, a_termVars, a_termSigns, a_termModes, a_variableMasks, a_outputMasks, a_stamps, a_users, a_makers, a_ranked, a_atStrength, a_execIds, a_outputs, a_feeders, a_determiner, a_upstream, a_walk, a_agenda, a_peelIds, a_peelVars, a_plan) (nI s) :=
  Exists.intro (s + 2) (xl_upTo post hs H (s + 1) 0 0 (s + 2) (by omega) (by omega) (fun v => ⟨fun h => absurd h hb_0, fun ⟨j, h, _⟩ => absurd h (by omega)⟩))
theorem xl_before (post : Int32 → Prop) {k : Nat} {rk : Nat → Nat} (hk : k ≤ 20) (hr : ∀ i, i < k → rk i < 32 ∧ a_ranked i = nI (rk i)) (H : ∀ r, (∀ c, Hb r c ↔ Hb f_enforced c ∧ ∃ j, j < k ∧ c = rk j) → post r) :
    ∀ d i acc fuel, i + d = k → d < fuel → (∀ c, Hb acc c ↔ ∃ j, j < i ∧ c = rk j) → wX_enforcedBefore_4 post (nI k) f_draftId f_editId f_firstStay f_n f_m f_allVariables f_nextStamp f_live f_liveCount f_marked f_draftOpen f_enforced f_execCount f_walkKnown f_peelCount f_planCount a_values a_before a_kinds a_strengths a_constants a_termCounts a_termVars a_termSigns a_termModes a_variableMasks a_outputMasks a_stamps a_users a_makers a_ranked a_atStrength a_execIds a_outputs a_feeders a_determiner a_upstream a_walk a_agenda a_peelIds a_peelVars a_plan fuel acc (nI i) := by
  intro d
  induction d with
  | zero =>
    intro i acc fuel hi hf ha
    cases fuel with
    | zero => omega
    | succ fuel =>
      refine pk_le k i (fun _ => H _ fun c => ?_) (fun h => absurd h (by omega)) rfl rfl (by omega) (by omega)
      rw [hb_and, ha c]
      have e : i = k := by omega
      subst e
      exact And.comm
  | succ d ih =>
    intro i acc fuel hi hf ha
    cases fuel with
    | zero => omega
    | succ fuel =>
      have ec : (nI i).toNatClampNeg = i := nI_clamp (by omega)
      refine pk_le k i (fun h => absurd h (by omega)) (fun _ => And.intro (vp_in_nI (by omega) (by omega)) (nm_e (nm_r (nI_1 i) (ih (i + 1) _ fuel (by omega) (by omega) fun c => ?_)))) rfl rfl (by omega) (by omega)
      rw [hb_or, ha c, ec, (hr i (by omega)).2, hb_one (hr i (by omega)).1]
      constructor
      · rintro (⟨j, hj, h⟩ | h)
        · exact ⟨j, by omega, h⟩
        · exact ⟨i, by omega, h⟩
      · rintro ⟨j, hj, h⟩
        rcases Nat.lt_or_ge j i with q | q
        · exact Or.inl ⟨j, q, h⟩
        · have : j = i := by omega
          subst this
          exact Or.inr h
theorem xs_before (post : Int32 → Prop) {k : Nat} {rk : Nat → Nat} (hk : k ≤ 20) (hr : ∀ i, i < k → rk i < 32 ∧ a_ranked i = nI (rk i)) (H : ∀ r, (∀ c, Hb r c ↔ Hb f_enforced c ∧ ∃ j, j < k ∧ c = rk j) → post r) : wpX_enforcedBefore post (f_draftId, f_editId, f_firstStay, f_n, f_m, f_allVariables, f_nextStamp, f_live, f_liveCount, f_marked, f_draftOpen, f_enforced, f_execCount, f_walkKnown, f_peelCount, f_planCount, a_values, a_before, a_kinds, a_strengths, a_constants, a_termCounts, a_termVars, a_termSigns, a_termModes, a_variableMasks, a_outputMasks, a_stamps, a_users, a_makers, a_ranked, a_atStrength, a_execIds, a_outputs, a_feeders, a_determiner, a_upstream, a_walk, a_agenda, a_peelIds, a_peelVars, a_plan) (nI k) :=
  Exists.intro (k + 1) (xl_before post hk hr H k 0 0 (k + 1) (by omega) (by omega) (fun v => ⟨fun h => absurd h hb_0, fun ⟨j, h, _⟩ => absurd h (by omega)⟩))
end
end
section
/-! peeling -/
abbrev tn (x : Int32) : Nat := x.toNatClampNeg
theorem tn_nI {n : Nat} (h : n < 2 ^ 31) : tn (nI n) = n := nI_clamp h
/-- the agenda: its first k places hold the members of P, each once -/
def AG (N : Nat) (ag : Nat → Int32) (k : Nat) (P : Nat → Prop) : Prop :=
  (∀ v, P v → v < N ∧ ∃ i, i < k ∧ ag i = nI v) ∧ (∀ i, i < k → ∃ v, P v ∧ ag i = nI v) ∧ (∀ i j, i < j → j < k → ag i ≠ ag j)
theorem ag_congr {N k : Nat} {ag : Nat → Int32} {P Q : Nat → Prop} (h : AG N ag k P) (e : ∀ v, P v ↔ Q v) : AG N ag k Q :=
  ⟨fun v hv => h.1 v ((e v).mpr hv), fun i hi => by obtain ⟨v, a, b⟩ := h.2.1 i hi; exact ⟨v, (e v).mp a, b⟩, h.2.2⟩
theorem ag_le {N k : Nat} {ag : Nat → Int32} {P : Nat → Prop} (hN : N ≤ 10) (h : AG N ag k P) : k ≤ N := by
  refine pg_in (f := fun i => tn (ag i)) (fun i hi => ?_) (fun i j hij hj e => ?_)
  · obtain ⟨v, hv, e⟩ := h.2.1 i hi
    have := (h.1 v hv).1
    show tn (ag i) < N
    rw [e, tn_nI (by omega)]; exact this
  · obtain ⟨v, hv, ev⟩ := h.2.1 i (by omega)
    obtain ⟨w, hw, ew⟩ := h.2.1 j hj
    have h1 := (h.1 v hv).1
    have h2 := (h.1 w hw).1
    have e' : tn (ag i) = tn (ag j) := e
    rw [ev, ew, tn_nI (by omega), tn_nI (by omega)] at e'
    exact h.2.2 i j hij hj (by rw [ev, ew, e'])
theorem ag_0 {N : Nat} {ag : Nat → Int32} {P : Nat → Prop} (h : ∀ v, ¬ P v) : AG N ag 0 P :=
  ⟨fun v hv => absurd hv (h v), fun i hi => by omega, fun i j _ hj => by omega⟩
theorem ag_push {N k v : Nat} {ag : Nat → Int32} {P : Nat → Prop} (hN : N ≤ 10) (h : AG N ag k P) (hv : v < N) (hp : ¬ P v) : AG N (upd ag k (nI v)) (k + 1) (fun w => P w ∨ w = v) := by
  refine ⟨fun w hw => ?_, fun i hi => ?_, fun i j hij hj => ?_⟩
  · rcases hw with hw | hw
    · obtain ⟨a, i, hi, e⟩ := h.1 w hw
      exact ⟨a, i, by omega, by rw [pk_un (by omega)]; exact e⟩
    · subst hw
      exact ⟨hv, k, by omega, pk_us⟩
  · rcases Nat.lt_or_ge i k with z | z
    · obtain ⟨w, a, b⟩ := h.2.1 i z
      exact ⟨w, Or.inl a, by rw [pk_un (by omega)]; exact b⟩
    · have : i = k := by omega
      subst this
      exact ⟨v, Or.inr rfl, pk_us⟩
  · rcases Nat.lt_or_ge j k with z | z
    · rw [pk_un (by omega), pk_un (by omega)]; exact h.2.2 i j hij z
    · have : j = k := by omega
      subst this
      rw [pk_us, pk_un (by omega)]
      obtain ⟨w, a, b⟩ := h.2.1 i hij
      have hw := (h.1 w a).1
      intro e
      rw [b, nI_eq (by omega) (by omega)] at e
      subst e
      exact hp a
theorem ag_pop {N k : Nat} {ag : Nat → Int32} {P : Nat → Prop} (hN : N ≤ 10) (h : AG N ag (k + 1) P) : ∃ v, v < N ∧ P v ∧ ag k = nI v ∧ AG N ag k (fun w => P w ∧ w ≠ v) := by
  obtain ⟨v, hp, e⟩ := h.2.1 k (by omega)
  have hv := (h.1 v hp).1
  refine ⟨v, hv, hp, e, fun w hw => ?_, fun i hi => ?_, fun i j hij hj => h.2.2 i j hij (by omega)⟩
  · obtain ⟨a, i, hi, b⟩ := h.1 w hw.1
    refine ⟨a, i, ?_, b⟩
    rcases Nat.lt_or_ge i k with z | z
    · exact z
    · have : i = k := by omega
      subst this
      rw [e, nI_eq (by omega) (by omega)] at b
      exact absurd b.symm hw.2
  · obtain ⟨w, a, b⟩ := h.2.1 i (by omega)
    have hw := (h.1 w a).1
    refine ⟨w, ⟨a, fun q => ?_⟩, b⟩
    subst q
    exact h.2.2 i k hi (by omega) (b.trans e.symm)
/-- what the peeling knows -/
def PeI (N : Nat) (us mk : Nat → Nat → Prop) (set rest : Int32) (p : Nat) (pi pv : Nat → Int32) : Prop :=
  (∀ i, i < p → Hb set (tn (pi i)) ∧ ¬ Hb rest (tn (pi i)) ∧ mk (tn (pi i)) (tn (pv i)) ∧ pi i = nI (tn (pi i)) ∧ pv i = nI (tn (pv i))) ∧
  (∀ c, Hb set c → Hb rest c ∨ ∃ i, i < p ∧ tn (pi i) = c) ∧ (∀ c, Hb rest c → Hb set c) ∧
  (∀ i, i < p → ∀ d, Hb rest d → ¬ us d (tn (pv i))) ∧
  (∀ i j, i < p → j < p → us (tn (pi j)) (tn (pv i)) → j ≠ i → j < i) ∧
  (∀ c, Cor us mk (Hb set) c → Hb rest c)
section
variable {N : Nat} {us mk : Nat → Nat → Prop}
theorem pe_0 {set : Int32} {pi pv : Nat → Int32} : PeI N us mk set set 0 pi pv :=
  ⟨fun i hi => by omega, fun c hc => Or.inl hc, fun c hc => hc, fun i hi => by omega, fun i j hi => by omega, fun c hc => co_sub hc⟩
theorem pe_le (hmu : ∀ c v, mk c v → us c v) (huN : ∀ c v, us c v → v < N) {set rest : Int32} {p : Nat} {pi pv : Nat → Int32} (h : PeI N us mk set rest p pi pv) : p ≤ N := by
  refine pg_in (f := fun i => tn (pv i)) (fun i hi => huN _ _ (hmu _ _ (h.1 i hi).2.2.1)) (fun i j hij hj e => ?_)
  have e' : tn (pv i) = tn (pv j) := e
  have := h.2.2.2.2.1 i j (by omega) hj (by rw [e']; exact hmu _ _ (h.1 j hj).2.2.1) (by omega)
  omega
theorem pe_step {set rest rest' : Int32} {p c v : Nat} {pi pv : Nat → Int32} (h : PeI N us mk set rest p pi pv) (hc : Hb rest c) (hm : mk c v) (hv : v < 2 ^ 31) (hu : ∀ d, Hb rest d → us d v → d = c) (hr : ∀ d, Hb rest' d ↔ Hb rest d ∧ d ≠ c) :
    PeI N us mk set rest' (p + 1) (upd pi p (nI c)) (upd pv p (nI v)) := by
  have c32 := hb_lt hc
  have ec : tn (nI c) = c := tn_nI (by omega)
  have ev : tn (nI v) = v := tn_nI hv
  have lt_or : ∀ i, i < p + 1 → i < p ∨ i = p := fun i hi => by omega
  refine ⟨fun i hi => ?_, fun d hd => ?_, fun d hd => h.2.2.1 d ((hr d).mp hd).1, fun i hi d hd => ?_, fun i j hi hj hud hne => ?_, fun d hd => ?_⟩
  · rcases lt_or i hi with z | z
    · rw [pk_un (by omega), pk_un (by omega)]
      obtain ⟨a, b, q⟩ := h.1 i z
      exact ⟨a, fun y => b ((hr _).mp y).1, q⟩
    · subst z
      rw [pk_us, pk_us, ec, ev]
      exact ⟨h.2.2.1 c hc, fun y => ((hr _).mp y).2 rfl, hm, rfl, rfl⟩
  · rcases h.2.1 d hd with z | ⟨i, hi, e⟩
    · rcases Classical.em (d = c) with q | q
      · exact Or.inr ⟨p, by omega, by rw [pk_us, ec, q]⟩
      · exact Or.inl ((hr d).mpr ⟨z, q⟩)
    · exact Or.inr ⟨i, by omega, by rw [pk_un (by omega)]; exact e⟩
  · have hd' := (hr d).mp hd
    rcases lt_or i hi with z | z
    · rw [pk_un (by omega)]
      exact h.2.2.2.1 i z d hd'.1
    · subst z
      rw [pk_us, ev]
      exact fun y => hd'.2 (hu d hd'.1 y)
  · rcases lt_or i hi with z | z
    · rcases lt_or j hj with y | y
      · rw [pk_un (by omega), pk_un (by omega)] at hud
        exact h.2.2.2.2.1 i j z y hud hne
      · subst y
        rw [pk_us, pk_un (by omega), ec] at hud
        exact absurd hud (h.2.2.2.1 i z c hc)
    · rcases lt_or j hj with y | y
      · omega
      · omega
  · have := co_step (fun d hd => h.2.2.2.2.2 d hd) hm hu d hd
    exact (hr d).mpr this
theorem pe_slv {set rest : Int32} {p : Nat} {pi pv : Nat → Int32} (h : PeI N us mk set rest p pi pv) (hs : Stk us mk (Hb rest)) : rest = 0 ↔ Slv us mk (Hb set) := by
  constructor
  · intro e
    rw [sv_cor]
    intro c hc
    have := h.2.2.2.2.2 c hc
    rw [e] at this
    exact hb_0 this
  · intro H
    rw [hb_z]
    exact H (Hb rest) h.2.2.1 hs
theorem pe_cor {set rest : Int32} {p : Nat} {pi pv : Nat → Int32} (h : PeI N us mk set rest p pi pv) (hs : Stk us mk (Hb rest)) (c : Nat) : Hb rest c ↔ Cor us mk (Hb set) c :=
  ⟨fun hc => co_of h.2.2.1 hs hc, h.2.2.2.2.2 c⟩
end
/-- what the peeling needs of the records -/
def RP (N : Nat) (u k vm : Nat → Int32) : Prop :=
  (∀ c v, UX N k c v → UX N u c v) ∧ ∀ c, c < 32 → (∀ v, Hb (vm c) v ↔ UX N u c v) ∧ cn (Hb (vm c)) N ≤ 4
section
variable {f_draftId f_editId f_firstStay f_n f_m f_allVariables f_live f_liveCount f_marked f_draftOpen f_enforced f_execCount f_walkKnown f_peelCount f_planCount : Int32} {f_nextStamp : Int64} {a_values a_before a_kinds a_strengths a_constants a_termCounts a_termVars a_termSigns a_termModes a_variableMasks a_outputMasks a_users a_makers a_ranked a_atStrength a_execIds a_outputs a_feeders a_determiner a_upstream a_walk a_agenda a_peelIds a_peelVars a_plan : Nat → Int32} {a_stamps : Nat → Int64}
variable {N : Nat}
theorem xp_213 (hn : f_n = nI N) (hN : N ≤ 10) (post : Int32 → SX → Prop) (J : Int32 → Int32 → Int32 → Int32 → Int32 → (Nat → Int32) → (Nat → Int32) → (Nat → Int32) → (Nat → Int32) → (Nat → Int32) → (Nat → Int32) → (Nat → Int32) → (Nat → Int32) → (Nat → Int32) → (Nat → Int32) → (Nat → Int32) → (Nat → Int64) → (Nat → Int32) → (Nat → Int32) → (Nat → Int32) → (Nat → Int32) → (Nat → Int32) → (Nat → Int32) → (Nat → Int32) → (Nat → Int32) → (Nat → Int32) → (Nat → Int32) → (Nat → Int32) → (Nat → Int32) → (Nat → Int32) → (Nat → Int32) → Prop)
    {x3 x4 x6 fr : Int32} {P : Nat → Prop} {k0 : Nat} (hd : ∀ w, Hb fr w → ¬ P w)
    (hJ : ∀ ag k, AG N ag k (fun v => P v ∨ (Hb fr v ∧ v < N)) → k ≤ k0 + cn (Hb fr) N → J x3 (x4 ||| fr) (nI k) (x6 + 1) f_peelCount a_values a_before a_kinds a_strengths a_constants a_termCounts a_termVars a_termSigns a_termModes a_variableMasks a_outputMasks a_stamps a_users a_makers a_ranked a_atStrength a_execIds a_outputs a_feeders a_determiner a_upstream a_walk ag a_peelIds a_peelVars a_plan) :
    ∀ d i k ag fuel, i + d = N → d < fuel → AG N ag k (fun v => P v ∨ (Hb fr v ∧ v < i)) → k ≤ k0 + cn (Hb fr) i → wX_peel_213 post J x3 x4 x6 fr f_draftId f_editId f_firstStay f_n f_m f_allVariables f_nextStamp f_live f_liveCount f_marked f_draftOpen f_enforced f_execCount f_walkKnown f_peelCount f_planCount fuel (nI k) (nI i) a_values a_before a_kinds a_strengths a_constants a_termCounts a_termVars a_termSigns a_termModes a_variableMasks a_outputMasks a_stamps a_users a_makers a_ranked a_atStrength a_execIds a_outputs a_feeders a_determiner a_upstream a_walk ag a_peelIds a_peelVars a_plan := by
  intro d
  induction d with
  | zero =>
    intro i k ag fuel hi hf ha hk
    have e : i = N := by omega
    subst e
    cases fuel with
    | zero => omega
    | succ fuel => exact br_t (by rw [hn]; exact Int32.le_refl _) (nm_e (nm_e (hJ ag k ha hk)))
  | succ d ih =>
    intro i k ag fuel hi hf ha hk
    cases fuel with
    | zero => omega
    | succ fuel =>
      refine pk_le N i (fun h => absurd h (by omega)) (fun _ => br_c (fun z => nm_r (nI_1 i) ?_) (fun z => ?_)) hn rfl (by omega) (by omega)
      · rw [hb_t (by omega)] at z
        refine ih (i + 1) k ag fuel (by omega) (by omega) (ag_congr ha fun v => ?_) ?_
        · constructor
          · rintro (q | q)
            · exact Or.inl q
            · exact Or.inr ⟨q.1, by omega⟩
          · rintro (q | q)
            · exact Or.inl q
            · refine Or.inr ⟨q.1, ?_⟩
              rcases Nat.lt_or_ge v i with y | y
              · exact y
              · have : v = i := by omega
                subst this
                exact absurd q.1 z
        · rw [cn_s]; omega
      · rw [hb_t (by omega), Classical.not_not] at z
        have hp : AG N (upd ag k (nI i)) (k + 1) (fun v => P v ∨ (Hb fr v ∧ v < i + 1)) :=
          ag_congr (ag_push hN ha (by omega) (fun y => y.elim (hd i z) fun q => by omega)) fun v => by
            constructor
            · rintro ((q | q) | q)
              · exact Or.inl q
              · exact Or.inr ⟨q.1, by omega⟩
              · subst q; exact Or.inr ⟨z, by omega⟩
            · rintro (q | q)
              · exact Or.inl (Or.inl q)
              · rcases Nat.lt_or_ge v i with y | y
                · exact Or.inl (Or.inr ⟨q.1, y⟩)
                · exact Or.inr (by omega)
        have hk1 := ag_le hN hp
        refine And.intro (vp_in_nI (by omega) (by omega)) (nm_r (e' := upd ag k (nI i)) (by rw [nI_clamp (by omega)]) (nm_r (nI_1 k) (nm_r (nI_1 i) (ih (i + 1) (k + 1) _ fuel (by omega) (by omega) hp ?_))))
        rw [cn_s, b01_t z]; omega
theorem xp_56 (hn : f_n = nI N) (hN : N ≤ 10) (R : RP N a_users a_makers a_variableMasks) (post : Int32 → SX → Prop) {set : Int32}
    (H : ∀ rest p ag pi pv, PeI N (UX N a_users) (UX N a_makers) set rest p pi pv → Stk (UX N a_users) (UX N a_makers) (Hb rest) → p ≤ N → post rest (f_draftId, f_editId, f_firstStay, f_n, f_m, f_allVariables, f_nextStamp, f_live, f_liveCount, f_marked, f_draftOpen, f_enforced, f_execCount, f_walkKnown, nI p, f_planCount, a_values, a_before, a_kinds, a_strengths, a_constants, a_termCounts, a_termVars, a_termSigns, a_termModes, a_variableMasks, a_outputMasks, a_stamps, a_users, a_makers, a_ranked, a_atStrength, a_execIds, a_outputs, a_feeders, a_determiner, a_upstream, a_walk, ag, pi, pv, a_plan)) :
    ∀ m rest pend top step p ag pi pv fuel, top + 3 * (10 - p) ≤ m → m < fuel → step + m ≤ 40 → PeI N (UX N a_users) (UX N a_makers) set rest p pi pv → AG N ag top (Hb pend) →
      (∀ v, v < N → ¬ Hb pend v → ∀ c, Hb rest c → UX N a_makers c v → ∃ d, d ≠ c ∧ Hb rest d ∧ UX N a_users d v) →
      wX_peel_56 post f_draftId f_editId f_firstStay f_n f_m f_allVariables f_nextStamp f_live f_liveCount f_marked f_draftOpen f_enforced f_execCount f_walkKnown f_planCount fuel rest pend (nI top) (nI step) (nI p) a_values a_before a_kinds a_strengths a_constants a_termCounts a_termVars a_termSigns a_termModes a_variableMasks a_outputMasks a_stamps a_users a_makers a_ranked a_atStrength a_execIds a_outputs a_feeders a_determiner a_upstream a_walk ag pi pv a_plan := by
  have huN : ∀ c v, UX N a_users c v → v < N := fun c v h => h.1
  intro m
  induction m with
  | zero =>
    intro rest pend top step p ag pi pv fuel hm hf hs hP hA hc
    cases fuel with
    | zero => omega
    | succ fuel =>
      have e : top = 0 := by omega
      subst e
      refine pk_le 64 step (fun h => absurd h (by omega)) (fun _ => br_t (by decide) (H rest p ag pi pv hP (fun c v h1 h2 => ?_) (pe_le R.1 huN hP))) rfl rfl (by omega) (by omega)
      exact hc v h2.1 (fun y => by obtain ⟨_, i, hi, _⟩ := hA.1 v y; omega) c h1 h2
  | succ m ih =>
    intro rest pend top step p ag pi pv fuel hm hf hs hP hA hc
    cases fuel with
    | zero => omega
    | succ fuel =>
      refine pk_le 64 step (fun h => absurd h (by omega)) (fun _ => ?_) rfl rfl (by omega) (by omega)
      cases top with
      | zero =>
        refine br_t (by decide) (H rest p ag pi pv hP (fun c v h1 h2 => ?_) (pe_le R.1 huN hP))
        exact hc v h2.1 (fun y => by obtain ⟨_, i, hi, _⟩ := hA.1 v y; omega) c h1 h2
      | succ top =>
        have ht := ag_le hN hA
        obtain ⟨v, hv, hpv, ev, hA'⟩ := ag_pop hN hA
        have e1 : (nI top).toNatClampNeg = top := nI_clamp (by omega)
        have e2 : (nI v).toNatClampNeg = v := nI_clamp (by omega)
        have hA2 : AG N ag top (Hb (pend &&& (((1 : Int32) <<< (nI v &&& 31)) ^^^ (-1)))) := ag_congr hA' fun w => by rw [hb_andn, hb_one (by omega)]
        -- no peeling at v
        have no : (∀ c, Hb rest c → UX N a_makers c v → ∃ d, d ≠ c ∧ Hb rest d ∧ UX N a_users d v) → ∀ w, w < N → ¬ Hb (pend &&& (((1 : Int32) <<< (nI v &&& 31)) ^^^ (-1))) w → ∀ c, Hb rest c → UX N a_makers c w → ∃ d, d ≠ c ∧ Hb rest d ∧ UX N a_users d w := by
          intro h w hw hnw
          rcases Classical.em (w = v) with q | q
          · subst q; exact h
          · exact hc w hw fun y => hnw (hb_andn.mpr ⟨y, fun y' => q ((hb_one (by omega)).mp y')⟩)
        have ui : ∀ c, Hb (a_users v &&& rest) c ↔ Hb rest c ∧ UX N a_users c v := fun c => by rw [hb_and]; exact ⟨fun y => ⟨y.2, hv, y.1⟩, fun y => ⟨y.2.2, y.1⟩⟩
        refine br_f (nI_nle (by omega) (by omega)) (nm_r (pk_m1 top) (And.intro (vp_in_nI (by omega) (by omega)) (nm_r (e' := nI v) (by rw [e1]; exact ev) (nm_e (And.intro (vp_in_nI (by omega) (by omega)) (nm_r (e' := a_users v &&& rest) (by rw [e2]) (br_c (fun z => ?_) (fun z => br_c (fun z1 => ?_) (fun z1 => ?_)))))))))
        · refine br_t rfl (nm_r (nI_1 step) (ih rest _ top (step + 1) p ag pi pv fuel (by omega) (by omega) (by omega) hP hA2 (no fun c h1 h2 => ?_)))
          rw [hb_z] at z
          exact absurd ((ui c).mpr ⟨h1, R.1 c v h2⟩) (z c)
        · obtain ⟨c, hc32, hcs⟩ := hb_single z z1
          have hcc := (ui c).mp ((hcs c).mpr rfl)
          have hun : ∀ d, Hb rest d → UX N a_users d v → d = c := fun d h1 h2 => (hcs d).mp ((ui d).mpr ⟨h1, h2⟩)
          refine br_f (by decide) (And.intro (vp_in_nI (by omega) (by omega)) (br_c (fun z2 => ?_) (fun z2 => ?_)))
          · rw [e2, hb_an] at z2
            refine nm_r (nI_1 step) (ih rest _ top (step + 1) p ag pi pv fuel (by omega) (by omega) (by omega) hP hA2 (no fun c' h1 h2 => ?_))
            exact absurd h2.2 (z2 c' ((ui c').mpr ⟨h1, R.1 c' v h2⟩))
          · rw [e2, hb_nz] at z2
            obtain ⟨c', hc'⟩ := z2
            have hc2 := hb_and.mp hc'
            have e3 : c' = c := (hcs c').mp hc2.1
            subst e3
            have hmk : UX N a_makers c' v := ⟨hv, hc2.2⟩
            have hr : ∀ d, Hb (rest &&& ((a_users v &&& rest) ^^^ (-1))) d ↔ Hb rest d ∧ d ≠ c' := fun d => by
              rw [hb_andn, hcs d]
            have hP' := pe_step hP hcc.1 hmk (by omega) hun hr
            have hp1 := pe_le R.1 huN hP'
            have e4 : (nI p).toNatClampNeg = p := nI_clamp (by omega)
            have e5 : (nI c').toNatClampNeg = c' := nI_clamp (by omega)
            have Rc := R.2 c' hc32
            refine xs_index _ hc32 hcs (nm_e (And.intro (vp_in_nI (by omega) (by omega)) (nm_r (e' := upd pi p (nI c')) (by rw [e4]) (And.intro (vp_in_nI (by omega) (by omega)) (nm_r (e' := upd pv p (nI v)) (by rw [e4]) (nm_r (nI_1 p) (And.intro (vp_in_nI (by omega) (by omega)) (nm_r (e' := (a_variableMasks c' &&& ((pend &&& (((1 : Int32) <<< (nI v &&& 31)) ^^^ (-1))) ^^^ (-1))) &&& (((1 : Int32) <<< (nI v &&& 31)) ^^^ (-1))) (by rw [e5]) (Exists.intro (N + 1) ?_)))))))))
            have hfr : ∀ w, Hb ((a_variableMasks c' &&& ((pend &&& (((1 : Int32) <<< (nI v &&& 31)) ^^^ (-1))) ^^^ (-1))) &&& (((1 : Int32) <<< (nI v &&& 31)) ^^^ (-1))) w ↔ UX N a_users c' w ∧ w ≠ v ∧ ¬ Hb pend w := fun w => by
              rw [hb_andn, hb_andn, hb_andn, hb_one (by omega), Rc.1 w]
              constructor
              · rintro ⟨⟨h1, h2⟩, h3⟩
                exact ⟨h1, h3, fun y => h2 ⟨y, h3⟩⟩
              · rintro ⟨h1, h2, h3⟩
                exact ⟨⟨h1, fun y => h3 y.1⟩, h2⟩
            have hcn : cn (Hb ((a_variableMasks c' &&& ((pend &&& (((1 : Int32) <<< (nI v &&& 31)) ^^^ (-1))) ^^^ (-1))) &&& (((1 : Int32) <<< (nI v &&& 31)) ^^^ (-1)))) N ≤ 3 := by
              have h1 := cn_sub (P := Hb (a_variableMasks c')) ((Rc.1 v).mpr hcc.2) hv
              have h2 : cn (Hb ((a_variableMasks c' &&& ((pend &&& (((1 : Int32) <<< (nI v &&& 31)) ^^^ (-1))) ^^^ (-1))) &&& (((1 : Int32) <<< (nI v &&& 31)) ^^^ (-1)))) N ≤ cn (fun k => Hb (a_variableMasks c') k ∧ k ≠ v) N :=
                cn_mono fun w _ hw => ⟨(Rc.1 w).mpr ((hfr w).mp hw).1, ((hfr w).mp hw).2.1⟩
              have h3 := Rc.2
              omega
            refine xp_213 (P := Hb (pend &&& (((1 : Int32) <<< (nI v &&& 31)) ^^^ (-1)))) (k0 := top) hn hN post _ (fun w hw y => ((hfr w).mp hw).2.2 (hb_andn.mp y).1) (fun ag' k hA3 hk => ?_) N 0 top ag (N + 1) (by omega) (by omega) (ag_congr hA2 fun w => ⟨Or.inl, fun y => y.elim id fun q => absurd q.2 (by omega)⟩) (by omega)
            refine (nI_1 step) ▸ ih _ _ k (step + 1) (p + 1) ag' _ _ fuel (by omega) (by omega) (by omega) hP' (ag_congr hA3 fun w => ?_) (fun w hw hnw c h1 h2 => ?_)
            · rw [hb_or]
              exact ⟨fun y => y.imp id fun q => q.1, fun y => y.imp id fun q => ⟨q, ((hfr w).mp q).1.1⟩⟩
            · have hw1 : ¬ Hb (pend &&& (((1 : Int32) <<< (nI v &&& 31)) ^^^ (-1))) w := fun y => hnw (hb_or.mpr (Or.inl y))
              have hw2 := fun y => hnw (hb_or.mpr (Or.inr y))
              have hc1 := (hr c).mp h1
              rcases Classical.em (w = v) with q | q
              · subst q
                exact absurd (hun c hc1.1 (R.1 c _ h2)) hc1.2
              · have hnp : ¬ Hb pend w := fun y => hw1 (hb_andn.mpr ⟨y, fun y' => q ((hb_one (by omega)).mp y')⟩)
                obtain ⟨d, hd, hd1, hd2⟩ := hc w hw hnp c hc1.1 h2
                refine ⟨d, hd, (hr d).mpr ⟨hd1, fun e => ?_⟩, hd2⟩
                subst e
                exact hw2 ((hfr w).mpr ⟨hd2, q, hnp⟩)
        · refine br_t rfl (nm_r (nI_1 step) (ih rest _ top (step + 1) p ag pi pv fuel (by omega) (by omega) (by omega) hP hA2 (no fun c h1 h2 => ?_)))
          obtain ⟨d, hd, hd1⟩ := hb_multi z z1 c
          have := (ui d).mp hd1
          exact ⟨d, hd, this.1, this.2⟩
theorem xp_16 (hn : f_n = nI N) (hN : N ≤ 10) (R : RP N a_users a_makers a_variableMasks) (post : Int32 → SX → Prop) {set cand : Int32} (hcN : ∀ v, Hb cand v → v < N)
    (hc : ∀ v, v < N → ¬ Hb cand v → ∀ c, Hb set c → UX N a_makers c v → ∃ d, d ≠ c ∧ Hb set d ∧ UX N a_users d v)
    (H : ∀ rest p ag pi pv, PeI N (UX N a_users) (UX N a_makers) set rest p pi pv → Stk (UX N a_users) (UX N a_makers) (Hb rest) → p ≤ N → post rest (f_draftId, f_editId, f_firstStay, f_n, f_m, f_allVariables, f_nextStamp, f_live, f_liveCount, f_marked, f_draftOpen, f_enforced, f_execCount, f_walkKnown, nI p, f_planCount, a_values, a_before, a_kinds, a_strengths, a_constants, a_termCounts, a_termVars, a_termSigns, a_termModes, a_variableMasks, a_outputMasks, a_stamps, a_users, a_makers, a_ranked, a_atStrength, a_execIds, a_outputs, a_feeders, a_determiner, a_upstream, a_walk, ag, pi, pv, a_plan)) :
    ∀ d i k ag fuel, i + d = N → d < fuel → AG N ag k (fun v => Hb cand v ∧ v < i) → wX_peel_16 post set cand f_draftId f_editId f_firstStay f_n f_m f_allVariables f_nextStamp f_live f_liveCount f_marked f_draftOpen f_enforced f_execCount f_walkKnown 0 f_planCount fuel (nI k) (nI i) a_values a_before a_kinds a_strengths a_constants a_termCounts a_termVars a_termSigns a_termModes a_variableMasks a_outputMasks a_stamps a_users a_makers a_ranked a_atStrength a_execIds a_outputs a_feeders a_determiner a_upstream a_walk ag a_peelIds a_peelVars a_plan := by
  intro d
  induction d with
  | zero =>
    intro i k ag fuel hi hf ha
    have e : i = N := by omega
    subst e
    cases fuel with
    | zero => omega
    | succ fuel =>
      have hA : AG i ag k (Hb cand) := ag_congr ha fun v => ⟨fun y => y.1, fun y => ⟨y, hcN v y⟩⟩
      have hk := ag_le hN hA
      exact br_t (by rw [hn]; exact Int32.le_refl _) (Exists.intro 41 (xp_56 hn hN R post H 40 set cand k 0 0 ag a_peelIds a_peelVars 41 (by omega) (by omega) (by omega) pe_0 hA hc))
  | succ d ih =>
    intro i k ag fuel hi hf ha
    cases fuel with
    | zero => omega
    | succ fuel =>
      refine pk_le N i (fun h => absurd h (by omega)) (fun _ => br_c (fun z => nm_r (nI_1 i) ?_) (fun z => ?_)) hn rfl (by omega) (by omega)
      · rw [hb_t (by omega)] at z
        refine ih (i + 1) k ag fuel (by omega) (by omega) (ag_congr ha fun v => ?_)
        constructor
        · exact fun q => ⟨q.1, by omega⟩
        · rintro ⟨q, hlt⟩
          refine ⟨q, ?_⟩
          rcases Nat.lt_or_ge v i with y | y
          · exact y
          · have : v = i := by omega
            subst this
            exact absurd q z
      · rw [hb_t (by omega), Classical.not_not] at z
        have hp : AG N (upd ag k (nI i)) (k + 1) (fun v => Hb cand v ∧ v < i + 1) :=
          ag_congr (ag_push hN ha (by omega) (fun y => by have := y.2; omega)) fun v => by
            constructor
            · rintro (q | q)
              · exact ⟨q.1, by omega⟩
              · subst q; exact ⟨z, by omega⟩
            · rintro ⟨q, hlt⟩
              rcases Nat.lt_or_ge v i with y | y
              · exact Or.inl ⟨q, y⟩
              · exact Or.inr (by omega)
        have hk1 := ag_le hN hp
        exact And.intro (vp_in_nI (by omega) (by omega)) (nm_r (e' := upd ag k (nI i)) (by rw [nI_clamp (by omega)]) (nm_r (nI_1 k) (nm_r (nI_1 i) (ih (i + 1) (k + 1) _ fuel (by omega) (by omega) hp))))
theorem xs_peel (hn : f_n = nI N) (hN : N ≤ 10) (R : RP N a_users a_makers a_variableMasks) (post : Int32 → SX → Prop) {set cand : Int32} (hcN : ∀ v, Hb cand v → v < N)
    (hc : ∀ v, v < N → ¬ Hb cand v → ∀ c, Hb set c → UX N a_makers c v → ∃ d, d ≠ c ∧ Hb set d ∧ UX N a_users d v)
    (H : ∀ rest p ag pi pv, PeI N (UX N a_users) (UX N a_makers) set rest p pi pv → Stk (UX N a_users) (UX N a_makers) (Hb rest) → p ≤ N → post rest (f_draftId, f_editId, f_firstStay, f_n, f_m, f_allVariables, f_nextStamp, f_live, f_liveCount, f_marked, f_draftOpen, f_enforced, f_execCount, f_walkKnown, nI p, f_planCount, a_values, a_before, a_kinds, a_strengths, a_constants, a_termCounts, a_termVars, a_termSigns, a_termModes, a_variableMasks, a_outputMasks, a_stamps, a_users, a_makers, a_ranked, a_atStrength, a_execIds, a_outputs, a_feeders, a_determiner, a_upstream, a_walk, ag, pi, pv, a_plan)) : wpX_peel post (f_draftId, f_editId, f_firstStay, f_n, f_m, f_allVariables, f_nextStamp, f_live, f_liveCount, f_marked, f_draftOpen, f_enforced, f_execCount, f_walkKnown, f_peelCount, f_planCount, a_values, a_before, a_kinds, a_strengths, a_constants, a_termCounts, a_termVars, a_termSigns, a_termModes, a_variableMasks, a_outputMasks, a_stamps, a_users, a_makers, a_ranked, a_atStrength, a_execIds, a_outputs, a_feeders, a_determiner, a_upstream, a_walk, a_agenda, a_peelIds, a_peelVars, a_plan) set cand :=
  Exists.intro (N + 1) (xp_16 hn hN R post hcN hc H N 0 0 a_agenda (N + 1) (by omega) (by omega) (ag_0 fun v h => by omega))
end
end
section
/-! what a record demands -/
def dmA (kd : Int32) (tv ts val : Nat → Int32) (b t0 : Nat) : Nat → Int32 → Int32
  | 0, x => x
  | t + 1, x => if t = t0 then dmA kd tv ts val b t0 t x
    else if kd = 1 then dmA kd tv ts val b t0 t x - ts (b + t) * val (tn (tv (b + t)))
    else if kd = 2 then dmA kd tv ts val b t0 t x ^^^ val (tn (tv (b + t)))
    else if kd = 3 then dmA kd tv ts val b t0 t x * val (tn (tv (b + t)))
    else if kd = 4 then (if val (tn (tv (b + t))) ≤ dmA kd tv ts val b t0 t x then dmA kd tv ts val b t0 t x else val (tn (tv (b + t))))
    else dmA kd tv ts val b t0 t x
def dmV (kd K : Int32) (tv ts val : Nat → Int32) (b t0 q : Nat) : Int32 :=
  if kd = 1 then ts (b + t0) * dmA kd tv ts val b t0 q (if kd = 0 then val (tn (tv (b + t0))) else K)
  else dmA kd tv ts val b t0 q (if kd = 0 then val (tn (tv (b + t0))) else K)
def ixF (tv : Nat → Int32) (b : Nat) (x : Int32) : Nat → Nat
  | 0 => 0
  | t + 1 => if tv (b + t) = x then t else ixF tv b x t
/-- the value that record c demands of variable v -/
def dmD (kd K tc tv ts : Nat → Int32) (c v : Nat) (val : Nat → Int32) : Int32 :=
  dmV (kd c) (K c) tv ts val (4 * c) (ixF tv (4 * c) (nI v) (tn (tc c))) (tn (tc c))
theorem ix_eq {tv : Nat → Int32} {b : Nat} {x : Int32} : ∀ {q t : Nat}, t < q → tv (b + t) = x → (∀ t', t < t' → t' < q → tv (b + t') ≠ x) → ixF tv b x q = t
  | 0, t, h, _, _ => by omega
  | q + 1, t, h, e, d => by
    unfold ixF
    rcases Nat.lt_or_ge t q with z | z
    · rw [if_neg (d q z (by omega))]
      exact ix_eq z e fun t' h1 h2 => d t' h1 (by omega)
    · have : t = q := by omega
      subst this
      rw [if_pos e]
theorem ix_congr {tv tv' : Nat → Int32} {b : Nat} {x : Int32} : ∀ {q : Nat}, (∀ t, t < q → tv (b + t) = tv' (b + t)) → ixF tv b x q = ixF tv' b x q
  | 0, _ => rfl
  | q + 1, h => by
    unfold ixF
    rw [h q (by omega), ix_congr (q := q) fun t ht => h t (by omega)]
theorem dmA_congr {kd : Int32} {tv tv' ts ts' val val' : Nat → Int32} {b t0 : Nat} : ∀ {q : Nat} {x : Int32}, (∀ t, t < q → tv (b + t) = tv' (b + t) ∧ ts (b + t) = ts' (b + t) ∧ (t ≠ t0 → val (tn (tv (b + t))) = val' (tn (tv' (b + t))))) → dmA kd tv ts val b t0 q x = dmA kd tv' ts' val' b t0 q x
  | 0, _, _ => rfl
  | q + 1, x, h => by
    have ih := dmA_congr (kd := kd) (q := q) (x := x) fun t ht => h t (by omega)
    obtain ⟨h1, h2, h3⟩ := h q (by omega)
    unfold dmA
    rw [ih]
    by_cases z : q = t0
    · rw [if_pos z, if_pos z]
    · rw [if_neg z, if_neg z, h2, h3 z]
theorem dmV_congr {kd K : Int32} {tv tv' ts ts' val val' : Nat → Int32} {b t0 q : Nat} (ht0 : t0 < q) (h : ∀ t, t < q → tv (b + t) = tv' (b + t) ∧ ts (b + t) = ts' (b + t) ∧ val (tn (tv (b + t))) = val' (tn (tv' (b + t)))) : dmV kd K tv ts val b t0 q = dmV kd K tv' ts' val' b t0 q := by
  unfold dmV
  rw [(h t0 ht0).2.1, (h t0 ht0).2.2]
  rw [dmA_congr (fun t ht => ⟨(h t ht).1, (h t ht).2.1, fun _ => (h t ht).2.2⟩)]
theorem dmA_0 {kd : Int32} {tv ts val : Nat → Int32} {b t0 : Nat} (h1 : kd ≠ 1) (h2 : kd ≠ 2) (h3 : kd ≠ 3) (h4 : kd ≠ 4) (x : Int32) : ∀ q, dmA kd tv ts val b t0 q x = x
  | 0 => rfl
  | q + 1 => by
    unfold dmA
    rw [if_neg h1, if_neg h2, if_neg h3, if_neg h4, dmA_0 h1 h2 h3 h4 x q]
    exact ite_self _
theorem ix_x (c t : Nat) : nI c * 4 + nI t = nI (4 * c + t) := by
  show nI c * nI 4 + nI t = _
  rw [pk_mul, nI_add, Nat.mul_comm]
theorem ix_y (c t : Nat) : 4 * nI c + nI t = nI (4 * c + t) := by
  show nI 4 * nI c + nI t = _
  rw [pk_mul, nI_add]
theorem ix_x0 (c : Nat) : nI c * 4 = nI (4 * c) := by
  show nI c * nI 4 = _
  rw [pk_mul, Nat.mul_comm]
theorem ix_y0 (c : Nat) : 4 * nI c = nI (4 * c) := pk_mul 4 c
/-- record c and its output o, as the evaluation needs them -/
def EvOK (N : Nat) (kd tc tv : Nat → Int32) (c o : Nat) : Prop := c < 32 ∧ o < N ∧ (kd c = 0 ∨ kd c = 1 ∨ kd c = 2 ∨ kd c = 3 ∨ kd c = 4) ∧ ∃ q t0, q ≤ 4 ∧ tc c = nI q ∧ t0 < q ∧ tv (4 * c + t0) = nI o ∧
  (∀ t, t < q → ∃ v, v < N ∧ tv (4 * c + t) = nI v) ∧ (∀ t, t < q → t ≠ t0 → tv (4 * c + t) ≠ nI o) ∧ (kd c = 3 ∨ kd c = 4 → t0 = 0)
theorem dm_q {N : Nat} {kd K tc tv ts val : Nat → Int32} {c o q t0 : Nat} (hq : q ≤ 4) (eq : tc c = nI q) (ht : t0 < q) (e0 : tv (4 * c + t0) = nI o) (hd : ∀ t, t < q → t ≠ t0 → tv (4 * c + t) ≠ nI o) : dmD kd K tc tv ts c o val = dmV (kd c) (K c) tv ts val (4 * c) t0 q := by
  unfold dmD
  rw [eq, tn_nI (by omega), ix_eq ht e0 fun t' h1 h2 => hd t' h2 (by omega)]
theorem dm_congr {N : Nat} {kd K tc tv ts kd' K' tc' tv' ts' f g : Nat → Int32} {c o : Nat} (h : EvOK N kd tc tv c o) (h1 : kd c = kd' c) (h2 : K c = K' c) (h3 : tc c = tc' c) (h4 : ∀ t, t < tn (tc c) → tv (4 * c + t) = tv' (4 * c + t) ∧ ts (4 * c + t) = ts' (4 * c + t))
    (hf : ∀ w, (w < N ∧ ∃ t, t < tn (tc c) ∧ tv (4 * c + t) = nI w) → f w = g w) (hN : N ≤ 10) : dmD kd K tc tv ts c o f = dmD kd' K' tc' tv' ts' c o g := by
  obtain ⟨_, _, _, q, t0, hq, eq, ht, e0, hv, hd, _⟩ := h
  have eqt : tn (tc c) = q := by rw [eq]; exact tn_nI (by omega)
  rw [eqt] at h4 hf
  rw [dm_q (N := N) hq eq ht e0 hd, dm_q (N := N) (kd := kd') (K := K') (tc := tc') (tv := tv') (ts := ts') hq (h3 ▸ eq) ht ((h4 t0 ht).1 ▸ e0) (fun t h5 h6 => (h4 t h5).1 ▸ hd t h5 h6), h1, h2]
  apply dmV_congr ht
  intro t htq
  obtain ⟨v, hvN, ev⟩ := hv t htq
  refine ⟨(h4 t htq).1, (h4 t htq).2, ?_⟩
  rw [← (h4 t htq).1, ev, tn_nI (by omega)]
  exact hf v ⟨hvN, t, htq, ev⟩
section
variable {kd x u : Int32} {tv ts val : Nat → Int32} {b t0 t : Nat}
theorem dm_s0 (h : t = t0) : dmA kd tv ts val b t0 (t + 1) x = dmA kd tv ts val b t0 t x := by
  rw [dmA, if_pos h]
theorem dm_one : dmA kd tv ts val b 0 1 x = x := by
  have := dm_s0 (kd := kd) (x := x) (tv := tv) (ts := ts) (val := val) (b := b) (t0 := 0) (t := 0) rfl
  exact this
theorem dm_s1 (h : t ≠ t0) (hu : val (tn (tv (b + t))) = u) : dmA 1 tv ts val b t0 (t + 1) x = dmA 1 tv ts val b t0 t x - ts (b + t) * u := by
  rw [dmA, if_neg h, if_pos rfl, hu]
theorem dm_s2 (h : t ≠ t0) (hu : val (tn (tv (b + t))) = u) : dmA 2 tv ts val b t0 (t + 1) x = dmA 2 tv ts val b t0 t x ^^^ u := by
  rw [dmA, if_neg h, if_neg (by decide), if_pos rfl, hu]
theorem dm_s3 (h : t ≠ t0) (hu : val (tn (tv (b + t))) = u) : dmA 3 tv ts val b t0 (t + 1) x = dmA 3 tv ts val b t0 t x * u := by
  rw [dmA, if_neg h, if_neg (by decide), if_neg (by decide), if_pos rfl, hu]
theorem dm_s4 (h : t ≠ t0) (hu : val (tn (tv (b + t))) = u) : dmA 4 tv ts val b t0 (t + 1) x = if u ≤ dmA 4 tv ts val b t0 t x then dmA 4 tv ts val b t0 t x else u := by
  rw [dmA, if_neg h, if_neg (by decide), if_neg (by decide), if_neg (by decide), if_pos rfl, hu]
theorem dm_s5 (h1 : kd ≠ 1) (h2 : kd ≠ 2) (h3 : kd ≠ 3) (h4 : kd ≠ 4) : dmA kd tv ts val b t0 (t + 1) x = dmA kd tv ts val b t0 t x := by
  rw [dmA_0 h1 h2 h3 h4, dmA_0 h1 h2 h3 h4]
end
end
section
/-! the component's records: what the arrays hold -/
def RX (N : Nat) (tc tv tm vm om u k : Nat → Int32) : Prop := ∀ c, c < 32 → ∃ q, q ≤ 4 ∧ tc c = nI q ∧
  (∀ t, t < q → ∃ v, v < N ∧ tv (4 * c + t) = nI v) ∧ (∀ t t', t < t' → t' < q → tv (4 * c + t) ≠ tv (4 * c + t')) ∧
  (∀ v, v < N → (Hb (u v) c ↔ ∃ t, t < q ∧ tv (4 * c + t) = nI v)) ∧
  (∀ v, v < N → (Hb (k v) c ↔ ∃ t, t < q ∧ tv (4 * c + t) = nI v ∧ tm (4 * c + t) = 1)) ∧
  (∀ v, Hb (vm c) v ↔ v < N ∧ ∃ t, t < q ∧ tv (4 * c + t) = nI v) ∧ (∀ v, Hb (om c) v ↔ v < N ∧ ∃ t, t < q ∧ tv (4 * c + t) = nI v ∧ tm (4 * c + t) = 1)
section
variable {N : Nat} {tc tv tm vm om u k : Nat → Int32}
theorem rx_rp (hN : N ≤ 10) (R : RX N tc tv tm vm om u k) : RP N u k vm := by
  refine ⟨fun c v h => ?_, fun c hc => ?_⟩
  · obtain ⟨q, _, _, _, _, h5, h6, _⟩ := R c (hb_lt h.2)
    obtain ⟨t, h1, h2, _⟩ := (h6 v h.1).mp h.2
    exact ⟨h.1, (h5 v h.1).mpr ⟨t, h1, h2⟩⟩
  · obtain ⟨q, h4, _, hv, _, h5, _, h7, _⟩ := R c hc
    refine ⟨fun v => ?_, ?_⟩
    · rw [h7 v]
      exact ⟨fun h => ⟨h.1, (h5 v h.1).mpr h.2⟩, fun h => ⟨h.1, (h5 v h.1).mp h.2⟩⟩
    · have key : ∀ v, v < N → Hb (vm c) v → (((v = tn (tv (4 * c))) ∨ (v = tn (tv (4 * c + 1)))) ∨ ((v = tn (tv (4 * c + 2))) ∨ (v = tn (tv (4 * c + 3))))) := by
        intro v hv' h
        obtain ⟨hvN, t, ht, e⟩ := (h7 v).mp h
        have e2 : v = tn (tv (4 * c + t)) := by rw [e, tn_nI (by omega)]
        have : t = 0 ∨ t = 1 ∨ t = 2 ∨ t = 3 := by omega
        rcases this with z | z | z | z <;> subst z
        · exact Or.inl (Or.inl e2)
        · exact Or.inl (Or.inr e2)
        · exact Or.inr (Or.inl e2)
        · exact Or.inr (Or.inr e2)
      have a := cn_mono (N := N) key
      have b := cn_or (P := fun v => (v = tn (tv (4 * c))) ∨ (v = tn (tv (4 * c + 1)))) (Q := fun v => (v = tn (tv (4 * c + 2))) ∨ (v = tn (tv (4 * c + 3)))) N
      have b1 := cn_or (P := fun v => v = tn (tv (4 * c))) (Q := fun v => v = tn (tv (4 * c + 1))) N
      have b2 := cn_or (P := fun v => v = tn (tv (4 * c + 2))) (Q := fun v => v = tn (tv (4 * c + 3))) N
      have d0 := cn_is (tn (tv (4 * c))) N
      have d1 := cn_is (tn (tv (4 * c + 1))) N
      have d2 := cn_is (tn (tv (4 * c + 2))) N
      have d3 := cn_is (tn (tv (4 * c + 3))) N
      omega
theorem rx_u (hN : N ≤ 10) (R : RX N tc tv tm vm om u k) {c v : Nat} : UX N u c v ↔ c < 32 ∧ v < N ∧ ∃ t, t < tn (tc c) ∧ tv (4 * c + t) = nI v := by
  constructor
  · intro h
    have hc := hb_lt h.2
    obtain ⟨q, q4, e, _, _, h5, _⟩ := R c hc
    rw [e, tn_nI (by omega)]
    exact ⟨hc, h.1, (h5 v h.1).mp h.2⟩
  · rintro ⟨hc, hv, h⟩
    obtain ⟨q, q4, e, _, _, h5, _⟩ := R c hc
    rw [e, tn_nI (by omega)] at h
    exact ⟨hv, (h5 v hv).mpr h⟩
theorem rx_k (hN : N ≤ 10) (R : RX N tc tv tm vm om u k) {c v : Nat} : UX N k c v ↔ c < 32 ∧ v < N ∧ ∃ t, t < tn (tc c) ∧ tv (4 * c + t) = nI v ∧ tm (4 * c + t) = 1 := by
  constructor
  · intro h
    have hc := hb_lt h.2
    obtain ⟨q, q4, e, _, _, _, h6, _⟩ := R c hc
    rw [e, tn_nI (by omega)]
    exact ⟨hc, h.1, (h6 v h.1).mp h.2⟩
  · rintro ⟨hc, hv, h⟩
    obtain ⟨q, q4, e, _, _, _, h6, _⟩ := R c hc
    rw [e, tn_nI (by omega)] at h
    exact ⟨hv, (h6 v hv).mpr h⟩
theorem rx_clear {u' k' : Nat → Int32} {a : Nat} (R : RX N tc tv tm vm om u k) (hu : ∀ v, v < N → ∀ d, Hb (u' v) d ↔ Hb (u v) d ∧ d ≠ a) (hk : ∀ v, v < N → ∀ d, Hb (k' v) d ↔ Hb (k v) d ∧ d ≠ a) : RX N (upd tc a 0) tv tm (upd vm a 0) (upd om a 0) u' k' := by
  intro c hc
  rcases Classical.em (c = a) with z | z
  · subst z
    refine ⟨0, by omega, by rw [pk_us]; rfl, fun t ht => by omega, fun t t' _ h => by omega, fun v hv => ?_, fun v hv => ?_, fun v => ?_, fun v => ?_⟩
    · rw [hu v hv c]
      exact ⟨fun h => absurd rfl h.2, fun ⟨t, h, _⟩ => by omega⟩
    · rw [hk v hv c]
      exact ⟨fun h => absurd rfl h.2, fun ⟨t, h, _⟩ => by omega⟩
    · rw [pk_us]
      exact ⟨fun h => absurd h hb_0, fun ⟨_, t, h, _⟩ => by omega⟩
    · rw [pk_us]
      exact ⟨fun h => absurd h hb_0, fun ⟨_, t, h, _⟩ => by omega⟩
  · obtain ⟨q, h1, h2, h3, h4, h5, h6, h7, h8⟩ := R c hc
    refine ⟨q, h1, by rw [pk_un z]; exact h2, h3, h4, fun v hv => ?_, fun v hv => ?_, fun v => ?_, fun v => ?_⟩
    · rw [hu v hv c, h5 v hv]
      exact ⟨fun h => h.1, fun h => ⟨h, z⟩⟩
    · rw [hk v hv c, h6 v hv]
      exact ⟨fun h => h.1, fun h => ⟨h, z⟩⟩
    · rw [pk_un z]; exact h7 v
    · rw [pk_un z]; exact h8 v
/-- a term more at record a, whose count is q -/
theorem rx_add {u' k' vm' om' : Nat → Int32} {a q w : Nat} {md : Int32} (R : RX N tc tv tm vm om u k) (ha : a < 32) (hq : q < 4) (hN : N ≤ 10) (eq : tc a = nI q) (hw : w < N) (hnew : ∀ t, t < q → tv (4 * a + t) ≠ nI w)
    (hu : ∀ v, v < N → ∀ d, Hb (u' v) d ↔ Hb (u v) d ∨ (d = a ∧ v = w)) (hk : ∀ v, v < N → ∀ d, Hb (k' v) d ↔ Hb (k v) d ∨ (md = 1 ∧ d = a ∧ v = w))
    (hvm : ∀ d, d < 32 → ∀ v, Hb (vm' d) v ↔ Hb (vm d) v ∨ (d = a ∧ v = w)) (hom : ∀ d, d < 32 → ∀ v, Hb (om' d) v ↔ Hb (om d) v ∨ (md = 1 ∧ d = a ∧ v = w)) :
    RX N (upd tc a (nI (q + 1))) (upd tv (4 * a + q) (nI w)) (upd tm (4 * a + q) md) vm' om' u' k' := by
  intro c hc
  rcases Classical.em (c = a) with z | z
  · subst z
    obtain ⟨q0, h1, h2, h3, h4, h5, h6, h7, h8⟩ := R c hc
    have e0 : q0 = q := by
      rw [eq, nI_eq (by omega) (by omega)] at h2
      exact h2.symm
    subst e0
    have ex : ∀ v, v < N → ((∃ t, t < q0 + 1 ∧ upd tv (4 * c + q0) (nI w) (4 * c + t) = nI v) ↔ ((∃ t, t < q0 ∧ tv (4 * c + t) = nI v) ∨ v = w)) := by
      intro v hv
      constructor
      · rintro ⟨t, ht, e⟩
        rcases Nat.lt_or_ge t q0 with y | y
        · rw [pk_un (by omega)] at e
          exact Or.inl ⟨t, y, e⟩
        · have : t = q0 := by omega
          subst this
          rw [pk_us, nI_eq (by omega) (by omega)] at e
          exact Or.inr e.symm
      · rintro (⟨t, ht, e⟩ | e)
        · exact ⟨t, by omega, by rw [pk_un (by omega)]; exact e⟩
        · exact ⟨q0, by omega, by rw [pk_us, e]⟩
    have em : ∀ v, v < N → ((∃ t, t < q0 + 1 ∧ upd tv (4 * c + q0) (nI w) (4 * c + t) = nI v ∧ upd tm (4 * c + q0) md (4 * c + t) = 1) ↔ ((∃ t, t < q0 ∧ tv (4 * c + t) = nI v ∧ tm (4 * c + t) = 1) ∨ (md = 1 ∧ v = w))) := by
      intro v hv
      constructor
      · rintro ⟨t, ht, e, e1⟩
        rcases Nat.lt_or_ge t q0 with y | y
        · rw [pk_un (by omega)] at e e1
          exact Or.inl ⟨t, y, e, e1⟩
        · have : t = q0 := by omega
          subst this
          rw [pk_us] at e e1
          rw [nI_eq (by omega) (by omega)] at e
          exact Or.inr ⟨e1, e.symm⟩
      · rintro (⟨t, ht, e, e1⟩ | ⟨e1, e⟩)
        · exact ⟨t, by omega, by rw [pk_un (by omega)]; exact e, by rw [pk_un (by omega)]; exact e1⟩
        · exact ⟨q0, by omega, by rw [pk_us, e], by rw [pk_us]; exact e1⟩
    refine ⟨q0 + 1, by omega, pk_us, fun t ht => ?_, fun t t' h h' => ?_, fun v hv => ?_, fun v hv => ?_, fun v => ?_, fun v => ?_⟩
    · rcases Nat.lt_or_ge t q0 with y | y
      · rw [pk_un (by omega)]; exact h3 t y
      · have : t = q0 := by omega
        subst this
        exact ⟨w, hw, pk_us⟩
    · rcases Nat.lt_or_ge t' q0 with y | y
      · rw [pk_un (by omega), pk_un (by omega)]; exact h4 t t' h y
      · have : t' = q0 := by omega
        subst this
        rw [pk_us, pk_un (by omega)]
        exact hnew t h
    · rw [hu v hv c, h5 v hv, ex v hv]
      exact ⟨fun h => h.imp id fun y => y.2, fun h => h.imp id fun y => ⟨rfl, y⟩⟩
    · rw [hk v hv c, h6 v hv, em v hv]
      exact ⟨fun h => h.imp id fun y => ⟨y.1, y.2.2⟩, fun h => h.imp id fun y => ⟨y.1, rfl, y.2⟩⟩
    · rw [hvm c hc v, h7 v]
      constructor
      · rintro (h | h)
        · exact ⟨h.1, (ex v h.1).mpr (Or.inl h.2)⟩
        · exact ⟨by rw [h.2]; exact hw, (ex v (by rw [h.2]; exact hw)).mpr (Or.inr h.2)⟩
      · rintro ⟨hv, h⟩
        exact ((ex v hv).mp h).imp (fun y => ⟨hv, y⟩) fun y => ⟨rfl, y⟩
    · rw [hom c hc v, h8 v]
      constructor
      · rintro (h | h)
        · exact ⟨h.1, (em v h.1).mpr (Or.inl h.2)⟩
        · exact ⟨by rw [h.2.2]; exact hw, (em v (by rw [h.2.2]; exact hw)).mpr (Or.inr ⟨h.1, h.2.2⟩)⟩
      · rintro ⟨hv, h⟩
        exact ((em v hv).mp h).imp (fun y => ⟨hv, y⟩) fun y => ⟨y.1, rfl, y.2⟩
  · obtain ⟨q0, h1, h2, h3, h4, h5, h6, h7, h8⟩ := R c hc
    have ne : ∀ t, t < q0 → 4 * c + t ≠ 4 * a + q := fun t ht => by omega
    refine ⟨q0, h1, by rw [pk_un z]; exact h2, fun t ht => by rw [pk_un (ne t ht)]; exact h3 t ht, fun t t' h h' => by rw [pk_un (ne t (by omega)), pk_un (ne t' h')]; exact h4 t t' h h', fun v hv => ?_, fun v hv => ?_, fun v => ?_, fun v => ?_⟩
    · rw [hu v hv c, h5 v hv]
      constructor
      · rintro (⟨t, ht, e⟩ | h)
        · exact ⟨t, ht, by rw [pk_un (ne t ht)]; exact e⟩
        · exact absurd h.1 z
      · rintro ⟨t, ht, e⟩
        rw [pk_un (ne t ht)] at e
        exact Or.inl ⟨t, ht, e⟩
    · rw [hk v hv c, h6 v hv]
      constructor
      · rintro (⟨t, ht, e, e1⟩ | h)
        · exact ⟨t, ht, by rw [pk_un (ne t ht)]; exact e, by rw [pk_un (ne t ht)]; exact e1⟩
        · exact absurd h.2.1 z
      · rintro ⟨t, ht, e, e1⟩
        rw [pk_un (ne t ht)] at e e1
        exact Or.inl ⟨t, ht, e, e1⟩
    · rw [hvm c hc v, h7 v]
      constructor
      · rintro (⟨hv, t, ht, e⟩ | h)
        · exact ⟨hv, t, ht, by rw [pk_un (ne t ht)]; exact e⟩
        · exact absurd h.1 z
      · rintro ⟨hv, t, ht, e⟩
        rw [pk_un (ne t ht)] at e
        exact Or.inl ⟨hv, t, ht, e⟩
    · rw [hom c hc v, h8 v]
      constructor
      · rintro (⟨hv, t, ht, e, e1⟩ | h)
        · exact ⟨hv, t, ht, by rw [pk_un (ne t ht)]; exact e, by rw [pk_un (ne t ht)]; exact e1⟩
        · exact absurd h.2.1 z
      · rintro ⟨hv, t, ht, e, e1⟩
        rw [pk_un (ne t ht)] at e e1
        exact Or.inl ⟨hv, t, ht, e, e1⟩
end
section
variable {f_draftId f_editId f_firstStay f_n f_m f_allVariables f_live f_liveCount f_marked f_draftOpen f_enforced f_execCount f_walkKnown f_peelCount f_planCount : Int32} {f_nextStamp : Int64} {a_values a_before a_kinds a_strengths a_constants a_termCounts a_termVars a_termSigns a_termModes a_variableMasks a_outputMasks a_users a_makers a_ranked a_atStrength a_execIds a_outputs a_feeders a_determiner a_upstream a_walk a_agenda a_peelIds a_peelVars a_plan : Nat → Int32} {a_stamps : Nat → Int64}
variable {N : Nat}
theorem xl_clear (hn : f_n = nI N) (hN : N ≤ 10) (post : SX → Prop) {c : Nat} (hc : c < 32) {u0 k0 : Nat → Int32} (H : ∀ u' k', (∀ v, v < N → ∀ d, Hb (u' v) d ↔ Hb (u0 v) d ∧ d ≠ c) → (∀ v, v < N → ∀ d, Hb (k' v) d ↔ Hb (k0 v) d ∧ d ≠ c) → post (f_draftId, f_editId, f_firstStay, f_n, f_m, f_allVariables, f_nextStamp, f_live, f_liveCount, f_marked, f_draftOpen, f_enforced, f_execCount, f_walkKnown, f_peelCount, f_planCount, a_values, a_before, a_kinds, a_strengths, a_constants, upd a_termCounts c 0, a_termVars, a_termSigns, a_termModes, upd a_variableMasks c 0, upd a_outputMasks c 0, a_stamps, u', k', a_ranked, a_atStrength, a_execIds, a_outputs, a_feeders, a_determiner, a_upstream, a_walk, a_agenda, a_peelIds, a_peelVars, a_plan)) :
    ∀ d i u' k' fuel, i + d = N → d < fuel → (∀ v, v < N → ∀ d, Hb (u' v) d ↔ Hb (u0 v) d ∧ (v < i → d ≠ c)) → (∀ v, v < N → ∀ d, Hb (k' v) d ↔ Hb (k0 v) d ∧ (v < i → d ≠ c)) →
      wX_clearTerms_8 post (nI c) (((1 : Int32) <<< (nI c &&& 31)) ^^^ (-1)) f_draftId f_editId f_firstStay f_n f_m f_allVariables f_nextStamp f_live f_liveCount f_marked f_draftOpen f_enforced f_execCount f_walkKnown f_peelCount f_planCount fuel (nI i) a_values a_before a_kinds a_strengths a_constants a_termCounts a_termVars a_termSigns a_termModes a_variableMasks a_outputMasks a_stamps u' k' a_ranked a_atStrength a_execIds a_outputs a_feeders a_determiner a_upstream a_walk a_agenda a_peelIds a_peelVars a_plan := by
  have ec : (nI c).toNatClampNeg = c := nI_clamp (by omega)
  intro d
  induction d with
  | zero =>
    intro i u' k' fuel hi hf hu hk
    have e : i = N := by omega
    subst e
    cases fuel with
    | zero => omega
    | succ fuel =>
      refine br_t (by rw [hn]; exact Int32.le_refl _) (And.intro (vp_in_nI hc (by omega)) (nm_r (e' := upd a_termCounts c 0) (by rw [ec]) (And.intro (vp_in_nI hc (by omega)) (nm_r (e' := upd a_variableMasks c 0) (by rw [ec]) (And.intro (vp_in_nI hc (by omega)) (nm_r (e' := upd a_outputMasks c 0) (by rw [ec]) (H u' k' (fun v hv d => ?_) (fun v hv d => ?_))))))))
      · rw [hu v hv d]; exact ⟨fun h => ⟨h.1, h.2 hv⟩, fun h => ⟨h.1, fun _ => h.2⟩⟩
      · rw [hk v hv d]; exact ⟨fun h => ⟨h.1, h.2 hv⟩, fun h => ⟨h.1, fun _ => h.2⟩⟩
  | succ d ih =>
    intro i u' k' fuel hi hf hu hk
    cases fuel with
    | zero => omega
    | succ fuel =>
      have ei : (nI i).toNatClampNeg = i := nI_clamp (by omega)
      have vi : vp_in (nI i) 10 := vp_in_nI (by omega) (by omega)
      have st : ∀ {g g0 : Nat → Int32}, (∀ v, v < N → ∀ d, Hb (g v) d ↔ Hb (g0 v) d ∧ (v < i → d ≠ c)) → ∀ v, v < N → ∀ d, Hb (upd g i (g i &&& (((1 : Int32) <<< (nI c &&& 31)) ^^^ (-1))) v) d ↔ Hb (g0 v) d ∧ (v < i + 1 → d ≠ c) := by
        intro g g0 h v hv d
        rcases Classical.em (v = i) with z | z
        · subst z
          rw [pk_us, hb_andn, hb_one hc, h v hv d]
          exact ⟨fun y => ⟨y.1.1, fun _ => y.2⟩, fun y => ⟨⟨y.1, fun q => absurd q (by omega)⟩, y.2 (by omega)⟩⟩
        · rw [pk_un z, h v hv d]
          exact ⟨fun y => ⟨y.1, fun q => y.2 (by omega)⟩, fun y => ⟨y.1, fun q => y.2 (by omega)⟩⟩
      exact pk_le N i (fun h => absurd h (by omega)) (fun _ => And.intro vi (And.intro vi (nm_r (e' := upd u' i (u' i &&& (((1 : Int32) <<< (nI c &&& 31)) ^^^ (-1)))) (by rw [ei]) (And.intro vi (And.intro vi (nm_r (e' := upd k' i (k' i &&& (((1 : Int32) <<< (nI c &&& 31)) ^^^ (-1)))) (by rw [ei]) (nm_r (nI_1 i) (ih (i + 1) _ _ fuel (by omega) (by omega) (st hu) (st hk))))))))) hn rfl (by omega) (by omega)
theorem xs_clear (hn : f_n = nI N) (hN : N ≤ 10) (post : SX → Prop) {c : Nat} (hc : c < 32) (H : ∀ u' k', (∀ v, v < N → ∀ d, Hb (u' v) d ↔ Hb (a_users v) d ∧ d ≠ c) → (∀ v, v < N → ∀ d, Hb (k' v) d ↔ Hb (a_makers v) d ∧ d ≠ c) → post (f_draftId, f_editId, f_firstStay, f_n, f_m, f_allVariables, f_nextStamp, f_live, f_liveCount, f_marked, f_draftOpen, f_enforced, f_execCount, f_walkKnown, f_peelCount, f_planCount, a_values, a_before, a_kinds, a_strengths, a_constants, upd a_termCounts c 0, a_termVars, a_termSigns, a_termModes, upd a_variableMasks c 0, upd a_outputMasks c 0, a_stamps, u', k', a_ranked, a_atStrength, a_execIds, a_outputs, a_feeders, a_determiner, a_upstream, a_walk, a_agenda, a_peelIds, a_peelVars, a_plan)) : wpX_clearTerms post (f_draftId, f_editId, f_firstStay, f_n, f_m, f_allVariables, f_nextStamp, f_live, f_liveCount, f_marked, f_draftOpen, f_enforced, f_execCount, f_walkKnown, f_peelCount, f_planCount, a_values, a_before, a_kinds, a_strengths, a_constants, a_termCounts, a_termVars, a_termSigns, a_termModes, a_variableMasks, a_outputMasks, a_stamps, a_users, a_makers, a_ranked, a_atStrength, a_execIds, a_outputs, a_feeders, a_determiner, a_upstream, a_walk, a_agenda, a_peelIds, a_peelVars, a_plan) (nI c) :=
  nm_e (Exists.intro (N + 1) (xl_clear hn hN post hc H N 0 a_users a_makers (N + 1) (by omega) (by omega) (fun v _ d => ⟨fun h => ⟨h, fun q => absurd q (by omega)⟩, fun h => h.1⟩) (fun v _ d => ⟨fun h => ⟨h, fun q => absurd q (by omega)⟩, fun h => h.1⟩)))
theorem xs_open (hn : f_n = nI N) (hN : N ≤ 10) (post : SX → Prop) {c : Nat} (hc : c < 32) (kd st K : Int32) (H : ∀ u' k', (∀ v, v < N → ∀ d, Hb (u' v) d ↔ Hb (a_users v) d ∧ d ≠ c) → (∀ v, v < N → ∀ d, Hb (k' v) d ↔ Hb (a_makers v) d ∧ d ≠ c) → post (f_draftId, f_editId, f_firstStay, f_n, f_m, f_allVariables, f_nextStamp, f_live, f_liveCount, f_marked, f_draftOpen, f_enforced, f_execCount, f_walkKnown, f_peelCount, f_planCount, a_values, a_before, upd a_kinds c kd, upd a_strengths c st, upd a_constants c K, upd a_termCounts c 0, a_termVars, a_termSigns, a_termModes, upd a_variableMasks c 0, upd a_outputMasks c 0, a_stamps, u', k', a_ranked, a_atStrength, a_execIds, a_outputs, a_feeders, a_determiner, a_upstream, a_walk, a_agenda, a_peelIds, a_peelVars, a_plan)) : wpX_openRecord post (f_draftId, f_editId, f_firstStay, f_n, f_m, f_allVariables, f_nextStamp, f_live, f_liveCount, f_marked, f_draftOpen, f_enforced, f_execCount, f_walkKnown, f_peelCount, f_planCount, a_values, a_before, a_kinds, a_strengths, a_constants, a_termCounts, a_termVars, a_termSigns, a_termModes, a_variableMasks, a_outputMasks, a_stamps, a_users, a_makers, a_ranked, a_atStrength, a_execIds, a_outputs, a_feeders, a_determiner, a_upstream, a_walk, a_agenda, a_peelIds, a_peelVars, a_plan) (nI c) kd st K := by
  have ec : (nI c).toNatClampNeg = c := nI_clamp (by omega)
  have vi : vp_in (nI c) 32 := vp_in_nI hc (by omega)
  refine xs_clear hn hN _ hc fun u' k' hu hk => ?_
  exact And.intro vi (nm_r (e' := upd a_kinds c kd) (by rw [ec]) (And.intro vi (nm_r (e' := upd a_strengths c st) (by rw [ec]) (And.intro vi (nm_r (e' := upd a_constants c K) (by rw [ec]) (H u' k' hu hk))))))
theorem xs_add (hN : N ≤ 10) (post : SX → Prop) {c q w : Nat} (hc : c < 32) (hq : q < 4) (eq : a_termCounts c = nI q) (hw : w < N) (sg md : Int32) (H : ∀ u' k' vm' om', (∀ v, v < N → ∀ d, Hb (u' v) d ↔ Hb (a_users v) d ∨ (d = c ∧ v = w)) → (∀ v, v < N → ∀ d, Hb (k' v) d ↔ Hb (a_makers v) d ∨ (md = 1 ∧ d = c ∧ v = w)) → (∀ d, d < 32 → ∀ v, Hb (vm' d) v ↔ Hb (a_variableMasks d) v ∨ (d = c ∧ v = w)) → (∀ d, d < 32 → ∀ v, Hb (om' d) v ↔ Hb (a_outputMasks d) v ∨ (md = 1 ∧ d = c ∧ v = w)) → post (f_draftId, f_editId, f_firstStay, f_n, f_m, f_allVariables, f_nextStamp, f_live, f_liveCount, f_marked, f_draftOpen, f_enforced, f_execCount, f_walkKnown, f_peelCount, f_planCount, a_values, a_before, a_kinds, a_strengths, a_constants, upd a_termCounts c (nI (q + 1)), upd a_termVars (4 * c + q) (nI w), upd a_termSigns (4 * c + q) sg, upd a_termModes (4 * c + q) md, vm', om', a_stamps, u', k', a_ranked, a_atStrength, a_execIds, a_outputs, a_feeders, a_determiner, a_upstream, a_walk, a_agenda, a_peelIds, a_peelVars, a_plan)) : wpX_addTerm post (f_draftId, f_editId, f_firstStay, f_n, f_m, f_allVariables, f_nextStamp, f_live, f_liveCount, f_marked, f_draftOpen, f_enforced, f_execCount, f_walkKnown, f_peelCount, f_planCount, a_values, a_before, a_kinds, a_strengths, a_constants, a_termCounts, a_termVars, a_termSigns, a_termModes, a_variableMasks, a_outputMasks, a_stamps, a_users, a_makers, a_ranked, a_atStrength, a_execIds, a_outputs, a_feeders, a_determiner, a_upstream, a_walk, a_agenda, a_peelIds, a_peelVars, a_plan) (nI c) (nI w) sg md := by
  have ec : (nI c).toNatClampNeg = c := nI_clamp (by omega)
  have ew : (nI w).toNatClampNeg = w := nI_clamp (by omega)
  have vi : vp_in (nI c) 32 := vp_in_nI hc (by omega)
  have vw : vp_in (nI w) 10 := vp_in_nI (by omega) (by omega)
  have va : vp_in (nI (4 * c + q)) 128 := vp_in_nI (by omega) (by omega)
  have ea : (nI (4 * c + q)).toNatClampNeg = 4 * c + q := nI_clamp (by omega)
  have hor : ∀ (g : Nat → Int32) (a b : Nat), b < 32 → ∀ v d, Hb (upd g a (g a ||| ((1 : Int32) <<< (nI b &&& 31))) v) d ↔ Hb (g v) d ∨ (d = b ∧ v = a) := by
    intro g a b hb v d
    rcases Classical.em (v = a) with z | z
    · subst z
      rw [pk_us, hb_or, hb_one hb]
      exact ⟨fun h => h.imp id fun y => ⟨y, rfl⟩, fun h => h.imp id fun y => y.1⟩
    · rw [pk_un z]
      exact ⟨Or.inl, fun h => h.elim id fun y => absurd y.2 z⟩
  refine And.intro vi (nm_r (e' := nI q) (by rw [ec]; exact eq) (br_t (nI_lt (b := 4) hq (by decide)) (nm_r (ix_x c q) (And.intro va (nm_r (e' := upd a_termVars (4 * c + q) (nI w)) (by rw [ea]) (And.intro va (nm_r (e' := upd a_termSigns (4 * c + q) sg) (by rw [ea]) (And.intro va (nm_r (e' := upd a_termModes (4 * c + q) md) (by rw [ea]) (And.intro vi (nm_r (e' := upd a_termCounts c (nI (q + 1))) (by rw [ec, nI_1]) (And.intro vi (And.intro vi (nm_r (e' := upd a_variableMasks c (a_variableMasks c ||| ((1 : Int32) <<< (nI w &&& 31)))) (by rw [ec]) (And.intro vw (And.intro vw (nm_r (e' := upd a_users w (a_users w ||| ((1 : Int32) <<< (nI c &&& 31)))) (by rw [ew]) (br_c (fun z => ?_) (fun z => ?_)))))))))))))))))))
  · refine And.intro vi (And.intro vi (nm_r (e' := upd a_outputMasks c (a_outputMasks c ||| ((1 : Int32) <<< (nI w &&& 31)))) (by rw [ec]) (And.intro vw (And.intro vw (nm_r (e' := upd a_makers w (a_makers w ||| ((1 : Int32) <<< (nI c &&& 31)))) (by rw [ew]) (H _ _ _ _ (fun v hv d => hor _ _ _ hc v d) (fun v hv d => ?_) (fun d hd v => ?_) (fun d hd v => ?_)))))))
    · rw [hor _ _ _ hc v d]
      exact ⟨fun h => h.imp id fun y => ⟨z, y⟩, fun h => h.imp id fun y => y.2⟩
    · rw [hor _ _ _ (by omega) d v]
      exact ⟨fun h => h.imp id And.symm, fun h => h.imp id And.symm⟩
    · rw [hor _ _ _ (by omega) d v]
      exact ⟨fun h => h.imp id fun y => ⟨z, y.2, y.1⟩, fun h => h.imp id fun y => ⟨y.2.2, y.2.1⟩⟩
  · refine H _ a_makers _ a_outputMasks (fun v hv d => hor _ _ _ hc v d) (fun v hv d => ?_) (fun d hd v => ?_) (fun d hd v => ?_)
    · exact ⟨Or.inl, fun h => h.elim id fun y => absurd y.1 z⟩
    · rw [hor _ _ _ (by omega) d v]
      exact ⟨fun h => h.imp id And.symm, fun h => h.imp id And.symm⟩
    · exact ⟨Or.inl, fun h => h.elim id fun y => absurd y.1 z⟩
end
end
section
/-! fits, choose -/
theorem ch_step {us mk : Nat → Nat → Prop} {key : Nat → Nat} {D : Nat → Prop} {ch : Int32} {a : Nat} (ha : a < 32) (h : Chs us mk key D (Hb ch)) (hS : Slv us mk (Hb ch)) (hk : ∀ d, D d → key d < key a) {r : Int32} (hr : ¬ r = 0 ↔ Slv us mk (fun d => Hb ch d ∨ d = a)) :
    (r = 0 → Chs us mk key (fun c => D c ∨ c = a) (Hb ch)) ∧ (¬ r = 0 → Chs us mk key (fun c => D c ∨ c = a) (Hb (ch ||| ((1 : Int32) <<< (nI a &&& 31)))) ∧ Slv us mk (Hb (ch ||| ((1 : Int32) <<< (nI a &&& 31))))) := by
  constructor
  · intro z
    refine ch_no h (fun hd => absurd (hk a hd) (Nat.lt_irrefl _)) fun y => ?_
    have := hr.mpr (sv_mono (fun d q => q.elim (fun e => Or.inl ⟨e, hk d (h.1 d e)⟩) Or.inr) y)
    exact this z
  · intro z
    have e : ∀ c, Hb ch c ∨ c = a ↔ Hb (ch ||| ((1 : Int32) <<< (nI a &&& 31))) c := fun c => by rw [hb_or, hb_one ha]
    have hs := hr.mp z
    exact ⟨ch_congr (ch_yes h hk hs) (fun _ => Iff.rfl) e (fun _ _ _ _ => Iff.rfl) (fun _ _ _ => Iff.rfl) (fun _ _ _ => Iff.rfl), (sv_eq e).mp hs⟩
section
variable {f_draftId f_editId f_firstStay f_n f_m f_allVariables f_live f_liveCount f_marked f_draftOpen f_enforced f_execCount f_walkKnown f_peelCount f_planCount : Int32} {f_nextStamp : Int64} {a_values a_before a_kinds a_strengths a_constants a_termCounts a_termVars a_termSigns a_termModes a_variableMasks a_outputMasks a_users a_makers a_ranked a_atStrength a_execIds a_outputs a_feeders a_determiner a_upstream a_walk a_agenda a_peelIds a_peelVars a_plan : Nat → Int32} {a_stamps : Nat → Int64}
variable {N : Nat}
theorem xs_fits57 (hn : f_n = nI N) (hN : N ≤ 10) (hall : ∀ v, Hb f_allVariables v ↔ v < N) (R : RX N a_termCounts a_termVars a_termModes a_variableMasks a_outputMasks a_users a_makers) (post : Int32 → SX → Prop) {set : Int32} {c : Nat} (hc : c < 32)
    (H : ∀ r pc ag pi pv, (¬ r = 0 ↔ Slv (UX N a_users) (UX N a_makers) (fun d => Hb set d ∨ d = c)) → post r (f_draftId, f_editId, f_firstStay, f_n, f_m, f_allVariables, f_nextStamp, f_live, f_liveCount, f_marked, f_draftOpen, f_enforced, f_execCount, f_walkKnown, pc, f_planCount, a_values, a_before, a_kinds, a_strengths, a_constants, a_termCounts, a_termVars, a_termSigns, a_termModes, a_variableMasks, a_outputMasks, a_stamps, a_users, a_makers, a_ranked, a_atStrength, a_execIds, a_outputs, a_feeders, a_determiner, a_upstream, a_walk, ag, pi, pv, a_plan)) : wX_fits_57 post set (nI c) f_draftId f_editId f_firstStay f_n f_m f_allVariables f_nextStamp f_live f_liveCount f_marked f_draftOpen f_enforced f_execCount f_walkKnown f_peelCount f_planCount a_values a_before a_kinds a_strengths a_constants a_termCounts a_termVars a_termSigns a_termModes a_variableMasks a_outputMasks a_stamps a_users a_makers a_ranked a_atStrength a_execIds a_outputs a_feeders a_determiner a_upstream a_walk a_agenda a_peelIds a_peelVars a_plan := by
  refine xs_peel hn hN (rx_rp hN R) _ (fun v h => (hall v).mp h) (fun v hv hno => absurd ((hall v).mpr hv) hno) fun rest p ag pi pv hP hs _ => ?_
  have e : ∀ d, Hb (set ||| ((1 : Int32) <<< (nI c &&& 31))) d ↔ Hb set d ∨ d = c := fun d => by rw [hb_or, hb_one hc]
  have hz := (pe_slv hP hs).trans (sv_eq e)
  exact br_c (fun z => H 1 _ _ _ _ ⟨fun _ => hz.mp z, fun _ => by decide⟩) (fun z => H 0 _ _ _ _ ⟨fun y => absurd rfl y, fun y => absurd (hz.mpr y) z⟩)
theorem xs_fits (hn : f_n = nI N) (hN : N ≤ 10) (hall : ∀ v, Hb f_allVariables v ↔ v < N) (R : RX N a_termCounts a_termVars a_termModes a_variableMasks a_outputMasks a_users a_makers) (post : Int32 → SX → Prop) {set : Int32} {c : Nat} (hc : c < 32)
    (hS : Slv (UX N a_users) (UX N a_makers) (Hb set)) (hns : ¬ Hb set c)
    (H : ∀ r pc ag pi pv, (¬ r = 0 ↔ Slv (UX N a_users) (UX N a_makers) (fun d => Hb set d ∨ d = c)) → post r (f_draftId, f_editId, f_firstStay, f_n, f_m, f_allVariables, f_nextStamp, f_live, f_liveCount, f_marked, f_draftOpen, f_enforced, f_execCount, f_walkKnown, pc, f_planCount, a_values, a_before, a_kinds, a_strengths, a_constants, a_termCounts, a_termVars, a_termSigns, a_termModes, a_variableMasks, a_outputMasks, a_stamps, a_users, a_makers, a_ranked, a_atStrength, a_execIds, a_outputs, a_feeders, a_determiner, a_upstream, a_walk, ag, pi, pv, a_plan)) : wpX_fits post (f_draftId, f_editId, f_firstStay, f_n, f_m, f_allVariables, f_nextStamp, f_live, f_liveCount, f_marked, f_draftOpen, f_enforced, f_execCount, f_walkKnown, f_peelCount, f_planCount, a_values, a_before, a_kinds, a_strengths, a_constants, a_termCounts, a_termVars, a_termSigns, a_termModes, a_variableMasks, a_outputMasks, a_stamps, a_users, a_makers, a_ranked, a_atStrength, a_execIds, a_outputs, a_feeders, a_determiner, a_upstream, a_walk, a_agenda, a_peelIds, a_peelVars, a_plan) set (nI c) := by
  have ec : (nI c).toNatClampNeg = c := nI_clamp (by omega)
  have vi : vp_in (nI c) 32 := vp_in_nI hc (by omega)
  have RP' := rx_rp hN R
  obtain ⟨q, _, _, _, _, h5, h6, h7, h8⟩ := R c hc
  refine xs_vars hn hN _ set fun used hu => ?_
  refine And.intro vi (br_c (fun z => And.intro vi (br_c (fun z2 => ?_) (fun z2 => ?_))) (fun z => ?_))
  · refine xs_size _ set (xs_size _ used (pk_lt (pcn set) (pcn used) (fun _ => xs_fits57 hn hN hall R post hc H) (fun hle => ?_) rfl rfl (by have := pcn_le set; omega) (by have := pcn_le used; omega)))
    refine H 0 f_peelCount a_agenda a_peelIds a_peelVars ⟨fun y => absurd rfl y, fun y => ?_⟩
    rw [ec] at z2
    have hv : ∀ v, Hb (a_variableMasks c) v → Hb used v := fun v hv => Classical.byContradiction fun y => (hb_z.mp z2) v (hb_andn.mpr ⟨hv, y⟩)
    have hcnt := sv_cnt (N := N) RP'.1 (cn (fun d => Hb set d ∨ d = c) 32) (fun d => Hb set d ∨ d = c) (Hb used) (fun d hd => hd.elim hb_lt fun e => e ▸ hc) y (fun d v hd hud => ⟨?_, hud.1⟩) rfl
    · rw [cn_add hns hc] at hcnt
      have e2 : cn (Hb used) 32 = cn (Hb used) N := cn_ext (by omega) fun k h1 _ h => absurd ((hu k).mp h).1 (by omega)
      have : cn (Hb set) 32 = pcn set := rfl
      have : cn (Hb used) 32 = pcn used := rfl
      omega
    · rcases hd with hd | hd
      · exact (hu v).mpr ⟨hud.1, d, hud.2, hd⟩
      · subst hd
        exact hv v (((RP'.2 d hc).1 v).mpr hud)
  · exact xs_fits57 hn hN hall R post hc H
  · refine H 1 f_peelCount a_agenda a_peelIds a_peelVars ⟨fun _ => ?_, fun _ => by decide⟩
    rw [ec, hb_nz] at z
    obtain ⟨w, hw⟩ := z
    have hw2 := hb_andn.mp hw
    obtain ⟨hwN, t, ht⟩ := (h8 w).mp hw2.1
    exact sv_free hS ⟨hwN, (h6 w hwN).mpr ⟨t, ht⟩⟩ fun d hd _ hud => hw2.2 ((hu w).mpr ⟨hwN, d, hud.2, hd⟩)
theorem xl_ch49 (hn : f_n = nI N) (hN : N ≤ 10) (hall : ∀ v, Hb f_allVariables v ↔ v < N) (R : RX N a_termCounts a_termVars a_termModes a_variableMasks a_outputMasks a_users a_makers) (post : Int32 → SX → Prop) {key : Nat → Nat} {D : Nat → Prop}
    (hk : ∀ c, D c → ∀ v, v < N → key c < key (22 + v)) (hs : ∀ v w, v < w → w < N → key (22 + v) < key (22 + w))
    (H : ∀ r pc ag pi pv, Chs (UX N a_users) (UX N a_makers) key (fun c => D c ∨ ∃ v, v < N ∧ c = 22 + v) (Hb r) → Slv (UX N a_users) (UX N a_makers) (Hb r) → post r (f_draftId, f_editId, f_firstStay, f_n, f_m, f_allVariables, f_nextStamp, f_live, f_liveCount, f_marked, f_draftOpen, f_enforced, f_execCount, f_walkKnown, pc, f_planCount, a_values, a_before, a_kinds, a_strengths, a_constants, a_termCounts, a_termVars, a_termSigns, a_termModes, a_variableMasks, a_outputMasks, a_stamps, a_users, a_makers, a_ranked, a_atStrength, a_execIds, a_outputs, a_feeders, a_determiner, a_upstream, a_walk, ag, pi, pv, a_plan)) :
    ∀ d i ch pc ag pi pv fuel, i + d = N → d < fuel → Chs (UX N a_users) (UX N a_makers) key (fun c => D c ∨ ∃ v, v < i ∧ c = 22 + v) (Hb ch) → Slv (UX N a_users) (UX N a_makers) (Hb ch) →
      wX_choose_49 post fuel ch (nI i) f_draftId f_editId f_firstStay f_n f_m f_allVariables f_nextStamp f_live f_liveCount f_marked f_draftOpen f_enforced f_execCount f_walkKnown pc f_planCount a_values a_before a_kinds a_strengths a_constants a_termCounts a_termVars a_termSigns a_termModes a_variableMasks a_outputMasks a_stamps a_users a_makers a_ranked a_atStrength a_execIds a_outputs a_feeders a_determiner a_upstream a_walk ag pi pv a_plan := by
  intro d
  induction d with
  | zero =>
    intro i ch pc ag pi pv fuel hi hf hc hS
    have e : i = N := by omega
    subst e
    cases fuel with
    | zero => omega
    | succ fuel => exact br_t (by rw [hn]; exact Int32.le_refl _) (H ch pc ag pi pv hc hS)
  | succ d ih =>
    intro i ch pc ag pi pv fuel hi hf hc hS
    cases fuel with
    | zero => omega
    | succ fuel =>
      have hkey : ∀ c, (D c ∨ ∃ v, v < i ∧ c = 22 + v) → key c < key (22 + i) := fun c h => h.elim (fun q => hk c q i (by omega)) fun ⟨v, h1, h2⟩ => by rw [h2]; exact hs v i h1 (by omega)
      have eD : ∀ c, ((D c ∨ ∃ v, v < i ∧ c = 22 + v) ∨ c = 22 + i) ↔ (D c ∨ ∃ v, v < i + 1 ∧ c = 22 + v) := by
        intro c
        constructor
        · rintro ((h | ⟨v, h1, h2⟩) | h)
          · exact Or.inl h
          · exact Or.inr ⟨v, by omega, h2⟩
          · exact Or.inr ⟨i, by omega, h⟩
        · rintro (h | ⟨v, h1, h2⟩)
          · exact Or.inl (Or.inl h)
          · rcases Nat.lt_or_ge v i with y | y
            · exact Or.inl (Or.inr ⟨v, y, h2⟩)
            · have : v = i := by omega
              subst this
              exact Or.inr h2
      have hns : ¬ Hb ch (22 + i) := fun y => absurd (hkey _ (hc.1 _ y)) (Nat.lt_irrefl _)
      refine pk_le N i (fun h => absurd h (by omega)) (fun _ => nm_r (nI_add 22 i) (xs_fits hn hN hall R _ (by omega) hS hns fun r pc' ag' pi' pv' hr => ?_)) hn rfl (by omega) (by omega)
      have st := ch_step (by omega) hc hS hkey hr
      refine br_c (fun z => nm_r (nI_1 i) ?_) (fun z => nm_e (nm_r (nI_1 i) ?_))
      · exact ih (i + 1) ch pc' ag' pi' pv' fuel (by omega) (by omega) (ch_congr (st.1 z) eD (fun _ => Iff.rfl) (fun _ _ _ _ => Iff.rfl) (fun _ _ _ => Iff.rfl) (fun _ _ _ => Iff.rfl)) hS
      · exact ih (i + 1) _ pc' ag' pi' pv' fuel (by omega) (by omega) (ch_congr (st.2 z).1 eD (fun _ => Iff.rfl) (fun _ _ _ _ => Iff.rfl) (fun _ _ _ => Iff.rfl) (fun _ _ _ => Iff.rfl)) (st.2 z).2
theorem xl_ch5 (hn : f_n = nI N) (hN : N ≤ 10) (hall : ∀ v, Hb f_allVariables v ↔ v < N) (R : RX N a_termCounts a_termVars a_termModes a_variableMasks a_outputMasks a_users a_makers) (post : Int32 → SX → Prop) {key : Nat → Nat} {D : Nat → Prop} {L r0 : Nat} {rk : Nat → Nat}
    (hL : f_liveCount = nI L) (hL20 : L ≤ 20) (hrk : ∀ j, j < L → rk j < 32 ∧ a_ranked j = nI (rk j))
    (hk0 : ∀ c, D c → ∀ j, r0 ≤ j → j < L → key c < key (rk j)) (hk1 : ∀ i j, i < j → j < L → key (rk i) < key (rk j))
    (hk2 : ∀ c, D c → ∀ v, v < N → key c < key (22 + v)) (hk3 : ∀ j, j < L → ∀ v, v < N → key (rk j) < key (22 + v)) (hs : ∀ v w, v < w → w < N → key (22 + v) < key (22 + w))
    (H : ∀ r pc ag pi pv, Chs (UX N a_users) (UX N a_makers) key (fun c => (D c ∨ ∃ j, r0 ≤ j ∧ j < L ∧ c = rk j) ∨ ∃ v, v < N ∧ c = 22 + v) (Hb r) → Slv (UX N a_users) (UX N a_makers) (Hb r) → post r (f_draftId, f_editId, f_firstStay, f_n, f_m, f_allVariables, f_nextStamp, f_live, f_liveCount, f_marked, f_draftOpen, f_enforced, f_execCount, f_walkKnown, pc, f_planCount, a_values, a_before, a_kinds, a_strengths, a_constants, a_termCounts, a_termVars, a_termSigns, a_termModes, a_variableMasks, a_outputMasks, a_stamps, a_users, a_makers, a_ranked, a_atStrength, a_execIds, a_outputs, a_feeders, a_determiner, a_upstream, a_walk, ag, pi, pv, a_plan)) :
    ∀ d i ch pc ag pi pv fuel, i + d = L → r0 ≤ i → d < fuel → Chs (UX N a_users) (UX N a_makers) key (fun c => D c ∨ ∃ j, r0 ≤ j ∧ j < i ∧ c = rk j) (Hb ch) → Slv (UX N a_users) (UX N a_makers) (Hb ch) →
      wX_choose_5 post fuel ch (nI i) f_draftId f_editId f_firstStay f_n f_m f_allVariables f_nextStamp f_live f_liveCount f_marked f_draftOpen f_enforced f_execCount f_walkKnown pc f_planCount a_values a_before a_kinds a_strengths a_constants a_termCounts a_termVars a_termSigns a_termModes a_variableMasks a_outputMasks a_stamps a_users a_makers a_ranked a_atStrength a_execIds a_outputs a_feeders a_determiner a_upstream a_walk ag pi pv a_plan := by
  intro d
  induction d with
  | zero =>
    intro i ch pc ag pi pv fuel hi hr0 hf hc hS
    have e : i = L := by omega
    subst e
    cases fuel with
    | zero => omega
    | succ fuel =>
      refine br_t (by rw [hL]; exact Int32.le_refl _) (Exists.intro (N + 1) (xl_ch49 hn hN hall R post (fun c h v hv => ?_) hs H N 0 ch pc ag pi pv (N + 1) (by omega) (by omega) ?_ hS))
      · exact h.elim (fun q => hk2 c q v hv) fun ⟨j, h1, h2, h3⟩ => by rw [h3]; exact hk3 j h2 v hv
      · exact ch_congr hc (fun c => ⟨Or.inl, fun y => y.elim id fun ⟨v, h, _⟩ => absurd h (by omega)⟩) (fun _ => Iff.rfl) (fun _ _ _ _ => Iff.rfl) (fun _ _ _ => Iff.rfl) (fun _ _ _ => Iff.rfl)
  | succ d ih =>
    intro i ch pc ag pi pv fuel hi hr0 hf hc hS
    cases fuel with
    | zero => omega
    | succ fuel =>
      have ei : (nI i).toNatClampNeg = i := nI_clamp (by omega)
      obtain ⟨hri, eri⟩ := hrk i (by omega)
      have hkey : ∀ c, (D c ∨ ∃ j, r0 ≤ j ∧ j < i ∧ c = rk j) → key c < key (rk i) := fun c h => h.elim (fun q => hk0 c q i hr0 (by omega)) fun ⟨j, _, h2, h3⟩ => by rw [h3]; exact hk1 j i h2 (by omega)
      have eD : ∀ c, ((D c ∨ ∃ j, r0 ≤ j ∧ j < i ∧ c = rk j) ∨ c = rk i) ↔ (D c ∨ ∃ j, r0 ≤ j ∧ j < i + 1 ∧ c = rk j) := by
        intro c
        constructor
        · rintro ((h | ⟨v, h1, h2, h3⟩) | h)
          · exact Or.inl h
          · exact Or.inr ⟨v, h1, by omega, h3⟩
          · exact Or.inr ⟨i, hr0, by omega, h⟩
        · rintro (h | ⟨v, h1, h2, h3⟩)
          · exact Or.inl (Or.inl h)
          · rcases Nat.lt_or_ge v i with y | y
            · exact Or.inl (Or.inr ⟨v, h1, y, h3⟩)
            · have : v = i := by omega
              subst this
              exact Or.inr h3
      have hns : ¬ Hb ch (rk i) := fun y => absurd (hkey _ (hc.1 _ y)) (Nat.lt_irrefl _)
      refine pk_le L i (fun h => absurd h (by omega)) (fun _ => And.intro (vp_in_nI (by omega) (by omega)) (nm_r (e' := nI (rk i)) (by rw [ei]; exact eri) (xs_fits hn hN hall R _ hri hS hns fun r pc' ag' pi' pv' hr => ?_))) hL rfl (by omega) (by omega)
      have st := ch_step hri hc hS hkey hr
      refine br_c (fun z => nm_r (nI_1 i) ?_) (fun z => nm_e (nm_r (nI_1 i) ?_))
      · exact ih (i + 1) ch pc' ag' pi' pv' fuel (by omega) (by omega) (by omega) (ch_congr (st.1 z) eD (fun _ => Iff.rfl) (fun _ _ _ _ => Iff.rfl) (fun _ _ _ => Iff.rfl) (fun _ _ _ => Iff.rfl)) hS
      · exact ih (i + 1) _ pc' ag' pi' pv' fuel (by omega) (by omega) (by omega) (ch_congr (st.2 z).1 eD (fun _ => Iff.rfl) (fun _ _ _ _ => Iff.rfl) (fun _ _ _ => Iff.rfl) (fun _ _ _ => Iff.rfl)) (st.2 z).2
theorem xs_choose (hn : f_n = nI N) (hN : N ≤ 10) (hall : ∀ v, Hb f_allVariables v ↔ v < N) (R : RX N a_termCounts a_termVars a_termModes a_variableMasks a_outputMasks a_users a_makers) (post : Int32 → SX → Prop) {key : Nat → Nat} {D : Nat → Prop} {L r0 : Nat} {rk : Nat → Nat} {base : Int32}
    (hL : f_liveCount = nI L) (hL20 : L ≤ 20) (hr0 : r0 ≤ L) (hrk : ∀ j, j < L → rk j < 32 ∧ a_ranked j = nI (rk j))
    (hk0 : ∀ c, D c → ∀ j, r0 ≤ j → j < L → key c < key (rk j)) (hk1 : ∀ i j, i < j → j < L → key (rk i) < key (rk j))
    (hk2 : ∀ c, D c → ∀ v, v < N → key c < key (22 + v)) (hk3 : ∀ j, j < L → ∀ v, v < N → key (rk j) < key (22 + v)) (hs : ∀ v w, v < w → w < N → key (22 + v) < key (22 + w))
    (hc : Chs (UX N a_users) (UX N a_makers) key D (Hb base)) (hS : Slv (UX N a_users) (UX N a_makers) (Hb base))
    (H : ∀ r pc ag pi pv, Chs (UX N a_users) (UX N a_makers) key (fun c => (D c ∨ ∃ j, r0 ≤ j ∧ j < L ∧ c = rk j) ∨ ∃ v, v < N ∧ c = 22 + v) (Hb r) → Slv (UX N a_users) (UX N a_makers) (Hb r) → post r (f_draftId, f_editId, f_firstStay, f_n, f_m, f_allVariables, f_nextStamp, f_live, f_liveCount, f_marked, f_draftOpen, f_enforced, f_execCount, f_walkKnown, pc, f_planCount, a_values, a_before, a_kinds, a_strengths, a_constants, a_termCounts, a_termVars, a_termSigns, a_termModes, a_variableMasks, a_outputMasks, a_stamps, a_users, a_makers, a_ranked, a_atStrength, a_execIds, a_outputs, a_feeders, a_determiner, a_upstream, a_walk, ag, pi, pv, a_plan)) : wpX_choose post (f_draftId, f_editId, f_firstStay, f_n, f_m, f_allVariables, f_nextStamp, f_live, f_liveCount, f_marked, f_draftOpen, f_enforced, f_execCount, f_walkKnown, f_peelCount, f_planCount, a_values, a_before, a_kinds, a_strengths, a_constants, a_termCounts, a_termVars, a_termSigns, a_termModes, a_variableMasks, a_outputMasks, a_stamps, a_users, a_makers, a_ranked, a_atStrength, a_execIds, a_outputs, a_feeders, a_determiner, a_upstream, a_walk, a_agenda, a_peelIds, a_peelVars, a_plan) base (nI r0) :=
  Exists.intro (L - r0 + 1) (xl_ch5 hn hN hall R post hL hL20 hrk hk0 hk1 hk2 hk3 hs H (L - r0) r0 base f_peelCount a_agenda a_peelIds a_peelVars (L - r0 + 1) (by omega) (Nat.le_refl _) (by omega) (ch_congr hc (fun c => ⟨Or.inl, fun y => y.elim id fun ⟨v, h1, h2, _⟩ => absurd h1 (by omega)⟩) (fun _ => Iff.rfl) (fun _ _ _ _ => Iff.rfl) (fun _ _ _ => Iff.rfl) (fun _ _ _ => Iff.rfl)) hS)
end
end
section
/-! adopt: the flow graph of the enforced set -/
def FX (N : Nat) (us mk : Nat → Nat → Prop) (E : Int32) (p : Nat) (ex ou fd de up : Nat → Int32) : Prop :=
  p ≤ N ∧ Fps us mk (Hb E) p (fun i => tn (ex i)) (fun i => tn (ou (tn (ex i)))) ∧
  (∀ i, i < p → ex i = nI (tn (ex i))) ∧ (∀ c, Hb E c → ou c = nI (tn (ou c)) ∧ de (tn (ou c)) = nI c) ∧
  (∀ v, v < N → ∃ c, Hb E c ∧ tn (ou c) = v) ∧ (∀ c, c < 32 → ¬ Hb E c → ou c = -1) ∧
  (∀ c, Hb E c → ∀ d, Hb (fd c) d ↔ Hb E d ∧ d ≠ c ∧ us c (tn (ou d))) ∧
  (∀ c, Hb E c → ∀ w, Hb (up (tn (ou c))) w ↔ ∃ d, Hb E d ∧ d ≠ c ∧ us c (tn (ou d)) ∧ (w = tn (ou d) ∨ Hb (up (tn (ou d))) w))
theorem pe_fps {N : Nat} {us mk : Nat → Nat → Prop} {set : Int32} {p : Nat} {pi pv : Nat → Int32} (h : PeI N us mk set 0 p pi pv) : Fps us mk (Hb set) p (fun i => tn (pi (p - 1 - i))) (fun i => tn (pv (p - 1 - i))) := by
  refine ⟨fun i hi => ?_, fun c hc => ?_, fun i j hi hj hu hne => ?_⟩
  · have := h.1 (p - 1 - i) (by omega)
    exact ⟨this.1, this.2.2.1⟩
  · rcases h.2.1 c hc with z | ⟨i, hi, e⟩
    · exact absurd z hb_0
    · refine ⟨p - 1 - i, by omega, ?_⟩
      show tn (pi (p - 1 - (p - 1 - i))) = c
      rw [show p - 1 - (p - 1 - i) = i by omega]; exact e
  · have := h.2.2.2.2.1 (p - 1 - i) (p - 1 - j) (by omega) (by omega) hu (by omega)
    omega
section
variable {f_draftId f_editId f_firstStay f_n f_m f_allVariables f_live f_liveCount f_marked f_draftOpen f_enforced f_execCount f_walkKnown f_peelCount f_planCount : Int32} {f_nextStamp : Int64} {a_values a_before a_kinds a_strengths a_constants a_termCounts a_termVars a_termSigns a_termModes a_variableMasks a_outputMasks a_users a_makers a_ranked a_atStrength a_execIds a_outputs a_feeders a_determiner a_upstream a_walk a_agenda a_peelIds a_peelVars a_plan : Nat → Int32} {a_stamps : Nat → Int64}
variable {N : Nat}
theorem xl_trace (hN : N ≤ 10) (R : RX N a_termCounts a_termVars a_termModes a_variableMasks a_outputMasks a_users a_makers) (post : SX → Prop) {c o : Nat} (hc : c < 32) (ho : o < N)
    (hde : ∀ w, w < N → tn (a_determiner w) < 32 ∧ a_determiner w = nI (tn (a_determiner w)))
    {q : Nat} (eq : a_termCounts c = nI q) (hq : q ≤ 4) (hv : ∀ t, t < q → ∃ v, v < N ∧ a_termVars (4 * c + t) = nI v)
    (H : ∀ fe an, (∀ d, Hb fe d ↔ ∃ t w, t < q ∧ w < N ∧ a_termVars (4 * c + t) = nI w ∧ w ≠ o ∧ d = tn (a_determiner w)) → (∀ x, Hb an x ↔ ∃ t w, t < q ∧ w < N ∧ a_termVars (4 * c + t) = nI w ∧ w ≠ o ∧ (x = w ∨ Hb (a_upstream w) x)) → post (f_draftId, f_editId, f_firstStay, f_n, f_m, f_allVariables, f_nextStamp, f_live, f_liveCount, f_marked, f_draftOpen, f_enforced, f_execCount, f_walkKnown, f_peelCount, f_planCount, a_values, a_before, a_kinds, a_strengths, a_constants, a_termCounts, a_termVars, a_termSigns, a_termModes, a_variableMasks, a_outputMasks, a_stamps, a_users, a_makers, a_ranked, a_atStrength, a_execIds, a_outputs, upd a_feeders c fe, a_determiner, upd a_upstream o an, a_walk, a_agenda, a_peelIds, a_peelVars, a_plan)) :
    ∀ d i fe an fuel, i + d = q → d < fuel → (∀ d, Hb fe d ↔ ∃ t w, t < i ∧ w < N ∧ a_termVars (4 * c + t) = nI w ∧ w ≠ o ∧ d = tn (a_determiner w)) → (∀ x, Hb an x ↔ ∃ t w, t < i ∧ w < N ∧ a_termVars (4 * c + t) = nI w ∧ w ≠ o ∧ (x = w ∨ Hb (a_upstream w) x)) →
      wX_traceInputs_23 post (nI c) (nI o) (nI q) f_draftId f_editId f_firstStay f_n f_m f_allVariables f_nextStamp f_live f_liveCount f_marked f_draftOpen f_enforced f_execCount f_walkKnown f_peelCount f_planCount a_values a_before a_kinds a_strengths a_constants a_termCounts a_termVars a_termSigns a_termModes a_variableMasks a_outputMasks a_stamps a_users a_makers a_ranked a_atStrength a_execIds a_outputs a_feeders a_determiner a_upstream a_walk a_agenda a_peelIds a_peelVars a_plan fuel fe an (nI i) := by
  have ec : (nI c).toNatClampNeg = c := nI_clamp (by omega)
  have eo : (nI o).toNatClampNeg = o := nI_clamp (by omega)
  intro d
  induction d with
  | zero =>
    intro i fe an fuel hi hf h1 h2
    have e : i = q := by omega
    subst e
    cases fuel with
    | zero => omega
    | succ fuel => exact br_t (Int32.le_refl _) (And.intro (vp_in_nI hc (by omega)) (nm_r (e' := upd a_feeders c fe) (by rw [ec]) (And.intro (vp_in_nI (by omega) (by omega)) (nm_r (e' := upd a_upstream o an) (by rw [eo]) (H fe an h1 h2)))))
  | succ d ih =>
    intro i fe an fuel hi hf h1 h2
    cases fuel with
    | zero => omega
    | succ fuel =>
      obtain ⟨v, hvN, ev⟩ := hv i (by omega)
      have e4 : (nI c * 4 + nI i).toNatClampNeg = 4 * c + i := by rw [ix_x]; exact nI_clamp (by omega)
      have evv : (nI v).toNatClampNeg = v := nI_clamp (by omega)
      have i4 : vp_in (nI c * 4 + nI i) 128 := by rw [ix_x]; exact vp_in_nI (by omega) (by omega)
      have vv : vp_in (nI v) 10 := vp_in_nI (by omega) (by omega)
      obtain ⟨hd32, hdv⟩ := hde v hvN
      refine pk_le q i (fun h => absurd h (by omega)) (fun _ => And.intro i4 (nm_r (e' := nI v) (by rw [e4]; exact ev) (pk_eq v o (fun z => nm_r (nI_1 i) (ih (i + 1) fe an fuel (by omega) (by omega) ?_ ?_)) (fun z => And.intro vv (nm_r (e' := fe ||| ((1 : Int32) <<< (nI (tn (a_determiner v)) &&& 31))) (by rw [evv, ← hdv]) (And.intro vv (nm_r (e' := an ||| (((1 : Int32) <<< (nI v &&& 31)) ||| a_upstream v)) (by rw [evv]) (nm_r (nI_1 i) (ih (i + 1) _ _ fuel (by omega) (by omega) ?_ ?_)))))) rfl rfl (by omega) (by omega)))) rfl rfl (by omega) (by omega)
      · intro d
        rw [h1 d]
        constructor
        · rintro ⟨t, w, ht, h⟩
          exact ⟨t, w, by omega, h⟩
        · rintro ⟨t, w, ht, hw, e, hne, h⟩
          rcases Nat.lt_or_ge t i with y | y
          · exact ⟨t, w, y, hw, e, hne, h⟩
          · have : t = i := by omega
            subst this
            rw [ev, nI_eq (by omega) (by omega)] at e
            omega
      · intro d
        rw [h2 d]
        constructor
        · rintro ⟨t, w, ht, h⟩
          exact ⟨t, w, by omega, h⟩
        · rintro ⟨t, w, ht, hw, e, hne, h⟩
          rcases Nat.lt_or_ge t i with y | y
          · exact ⟨t, w, y, hw, e, hne, h⟩
          · have : t = i := by omega
            subst this
            rw [ev, nI_eq (by omega) (by omega)] at e
            omega
      · intro d
        rw [hb_or, hb_one hd32, h1 d]
        constructor
        · rintro (⟨t, w, ht, h⟩ | h)
          · exact ⟨t, w, by omega, h⟩
          · exact ⟨i, v, by omega, hvN, ev, z, h⟩
        · rintro ⟨t, w, ht, hw, e, hne, h⟩
          rcases Nat.lt_or_ge t i with y | y
          · exact Or.inl ⟨t, w, y, hw, e, hne, h⟩
          · have : t = i := by omega
            subst this
            rw [ev, nI_eq (by omega) (by omega)] at e
            subst e
            exact Or.inr h
      · intro x
        rw [hb_or, hb_or, hb_one (by omega), h2 x]
        constructor
        · rintro (⟨t, w, ht, h⟩ | h)
          · exact ⟨t, w, by omega, h⟩
          · exact ⟨i, v, by omega, hvN, ev, z, h⟩
        · rintro ⟨t, w, ht, hw, e, hne, h⟩
          rcases Nat.lt_or_ge t i with y | y
          · exact Or.inl ⟨t, w, y, hw, e, hne, h⟩
          · have : t = i := by omega
            subst this
            rw [ev, nI_eq (by omega) (by omega)] at e
            subst e
            exact Or.inr h
theorem xs_trace (hN : N ≤ 10) (R : RX N a_termCounts a_termVars a_termModes a_variableMasks a_outputMasks a_users a_makers) (post : SX → Prop) {c o : Nat} (hc : c < 32) (ho : o < N) (eo : a_outputs c = nI o)
    (hde : ∀ w, w < N → tn (a_determiner w) < 32 ∧ a_determiner w = nI (tn (a_determiner w)))
    (H : ∀ fe an, (∀ d, Hb fe d ↔ ∃ w, UX N a_users c w ∧ w ≠ o ∧ d = tn (a_determiner w)) → (∀ x, Hb an x ↔ ∃ w, UX N a_users c w ∧ w ≠ o ∧ (x = w ∨ Hb (a_upstream w) x)) → post (f_draftId, f_editId, f_firstStay, f_n, f_m, f_allVariables, f_nextStamp, f_live, f_liveCount, f_marked, f_draftOpen, f_enforced, f_execCount, f_walkKnown, f_peelCount, f_planCount, a_values, a_before, a_kinds, a_strengths, a_constants, a_termCounts, a_termVars, a_termSigns, a_termModes, a_variableMasks, a_outputMasks, a_stamps, a_users, a_makers, a_ranked, a_atStrength, a_execIds, a_outputs, upd a_feeders c fe, a_determiner, upd a_upstream o an, a_walk, a_agenda, a_peelIds, a_peelVars, a_plan)) : wpX_traceInputs post (f_draftId, f_editId, f_firstStay, f_n, f_m, f_allVariables, f_nextStamp, f_live, f_liveCount, f_marked, f_draftOpen, f_enforced, f_execCount, f_walkKnown, f_peelCount, f_planCount, a_values, a_before, a_kinds, a_strengths, a_constants, a_termCounts, a_termVars, a_termSigns, a_termModes, a_variableMasks, a_outputMasks, a_stamps, a_users, a_makers, a_ranked, a_atStrength, a_execIds, a_outputs, a_feeders, a_determiner, a_upstream, a_walk, a_agenda, a_peelIds, a_peelVars, a_plan) (nI c) := by
  have ec : (nI c).toNatClampNeg = c := nI_clamp (by omega)
  have vi : vp_in (nI c) 32 := vp_in_nI hc (by omega)
  obtain ⟨q, hq, eq, hv, _, h5, _⟩ := R c hc
  refine And.intro vi (nm_r (e' := nI o) (by rw [ec]; exact eo) (And.intro vi (nm_r (e' := nI q) (by rw [ec]; exact eq) (Exists.intro (q + 1) (xl_trace hN R post hc ho hde eq hq hv (fun fe an h1 h2 => H fe an (fun d => ?_) (fun x => ?_)) q 0 0 0 (q + 1) (by omega) (by omega) (fun d => ⟨fun h => absurd h hb_0, fun ⟨t, _, h, _⟩ => absurd h (by omega)⟩) (fun d => ⟨fun h => absurd h hb_0, fun ⟨t, _, h, _⟩ => absurd h (by omega)⟩))))))
  · rw [h1 d]
    constructor
    · rintro ⟨t, w, ht, hw, e, h⟩
      exact ⟨w, ⟨hw, (h5 w hw).mpr ⟨t, ht, e⟩⟩, h⟩
    · rintro ⟨w, hw, h⟩
      obtain ⟨t, ht, e⟩ := (h5 w hw.1).mp hw.2
      exact ⟨t, w, ht, hw.1, e, h⟩
  · rw [h2 x]
    constructor
    · rintro ⟨t, w, ht, hw, e, h⟩
      exact ⟨w, ⟨hw, (h5 w hw).mpr ⟨t, ht, e⟩⟩, h⟩
    · rintro ⟨w, hw, h⟩
      obtain ⟨t, ht, e⟩ := (h5 w hw.1).mp hw.2
      exact ⟨t, w, ht, hw.1, e, h⟩
theorem xl_ad134 (hN : N ≤ 10) (R : RX N a_termCounts a_termVars a_termModes a_variableMasks a_outputMasks a_users a_makers) (post : SX → Prop) {E : Int32} {p : Nat} {xs os : Nat → Nat} (hp : p ≤ N)
    (F : Fps (UX N a_users) (UX N a_makers) (Hb E) p xs os) (hs : ∀ v, v < N → ∃ i, i < p ∧ os i = v) (hep : f_execCount = nI p)
    (hx : ∀ i, i < p → a_execIds i = nI (xs i) ∧ a_outputs (xs i) = nI (os i) ∧ a_determiner (os i) = nI (xs i))
    (H : ∀ fd up, (∀ j, j < p → ∀ d, Hb (fd (xs j)) d ↔ ∃ w, UX N a_users (xs j) w ∧ w ≠ os j ∧ d = tn (a_determiner w)) → (∀ j, j < p → ∀ x, Hb (up (os j)) x ↔ ∃ w, UX N a_users (xs j) w ∧ w ≠ os j ∧ (x = w ∨ Hb (up w) x)) → post (f_draftId, f_editId, f_firstStay, f_n, f_m, f_allVariables, f_nextStamp, f_live, f_liveCount, f_marked, f_draftOpen, f_enforced, f_execCount, f_walkKnown, f_peelCount, f_planCount, a_values, a_before, a_kinds, a_strengths, a_constants, a_termCounts, a_termVars, a_termSigns, a_termModes, a_variableMasks, a_outputMasks, a_stamps, a_users, a_makers, a_ranked, a_atStrength, a_execIds, a_outputs, fd, a_determiner, up, a_walk, a_agenda, a_peelIds, a_peelVars, a_plan)) :
    ∀ d i fd up fuel, i + d = p → d < fuel → (∀ j, j < i → ∀ d, Hb (fd (xs j)) d ↔ ∃ w, UX N a_users (xs j) w ∧ w ≠ os j ∧ d = tn (a_determiner w)) → (∀ j, j < i → ∀ x, Hb (up (os j)) x ↔ ∃ w, UX N a_users (xs j) w ∧ w ≠ os j ∧ (x = w ∨ Hb (up w) x)) →
      wX_adopt_134 post fuel (nI i) f_draftId f_editId f_firstStay f_n f_m f_allVariables f_nextStamp f_live f_liveCount f_marked f_draftOpen f_enforced f_execCount f_walkKnown f_peelCount f_planCount a_values a_before a_kinds a_strengths a_constants a_termCounts a_termVars a_termSigns a_termModes a_variableMasks a_outputMasks a_stamps a_users a_makers a_ranked a_atStrength a_execIds a_outputs fd a_determiner up a_walk a_agenda a_peelIds a_peelVars a_plan := by
  have RP' := rx_rp hN R
  have hxs : ∀ i, i < p → xs i < 32 := fun i hi => hb_lt (F.1 i hi).1
  have hos : ∀ i, i < p → os i < N := fun i hi => (F.1 i hi).2.1
  have hde : ∀ w, w < N → tn (a_determiner w) < 32 ∧ a_determiner w = nI (tn (a_determiner w)) := fun w hw => by
    obtain ⟨i, hi, e⟩ := hs w hw
    have h1 := (hx i hi).2.2
    have h2 := hxs i hi
    rw [e] at h1
    rw [h1, tn_nI (by omega)]
    exact ⟨h2, rfl⟩
  intro d
  induction d with
  | zero =>
    intro i fd up fuel hi hf h1 h2
    have e : i = p := by omega
    subst e
    cases fuel with
    | zero => omega
    | succ fuel => exact br_t (by rw [hep]; exact Int32.le_refl _) (H fd up h1 h2)
  | succ d ih =>
    intro i fd up fuel hi hf h1 h2
    cases fuel with
    | zero => omega
    | succ fuel =>
      have ei : (nI i).toNatClampNeg = i := nI_clamp (by omega)
      have hip : i < p := by omega
      obtain ⟨e1, e2, e3⟩ := hx i hip
      refine pk_le p i (fun h => absurd h (by omega)) (fun _ => And.intro (vp_in_nI (by omega) (by omega)) ?_) hep rfl (by omega) (by omega)
      rw [ei, e1]
      refine xs_trace hN R _ (hxs i hip) (hos i hip) e2 hde fun fe an hfe han => nm_r (nI_1 i) (ih (i + 1) _ _ fuel (by omega) (by omega) (fun j hj d => ?_) (fun j hj x => ?_))
      · rcases Nat.lt_or_ge j i with y | y
        · rw [pk_un (fun q => by have := fp_xs F RP'.1 (by omega) hip q; omega)]
          exact h1 j y d
        · have : j = i := by omega
          subst this
          rw [pk_us]
          exact hfe d
      · have key : ∀ j, j ≤ i → ∀ w, UX N a_users (xs j) w → w ≠ os j → upd up (os i) an w = up w := by
          intro j hj w hw hne
          refine pk_un fun q => ?_
          have hlt := F.2.2 i j hip (by omega) (by rw [← q]; exact hw) (fun r => hne (by rw [q, r]))
          omega
        rcases Nat.lt_or_ge j i with y | y
        · rw [pk_un (fun q => by have := fp_os F RP'.1 (by omega) hip q; omega), h2 j y x]
          constructor
          · rintro ⟨w, hw, hne, h⟩
            exact ⟨w, hw, hne, by rw [key j (by omega) w hw hne]; exact h⟩
          · rintro ⟨w, hw, hne, h⟩
            exact ⟨w, hw, hne, by rw [key j (by omega) w hw hne] at h; exact h⟩
        · have : j = i := by omega
          subst this
          rw [pk_us, han x]
          constructor
          · rintro ⟨w, hw, hne, h⟩
            exact ⟨w, hw, hne, by rw [key j (by omega) w hw hne]; exact h⟩
          · rintro ⟨w, hw, hne, h⟩
            exact ⟨w, hw, hne, by rw [key j (by omega) w hw hne] at h; exact h⟩
theorem xl_ad67 (hN : N ≤ 10) (R : RX N a_termCounts a_termVars a_termModes a_variableMasks a_outputMasks a_users a_makers) (post : SX → Prop) {E : Int32} {p : Nat} {xs os : Nat → Nat} (hp : p ≤ N)
    (F : Fps (UX N a_users) (UX N a_makers) (Hb E) p xs os) (hs : ∀ v, v < N → ∃ i, i < p ∧ os i = v) (hep : f_execCount = nI p)
    (hpi : ∀ i, i < p → a_peelIds (p - 1 - i) = nI (xs i) ∧ a_peelVars (p - 1 - i) = nI (os i))
    (H : ∀ ex ou fd de up, FX N (UX N a_users) (UX N a_makers) E p ex ou fd de up → post (f_draftId, f_editId, f_firstStay, f_n, f_m, f_allVariables, f_nextStamp, f_live, f_liveCount, f_marked, f_draftOpen, f_enforced, f_execCount, f_walkKnown, f_peelCount, f_planCount, a_values, a_before, a_kinds, a_strengths, a_constants, a_termCounts, a_termVars, a_termSigns, a_termModes, a_variableMasks, a_outputMasks, a_stamps, a_users, a_makers, a_ranked, a_atStrength, ex, ou, fd, de, up, a_walk, a_agenda, a_peelIds, a_peelVars, a_plan)) :
    ∀ d i ex ou de fuel, i + d = p → d < fuel → (∀ j, j < i → ex j = nI (xs j) ∧ ou (xs j) = nI (os j) ∧ de (os j) = nI (xs j)) → (∀ c, c < 32 → (∀ j, j < i → xs j ≠ c) → ou c = -1) →
      wX_adopt_67 post f_draftId f_editId f_firstStay f_n f_m f_allVariables f_nextStamp f_live f_liveCount f_marked f_draftOpen f_enforced f_execCount f_walkKnown f_peelCount f_planCount fuel (nI i) a_values a_before a_kinds a_strengths a_constants a_termCounts a_termVars a_termSigns a_termModes a_variableMasks a_outputMasks a_stamps a_users a_makers a_ranked a_atStrength ex ou a_feeders de a_upstream a_walk a_agenda a_peelIds a_peelVars a_plan := by
  have RP' := rx_rp hN R
  have hxs : ∀ i, i < p → xs i < 32 := fun i hi => hb_lt (F.1 i hi).1
  have hos : ∀ i, i < p → os i < N := fun i hi => (F.1 i hi).2.1
  intro d
  induction d with
  | zero =>
    intro i ex ou de fuel hi hf h1 h2
    have e : i = p := by omega
    subst e
    cases fuel with
    | zero => omega
    | succ fuel =>
      refine br_t (by rw [hep]; exact Int32.le_refl _) (Exists.intro (i + 1) (xl_ad134 hN R post hp F hs hep h1 (fun fd up hfd hup => H ex ou fd de up ?_) i 0 a_feeders a_upstream (i + 1) (by omega) (by omega) (fun j hj => by omega) (fun j hj => by omega)))
      have ex1 : ∀ j, j < i → tn (ex j) = xs j := fun j hj => by rw [(h1 j hj).1]; exact tn_nI (by have := hxs j hj; omega)
      have ou1 : ∀ j, j < i → tn (ou (xs j)) = os j := fun j hj => by rw [(h1 j hj).2.1]; exact tn_nI (by have := hos j hj; omega)
      have de1 : ∀ j, j < i → tn (de (os j)) = xs j := fun j hj => by rw [(h1 j hj).2.2]; exact tn_nI (by have := hxs j hj; omega)
      have fw : ∀ c d, Hb E c → ((∃ w, UX N a_users c w ∧ w ≠ tn (ou c) ∧ d = tn (de w)) ↔ Hb E d ∧ d ≠ c ∧ UX N a_users c (tn (ou d))) := by
        intro c d hc
        obtain ⟨j, hj, e⟩ := F.2.1 c hc
        subst e
        constructor
        · rintro ⟨w, hw, hne, h⟩
          obtain ⟨l, hl, e⟩ := hs w hw.1
          subst e
          rw [de1 l hl] at h
          subst h
          refine ⟨(F.1 l hl).1, fun q => hne ?_, by rw [ou1 l hl]; exact hw⟩
          rw [← q, ou1 l hl]
        · rintro ⟨hd, hne, h⟩
          obtain ⟨l, hl, e⟩ := F.2.1 d hd
          subst e
          rw [ou1 l hl] at h
          refine ⟨os l, h, fun q => hne ?_, (de1 l hl).symm⟩
          rw [ou1 j hj] at q
          rw [fp_os F RP'.1 hl hj q]
      refine ⟨hp, ⟨fun j hj => ?_, fun c hc => ?_, fun j l hj hl hu hne => ?_⟩, fun j hj => by rw [ex1 j hj]; exact (h1 j hj).1, fun c hc => ?_, fun v hv => ?_, fun c hc hE => h2 c hc fun j hj e => hE (e ▸ (F.1 j hj).1), fun c hc d => ?_, fun c hc w => ?_⟩
      · show Hb E (tn (ex j)) ∧ UX N a_makers (tn (ex j)) (tn (ou (tn (ex j))))
        rw [ex1 j hj, ou1 j hj]; exact F.1 j hj
      · obtain ⟨j, hj, e⟩ := F.2.1 c hc
        exact ⟨j, hj, by show tn (ex j) = c; rw [ex1 j hj]; exact e⟩
      · have hu' : UX N a_users (tn (ex l)) (tn (ou (tn (ex j)))) := hu
        rw [ex1 l hl, ex1 j hj, ou1 j hj] at hu'
        exact F.2.2 j l hj hl hu' hne
      · obtain ⟨j, hj, e⟩ := F.2.1 c hc
        subst e
        rw [ou1 j hj]
        exact ⟨(h1 j hj).2.1, (h1 j hj).2.2⟩
      · obtain ⟨j, hj, e⟩ := hs v hv
        exact ⟨xs j, (F.1 j hj).1, by rw [ou1 j hj]; exact e⟩
      · rw [← fw c d hc]
        obtain ⟨j, hj, e⟩ := F.2.1 c hc
        subst e
        rw [hfd j hj d, ou1 j hj]
      · obtain ⟨j, hj, e⟩ := F.2.1 c hc
        subst e
        rw [ou1 j hj, hup j hj w]
        constructor
        · rintro ⟨x, hx, hne, h⟩
          obtain ⟨l, hl, e⟩ := hs x hx.1
          subst e
          have := (fw (xs j) (xs l) hc).mp ⟨os l, hx, by rw [ou1 j hj]; exact hne, (de1 l hl).symm⟩
          exact ⟨xs l, this.1, this.2.1, this.2.2, by rw [ou1 l hl]; exact h⟩
        · rintro ⟨d, hd, hne, hu, h⟩
          obtain ⟨l, hl, e⟩ := F.2.1 d hd
          subst e
          rw [ou1 l hl] at hu h
          refine ⟨os l, hu, fun q => hne ?_, h⟩
          rw [fp_os F RP'.1 hl hj q]
  | succ d ih =>
    intro i ex ou de fuel hi hf h1 h2
    cases fuel with
    | zero => omega
    | succ fuel =>
      have hip : i < p := by omega
      have hxi := hxs i hip
      have hoi := hos i hip
      obtain ⟨e1, e2⟩ := hpi i hip
      have es : (f_execCount - 1) - nI i = nI (p - 1 - i) := by
        rw [hep, show (1 : Int32) = nI 1 from rfl, pk_sub (by omega), pk_sub (by omega)]
      have vs : vp_in (nI (p - 1 - i)) 32 := vp_in_nI (by omega) (by omega)
      have cs : (nI (p - 1 - i)).toNatClampNeg = p - 1 - i := nI_clamp (by omega)
      have ci : (nI i).toNatClampNeg = i := nI_clamp (by omega)
      have cx : (nI (xs i)).toNatClampNeg = xs i := nI_clamp (by omega)
      have co : (nI (os i)).toNatClampNeg = os i := nI_clamp (by omega)
      refine pk_le p i (fun h => absurd h (by omega)) (fun _ => nm_r es (And.intro vs (nm_r (e' := nI (xs i)) (by rw [cs]; exact e1) (And.intro vs (nm_r (e' := nI (os i)) (by rw [cs]; exact e2) (And.intro (vp_in_nI (by omega) (by omega)) (nm_r (e' := upd ex i (nI (xs i))) (by rw [ci]) (And.intro (vp_in_nI hxi (by omega)) (nm_r (e' := upd ou (xs i) (nI (os i))) (by rw [cx]) (And.intro (vp_in_nI (by omega) (by omega)) (nm_r (e' := upd de (os i) (nI (xs i))) (by rw [co]) (nm_r (nI_1 i) (ih (i + 1) _ _ _ fuel (by omega) (by omega) (fun j hj => ?_) (fun c hc h => ?_)))))))))))))) hep rfl (by omega) (by omega)
      · rcases Nat.lt_or_ge j i with y | y
        · obtain ⟨a, b, g⟩ := h1 j y
          refine ⟨by rw [pk_un (by omega)]; exact a, ?_, ?_⟩
          · rw [pk_un (fun q => by have := fp_xs F RP'.1 (by omega) hip q; omega)]; exact b
          · rw [pk_un (fun q => by have := fp_os F RP'.1 (by omega) hip q; omega)]; exact g
        · have : j = i := by omega
          subst this
          exact ⟨pk_us, pk_us, pk_us⟩
      · rw [pk_un (fun q => h i (by omega) q.symm)]
        exact h2 c hc fun j hj => h j (by omega)
theorem xl_ad31 (post : SX → Prop) (H : ∀ ou fd, (∀ c, c < 32 → ou c = -1) → ∃ n67, wX_adopt_67 post f_draftId f_editId f_firstStay f_n f_m f_allVariables f_nextStamp f_live f_liveCount f_marked f_draftOpen f_enforced f_peelCount f_walkKnown f_peelCount f_planCount n67 0 a_values a_before a_kinds a_strengths a_constants a_termCounts a_termVars a_termSigns a_termModes a_variableMasks a_outputMasks a_stamps a_users a_makers a_ranked a_atStrength a_execIds ou fd a_determiner a_upstream a_walk a_agenda a_peelIds a_peelVars a_plan) :
    ∀ d i ou fd fuel, i + d = 32 → d < fuel → (∀ c, c < i → ou c = -1) → wX_adopt_31 post f_draftId f_editId f_firstStay f_n f_m f_allVariables f_nextStamp f_live f_liveCount f_marked f_draftOpen f_enforced f_execCount f_walkKnown f_peelCount f_planCount fuel (nI i) a_values a_before a_kinds a_strengths a_constants a_termCounts a_termVars a_termSigns a_termModes a_variableMasks a_outputMasks a_stamps a_users a_makers a_ranked a_atStrength a_execIds ou fd a_determiner a_upstream a_walk a_agenda a_peelIds a_peelVars a_plan := by
  intro d
  induction d with
  | zero =>
    intro i ou fd fuel hi hf h
    have e : i = 32 := by omega
    subst e
    cases fuel with
    | zero => omega
    | succ fuel => exact br_t (by decide) (H ou fd h)
  | succ d ih =>
    intro i ou fd fuel hi hf h
    cases fuel with
    | zero => omega
    | succ fuel =>
      have ci : (nI i).toNatClampNeg = i := nI_clamp (by omega)
      have vi : vp_in (nI i) 32 := vp_in_nI (by omega) (by omega)
      refine pk_le 32 i (fun h => absurd h (by omega)) (fun _ => And.intro vi (nm_r (e' := upd ou i (-1)) (by rw [ci]) (And.intro vi (nm_r (e' := upd fd i 0) (by rw [ci]) (nm_r (nI_1 i) (ih (i + 1) _ _ fuel (by omega) (by omega) fun c hc => ?_)))))) rfl rfl (by omega) (by omega)
      rcases Nat.lt_or_ge c i with y | y
      · rw [pk_un (by omega)]; exact h c y
      · have : c = i := by omega
        subst this
        exact pk_us
theorem xs_adopt (hn : f_n = nI N) (hN : N ≤ 10) (hall : ∀ v, Hb f_allVariables v ↔ v < N) (R : RX N a_termCounts a_termVars a_termModes a_variableMasks a_outputMasks a_users a_makers) (post : SX → Prop) {E : Int32}
    (hS : Slv (UX N a_users) (UX N a_makers) (Hb E)) (hm : ∀ v, v < N → Hb E (22 + v) ∨ ¬ Slv (UX N a_users) (UX N a_makers) (fun c => Hb E c ∨ c = 22 + v))
    (hst : ∀ v, v < N → (∀ w, UX N a_makers (22 + v) w ↔ w = v) ∧ ∀ w, UX N a_users (22 + v) w → w = v)
    (hold : E = f_enforced → ∃ p, f_execCount = nI p ∧ FX N (UX N a_users) (UX N a_makers) E p a_execIds a_outputs a_feeders a_determiner a_upstream)
    (H : ∀ ec p ex ou fd de up pc ag pi pv, ec = nI p → FX N (UX N a_users) (UX N a_makers) E p ex ou fd de up → post (f_draftId, f_editId, f_firstStay, f_n, f_m, f_allVariables, f_nextStamp, f_live, f_liveCount, f_marked, f_draftOpen, E, ec, 0, pc, f_planCount, a_values, a_before, a_kinds, a_strengths, a_constants, a_termCounts, a_termVars, a_termSigns, a_termModes, a_variableMasks, a_outputMasks, a_stamps, a_users, a_makers, a_ranked, a_atStrength, ex, ou, fd, de, up, a_walk, ag, pi, pv, a_plan)) : wpX_adopt post (f_draftId, f_editId, f_firstStay, f_n, f_m, f_allVariables, f_nextStamp, f_live, f_liveCount, f_marked, f_draftOpen, f_enforced, f_execCount, f_walkKnown, f_peelCount, f_planCount, a_values, a_before, a_kinds, a_strengths, a_constants, a_termCounts, a_termVars, a_termSigns, a_termModes, a_variableMasks, a_outputMasks, a_stamps, a_users, a_makers, a_ranked, a_atStrength, a_execIds, a_outputs, a_feeders, a_determiner, a_upstream, a_walk, a_agenda, a_peelIds, a_peelVars, a_plan) E := by
  refine br_c (fun z => ?_) (fun z => ?_)
  · obtain ⟨p, h1, h2⟩ := hold z
    subst z
    exact H f_execCount p a_execIds a_outputs a_feeders a_determiner a_upstream f_peelCount a_agenda a_peelIds a_peelVars h1 h2
  · refine xs_peel hn hN (rx_rp hN R) _ (fun v h => (hall v).mp h) (fun v hv hno => absurd ((hall v).mpr hv) hno) fun rest p ag pi pv hP hs hp => ?_
    have e := (pe_slv hP hs).mpr hS
    subst e
    have F := pe_fps hP
    have hsur : ∀ v, v < N → ∃ i, i < p ∧ tn (pv (p - 1 - i)) = v := fun v hv => fp_cmp F (hm v hv) (hst v hv).1 (hst v hv).2
    refine Exists.intro 33 (xl_ad31 post (fun ou fd ho => Exists.intro (p + 1) ?_) 32 0 a_outputs a_feeders 33 (by omega) (by omega) (fun c hc => by omega))
    exact xl_ad67 hN R post hp F hsur rfl (fun i hi => ⟨(hP.1 (p - 1 - i) (by omega)).2.2.2.1, (hP.1 (p - 1 - i) (by omega)).2.2.2.2⟩) (fun ex ou' fd' de up hF => H (nI p) p ex ou' fd' de up (nI p) ag pi pv rfl hF) p 0 a_execIds ou a_determiner (p + 1) (by omega) (by omega) (fun j hj => by omega) (fun c hc _ => ho c hc)
end
end
section
/-! the component: demanded, run, update -/
section
variable {f_draftId f_editId f_firstStay f_n f_m f_allVariables f_live f_liveCount f_marked f_draftOpen f_enforced f_execCount f_walkKnown f_peelCount f_planCount : Int32} {f_nextStamp : Int64} {a_values a_before a_kinds a_strengths a_constants a_termCounts a_termVars a_termSigns a_termModes a_variableMasks a_outputMasks a_users a_makers a_ranked a_atStrength a_execIds a_outputs a_feeders a_determiner a_upstream a_walk a_agenda a_peelIds a_peelVars a_plan : Nat → Int32} {a_stamps : Nat → Int64}
variable {N : Nat} {c o q t0 : Nat}
theorem xl_lin (hN : N ≤ 10) (post : Int32 → Prop) (hc : c < 32) (hq : q ≤ 4) (ht : t0 < q) (e0 : a_termVars (4 * c + t0) = nI o) (ho : o < N) (hv : ∀ t, t < q → ∃ v, v < N ∧ a_termVars (4 * c + t) = nI v) (hd : ∀ t, t < q → t ≠ t0 → a_termVars (4 * c + t) ≠ nI o) {K : Int32}
    (H : post (a_termSigns (4 * c + t0) * dmA 1 a_termVars a_termSigns a_values (4 * c) t0 q K)) :
    ∀ d i x3 x4 fuel, i + d = q → d < fuel → x3 = dmA 1 a_termVars a_termSigns a_values (4 * c) t0 i K → (t0 < i → x4 = a_termSigns (4 * c + t0)) → wX_solveLinear_21 post (nI c) (nI o) (nI q) f_draftId f_editId f_firstStay f_n f_m f_allVariables f_nextStamp f_live f_liveCount f_marked f_draftOpen f_enforced f_execCount f_walkKnown f_peelCount f_planCount a_values a_before a_kinds a_strengths a_constants a_termCounts a_termVars a_termSigns a_termModes a_variableMasks a_outputMasks a_stamps a_users a_makers a_ranked a_atStrength a_execIds a_outputs a_feeders a_determiner a_upstream a_walk a_agenda a_peelIds a_peelVars a_plan fuel x3 x4 (nI i) := by
  intro d
  induction d with
  | zero =>
    intro i x3 x4 fuel hi hf h3 h4
    have e : i = q := by omega
    subst e
    cases fuel with
    | zero => omega
    | succ fuel =>
      refine br_t (Int32.le_refl _) ?_
      rw [h3, h4 ht]; exact H
  | succ d ih =>
    intro i x3 x4 fuel hi hf h3 h4
    cases fuel with
    | zero => omega
    | succ fuel =>
      obtain ⟨v, hvN, ev⟩ := hv i (by omega)
      have e4 : (nI (4 * c + i)).toNatClampNeg = 4 * c + i := nI_clamp (by omega)
      have i4 : vp_in (nI (4 * c + i)) 128 := vp_in_nI (by omega) (by omega)
      have evv : (nI v).toNatClampNeg = v := nI_clamp (by omega)
      refine pk_le q i (fun h => absurd h (by omega)) (fun _ => nm_r (ix_x c i) (And.intro i4 (nm_r (e' := nI v) (by rw [e4]; exact ev) (pk_eq v o (fun z => And.intro i4 (nm_e (nm_r (nI_1 i) (ih (i + 1) _ _ fuel (by omega) (by omega) ?_ (fun _ => ?_))))) (fun z => And.intro i4 (And.intro (vp_in_nI (by omega) (by omega)) (nm_e (nm_r (nI_1 i) (ih (i + 1) _ _ fuel (by omega) (by omega) ?_ (fun h => h4 ?_)))))) rfl rfl (by omega) (by omega))))) rfl rfl (by omega) (by omega)
      · have : i = t0 := Classical.byContradiction fun y => hd i (by omega) y (by rw [ev, z])
        rw [dm_s0 this]; exact h3
      · have : i = t0 := Classical.byContradiction fun y => hd i (by omega) y (by rw [ev, z])
        rw [e4, this]
      · have hne : i ≠ t0 := fun y => z (by rw [y, e0, nI_eq (by omega) (by omega)] at ev; omega)
        rw [dm_s1 hne (u := a_values v) (by rw [ev, tn_nI (by omega)]), e4, evv, h3]
      · have hne : i ≠ t0 := fun y => z (by rw [y, e0, nI_eq (by omega) (by omega)] at ev; omega)
        omega
theorem xl_xor (hN : N ≤ 10) (post : Int32 → Prop) (hc : c < 32) (hq : q ≤ 4) (ht : t0 < q) (e0 : a_termVars (4 * c + t0) = nI o) (ho : o < N) (hv : ∀ t, t < q → ∃ v, v < N ∧ a_termVars (4 * c + t) = nI v) (hd : ∀ t, t < q → t ≠ t0 → a_termVars (4 * c + t) ≠ nI o) {K : Int32}
    (H : post (dmA 2 a_termVars a_termSigns a_values (4 * c) t0 q K)) :
    ∀ d i x3 fuel, i + d = q → d < fuel → x3 = dmA 2 a_termVars a_termSigns a_values (4 * c) t0 i K → wX_solveXor_18 post (nI c) (nI o) (nI q) f_draftId f_editId f_firstStay f_n f_m f_allVariables f_nextStamp f_live f_liveCount f_marked f_draftOpen f_enforced f_execCount f_walkKnown f_peelCount f_planCount a_values a_before a_kinds a_strengths a_constants a_termCounts a_termVars a_termSigns a_termModes a_variableMasks a_outputMasks a_stamps a_users a_makers a_ranked a_atStrength a_execIds a_outputs a_feeders a_determiner a_upstream a_walk a_agenda a_peelIds a_peelVars a_plan fuel x3 (nI i) := by
  intro d
  induction d with
  | zero =>
    intro i x3 fuel hi hf h3
    have e : i = q := by omega
    subst e
    cases fuel with
    | zero => omega
    | succ fuel =>
      refine br_t (Int32.le_refl _) ?_
      rw [h3]; exact H
  | succ d ih =>
    intro i x3 fuel hi hf h3
    cases fuel with
    | zero => omega
    | succ fuel =>
      obtain ⟨v, hvN, ev⟩ := hv i (by omega)
      have e4 : (nI c * 4 + nI i).toNatClampNeg = 4 * c + i := by rw [ix_x]; exact nI_clamp (by omega)
      have i4 : vp_in (nI c * 4 + nI i) 128 := by rw [ix_x]; exact vp_in_nI (by omega) (by omega)
      have evv : (nI v).toNatClampNeg = v := nI_clamp (by omega)
      refine pk_le q i (fun h => absurd h (by omega)) (fun _ => And.intro i4 (nm_r (e' := nI v) (by rw [e4]; exact ev) (pk_eq v o (fun z => nm_r (nI_1 i) (ih (i + 1) _ fuel (by omega) (by omega) ?_)) (fun z => And.intro (vp_in_nI (by omega) (by omega)) (nm_e (nm_r (nI_1 i) (ih (i + 1) _ fuel (by omega) (by omega) ?_)))) rfl rfl (by omega) (by omega)))) rfl rfl (by omega) (by omega)
      · have : i = t0 := Classical.byContradiction fun y => hd i (by omega) y (by rw [ev, z])
        rw [dm_s0 this]; exact h3
      · have hne : i ≠ t0 := fun y => z (by rw [y, e0, nI_eq (by omega) (by omega)] at ev; omega)
        rw [dm_s2 hne (u := a_values v) (by rw [ev, tn_nI (by omega)]), evv, h3]
theorem xl_prod (hN : N ≤ 10) (post : Int32 → Prop) (hc : c < 32) (hq : q ≤ 4) (hv : ∀ t, t < q → ∃ v, v < N ∧ a_termVars (4 * c + t) = nI v) {K : Int32}
    (H : post (dmA 3 a_termVars a_termSigns a_values (4 * c) 0 q K)) :
    ∀ d i x3 fuel, i + d = q → 0 < i → d < fuel → x3 = dmA 3 a_termVars a_termSigns a_values (4 * c) 0 i K → wX_product_17 post (nI c) (nI q) f_draftId f_editId f_firstStay f_n f_m f_allVariables f_nextStamp f_live f_liveCount f_marked f_draftOpen f_enforced f_execCount f_walkKnown f_peelCount f_planCount a_values a_before a_kinds a_strengths a_constants a_termCounts a_termVars a_termSigns a_termModes a_variableMasks a_outputMasks a_stamps a_users a_makers a_ranked a_atStrength a_execIds a_outputs a_feeders a_determiner a_upstream a_walk a_agenda a_peelIds a_peelVars a_plan fuel x3 (nI i) := by
  intro d
  induction d with
  | zero =>
    intro i x3 fuel hi h0 hf h3
    have e : i = q := by omega
    subst e
    cases fuel with
    | zero => omega
    | succ fuel =>
      refine br_t (Int32.le_refl _) ?_
      rw [h3]; exact H
  | succ d ih =>
    intro i x3 fuel hi h0 hf h3
    cases fuel with
    | zero => omega
    | succ fuel =>
      obtain ⟨v, hvN, ev⟩ := hv i (by omega)
      have e4 : (nI c * 4 + nI i).toNatClampNeg = 4 * c + i := by rw [ix_x]; exact nI_clamp (by omega)
      have i4 : vp_in (nI c * 4 + nI i) 128 := by rw [ix_x]; exact vp_in_nI (by omega) (by omega)
      have evv : (nI v).toNatClampNeg = v := nI_clamp (by omega)
      refine pk_le q i (fun h => absurd h (by omega)) (fun _ => And.intro i4 (And.intro (by rw [e4, ev]; exact vp_in_nI (by omega) (by omega)) (nm_e (nm_r (nI_1 i) (ih (i + 1) _ fuel (by omega) (by omega) (by omega) ?_))))) rfl rfl (by omega) (by omega)
      rw [dm_s3 (by omega) (u := a_values v) (by rw [ev, tn_nI (by omega)]), e4, ev, evv, h3]
theorem xl_max (hN : N ≤ 10) (post : Int32 → Prop) (hc : c < 32) (hq : q ≤ 4) (hv : ∀ t, t < q → ∃ v, v < N ∧ a_termVars (4 * c + t) = nI v) {K : Int32}
    (H : post (dmA 4 a_termVars a_termSigns a_values (4 * c) 0 q K)) :
    ∀ d i x3 fuel, i + d = q → 0 < i → d < fuel → x3 = dmA 4 a_termVars a_termSigns a_values (4 * c) 0 i K → wX_greatest_17 post (nI c) (nI q) f_draftId f_editId f_firstStay f_n f_m f_allVariables f_nextStamp f_live f_liveCount f_marked f_draftOpen f_enforced f_execCount f_walkKnown f_peelCount f_planCount a_values a_before a_kinds a_strengths a_constants a_termCounts a_termVars a_termSigns a_termModes a_variableMasks a_outputMasks a_stamps a_users a_makers a_ranked a_atStrength a_execIds a_outputs a_feeders a_determiner a_upstream a_walk a_agenda a_peelIds a_peelVars a_plan fuel x3 (nI i) := by
  intro d
  induction d with
  | zero =>
    intro i x3 fuel hi h0 hf h3
    have e : i = q := by omega
    subst e
    cases fuel with
    | zero => omega
    | succ fuel =>
      refine br_t (Int32.le_refl _) ?_
      rw [h3]; exact H
  | succ d ih =>
    intro i x3 fuel hi h0 hf h3
    cases fuel with
    | zero => omega
    | succ fuel =>
      obtain ⟨v, hvN, ev⟩ := hv i (by omega)
      have e4 : (nI c * 4 + nI i).toNatClampNeg = 4 * c + i := by rw [ix_x]; exact nI_clamp (by omega)
      have i4 : vp_in (nI c * 4 + nI i) 128 := by rw [ix_x]; exact vp_in_nI (by omega) (by omega)
      have evv : (nI v).toNatClampNeg = v := nI_clamp (by omega)
      have es := dm_s4 (t := i) (t0 := 0) (b := 4 * c) (x := K) (tv := a_termVars) (ts := a_termSigns) (val := a_values) (by omega) (u := a_values v) (by rw [ev, tn_nI (by omega)])
      refine pk_le q i (fun h => absurd h (by omega)) (fun _ => And.intro i4 (And.intro (by rw [e4, ev]; exact vp_in_nI (by omega) (by omega)) (nm_r (e' := a_values v) (by rw [e4, ev, evv]) (br_c (fun z => nm_r (nI_1 i) (ih (i + 1) _ fuel (by omega) (by omega) (by omega) ?_)) (fun z => nm_r (nI_1 i) (ih (i + 1) _ fuel (by omega) (by omega) (by omega) ?_)))))) rfl rfl (by omega) (by omega)
      · rw [es, ← h3, if_pos z]
      · rw [es, ← h3, if_neg z]
theorem xs_dem (hN : N ≤ 10) (post : Int32 → Prop) (h : EvOK N a_kinds a_termCounts a_termVars c o) (H : post (dmD a_kinds a_constants a_termCounts a_termVars a_termSigns c o a_values)) : wpX_demanded post (f_draftId, f_editId, f_firstStay, f_n, f_m, f_allVariables, f_nextStamp, f_live, f_liveCount, f_marked, f_draftOpen, f_enforced, f_execCount, f_walkKnown, f_peelCount, f_planCount, a_values, a_before, a_kinds, a_strengths, a_constants, a_termCounts, a_termVars, a_termSigns, a_termModes, a_variableMasks, a_outputMasks, a_stamps, a_users, a_makers, a_ranked, a_atStrength, a_execIds, a_outputs, a_feeders, a_determiner, a_upstream, a_walk, a_agenda, a_peelIds, a_peelVars, a_plan) (nI c) (nI o) := by
  obtain ⟨hc, ho, hk, q, t0, hq, eq, ht, e0, hv, hd, h34⟩ := h
  rw [dm_q (N := N) hq eq ht e0 hd] at H
  have ec : (nI c).toNatClampNeg = c := nI_clamp (by omega)
  have eo : (nI o).toNatClampNeg = o := nI_clamp (by omega)
  have vi : vp_in (nI c) 32 := vp_in_nI hc (by omega)
  unfold dmV at H
  refine And.intro vi (nm_r (e' := a_kinds c) (by rw [ec]) (br_c (fun z => ?_) (fun z1 => br_c (fun z => ?_) (fun z2 => br_c (fun z => ?_) (fun z3 => br_c (fun z => ?_) (fun z4 => And.intro (vp_in_nI (by omega) (by omega)) ?_))))))
  · rw [z, if_pos rfl, if_neg (by decide)] at H
    exact And.intro vi (nm_r (e' := a_constants c) (by rw [ec]) (And.intro vi (nm_r (e' := nI q) (by rw [ec]; exact eq) (Exists.intro (q + 1) (xl_lin hN _ hc hq ht e0 ho hv hd H q 0 _ 1 (q + 1) (by omega) (by omega) rfl fun h => by omega)))))
  · rw [z, if_neg (by decide), if_neg (by decide)] at H
    exact And.intro vi (nm_r (e' := a_constants c) (by rw [ec]) (And.intro vi (nm_r (e' := nI q) (by rw [ec]; exact eq) (Exists.intro (q + 1) (xl_xor hN _ hc hq ht e0 ho hv hd H q 0 _ (q + 1) (by omega) (by omega) rfl)))))
  · have t00 := h34 (Or.inl z)
    subst t00
    rw [z, if_neg (by decide), if_neg (by decide)] at H
    exact And.intro vi (nm_r (e' := a_constants c) (by rw [ec]) (And.intro vi (nm_r (e' := nI q) (by rw [ec]; exact eq) (Exists.intro q (xl_prod hN _ hc hq hv H (q - 1) 1 _ q (by omega) (by omega) (by omega) dm_one.symm)))))
  · have t00 := h34 (Or.inr z)
    subst t00
    rw [z, if_neg (by decide), if_neg (by decide)] at H
    exact And.intro vi (nm_r (e' := a_constants c) (by rw [ec]) (And.intro vi (nm_r (e' := nI q) (by rw [ec]; exact eq) (Exists.intro q (xl_max hN _ hc hq hv H (q - 1) 1 _ q (by omega) (by omega) (by omega) dm_one.symm)))))
  · have hk0 : a_kinds c = 0 := hk.elim id fun y => y.elim (fun y => absurd y z1) fun y => y.elim (fun y => absurd y z2) fun y => y.elim (fun y => absurd y z3) fun y => absurd y z4
    rw [hk0, if_neg (by decide), if_pos rfl, dmA_0 (by decide) (by decide) (by decide) (by decide), e0, tn_nI (by omega)] at H
    rw [eo]; exact H
theorem xs_run (hn : f_n = nI N) (hN : N ≤ 10) (post : SX → Prop) (h : EvOK N a_kinds a_termCounts a_termVars c o) (H : post (f_draftId, f_editId, f_firstStay, f_n, f_m, f_allVariables, f_nextStamp, f_live, f_liveCount, f_marked, f_draftOpen, f_enforced, f_execCount, f_walkKnown, f_peelCount, f_planCount, upd a_values o (dmD a_kinds a_constants a_termCounts a_termVars a_termSigns c o a_values), a_before, a_kinds, a_strengths, a_constants, a_termCounts, a_termVars, a_termSigns, a_termModes, a_variableMasks, a_outputMasks, a_stamps, a_users, a_makers, a_ranked, a_atStrength, a_execIds, a_outputs, a_feeders, a_determiner, a_upstream, a_walk, a_agenda, a_peelIds, a_peelVars, a_plan)) : wpX_run post (f_draftId, f_editId, f_firstStay, f_n, f_m, f_allVariables, f_nextStamp, f_live, f_liveCount, f_marked, f_draftOpen, f_enforced, f_execCount, f_walkKnown, f_peelCount, f_planCount, a_values, a_before, a_kinds, a_strengths, a_constants, a_termCounts, a_termVars, a_termSigns, a_termModes, a_variableMasks, a_outputMasks, a_stamps, a_users, a_makers, a_ranked, a_atStrength, a_execIds, a_outputs, a_feeders, a_determiner, a_upstream, a_walk, a_agenda, a_peelIds, a_peelVars, a_plan) (nI c) (nI o) := by
  have ho := h.2.1
  have eo : (nI o).toNatClampNeg = o := nI_clamp (by omega)
  refine br_f (nI_pos (by omega)) (br_t (by rw [hn]; exact nI_lt ho (by omega)) (xs_dem hN _ h (And.intro (vp_in_nI (by omega) (by omega)) (nm_r (e' := upd a_values o (dmD a_kinds a_constants a_termCounts a_termVars a_termSigns c o a_values)) (by rw [eo]) H))))
theorem dm_us (hN : N ≤ 10) (R : RX N a_termCounts a_termVars a_termModes a_variableMasks a_outputMasks a_users a_makers) (h : EvOK N a_kinds a_termCounts a_termVars c o) (f g : Nat → Int32) (hf : ∀ w, UX N a_users c w → f w = g w) :
    dmD a_kinds a_constants a_termCounts a_termVars a_termSigns c o f = dmD a_kinds a_constants a_termCounts a_termVars a_termSigns c o g :=
  dm_congr h rfl rfl rfl (fun _ _ => ⟨rfl, rfl⟩) (fun w hw => hf w ((rx_u hN R).mpr ⟨h.1, hw.1, hw.2⟩)) hN
theorem xl_upd (hn : f_n = nI N) (hN : N ≤ 10) (R : RX N a_termCounts a_termVars a_termModes a_variableMasks a_outputMasks a_users a_makers) (post : SX → Prop) {S : Nat → Prop} {p : Nat} {xs os : Nat → Nat} {v0 : Nat → Int32} (hp : p ≤ N)
    (F : Fps (UX N a_users) (UX N a_makers) S p xs os) (hs : ∀ v, v < N → ∃ i, i < p ∧ os i = v) (hep : f_execCount = nI p)
    (hx : ∀ i, i < p → a_execIds i = nI (xs i) ∧ a_outputs (xs i) = nI (os i)) (hev : ∀ i, i < p → EvOK N a_kinds a_termCounts a_termVars (xs i) (os i))
    (H : ∀ val, VI xs os (dmD a_kinds a_constants a_termCounts a_termVars a_termSigns) v0 p val → post (f_draftId, f_editId, f_firstStay, f_n, f_m, f_allVariables, f_nextStamp, f_live, f_liveCount, f_marked, f_draftOpen, f_enforced, f_execCount, f_walkKnown, f_peelCount, f_planCount, val, a_before, a_kinds, a_strengths, a_constants, a_termCounts, a_termVars, a_termSigns, a_termModes, a_variableMasks, a_outputMasks, a_stamps, a_users, a_makers, a_ranked, a_atStrength, a_execIds, a_outputs, a_feeders, a_determiner, a_upstream, a_walk, a_agenda, a_peelIds, a_peelVars, a_plan)) :
    ∀ d i val fuel, i + d = p → d < fuel → VI xs os (dmD a_kinds a_constants a_termCounts a_termVars a_termSigns) v0 i val → wX_update_2 post fuel (nI i) f_draftId f_editId f_firstStay f_n f_m f_allVariables f_nextStamp f_live f_liveCount f_marked f_draftOpen f_enforced f_execCount f_walkKnown f_peelCount f_planCount val a_before a_kinds a_strengths a_constants a_termCounts a_termVars a_termSigns a_termModes a_variableMasks a_outputMasks a_stamps a_users a_makers a_ranked a_atStrength a_execIds a_outputs a_feeders a_determiner a_upstream a_walk a_agenda a_peelIds a_peelVars a_plan := by
  intro d
  induction d with
  | zero =>
    intro i val fuel hi hf h
    have e : i = p := by omega
    subst e
    cases fuel with
    | zero => omega
    | succ fuel => exact br_t (by rw [hep]; exact Int32.le_refl _) (H val h)
  | succ d ih =>
    intro i val fuel hi hf h
    cases fuel with
    | zero => omega
    | succ fuel =>
      have hip : i < p := by omega
      have ei : (nI i).toNatClampNeg = i := nI_clamp (by omega)
      have hxi := (hev i hip).1
      have ex : (nI (xs i)).toNatClampNeg = xs i := nI_clamp (by omega)
      refine pk_le p i (fun h => absurd h (by omega)) (fun _ => And.intro (vp_in_nI (by omega) (by omega)) (nm_r (e' := nI (xs i)) (by rw [ei]; exact (hx i hip).1) (And.intro (vp_in_nI hxi (by omega)) ?_))) hep rfl (by omega) (by omega)
      rw [ex, (hx i hip).2]
      exact xs_run hn hN _ (hev i hip) (nm_r (nI_1 i) (ih (i + 1) _ fuel (by omega) (by omega) (vi_step F (rx_rp hN R).1 (fun c v h => h.1) hs (fun i hi f g hf => dm_us hN R (hev i hi) f g hf) hip h)))
theorem xs_update (hn : f_n = nI N) (hN : N ≤ 10) (R : RX N a_termCounts a_termVars a_termModes a_variableMasks a_outputMasks a_users a_makers) (post : SX → Prop) {S : Nat → Prop} {p : Nat} {xs os : Nat → Nat} (hp : p ≤ N)
    (F : Fps (UX N a_users) (UX N a_makers) S p xs os) (hs : ∀ v, v < N → ∃ i, i < p ∧ os i = v) (hep : f_execCount = nI p)
    (hx : ∀ i, i < p → a_execIds i = nI (xs i) ∧ a_outputs (xs i) = nI (os i)) (hev : ∀ i, i < p → EvOK N a_kinds a_termCounts a_termVars (xs i) (os i))
    (H : ∀ val, Evl p xs os (dmD a_kinds a_constants a_termCounts a_termVars a_termSigns) a_values val → post (f_draftId, f_editId, f_firstStay, f_n, f_m, f_allVariables, f_nextStamp, f_live, f_liveCount, f_marked, f_draftOpen, f_enforced, f_execCount, f_walkKnown, f_peelCount, f_planCount, val, a_before, a_kinds, a_strengths, a_constants, a_termCounts, a_termVars, a_termSigns, a_termModes, a_variableMasks, a_outputMasks, a_stamps, a_users, a_makers, a_ranked, a_atStrength, a_execIds, a_outputs, a_feeders, a_determiner, a_upstream, a_walk, a_agenda, a_peelIds, a_peelVars, a_plan)) : wpX_update post (f_draftId, f_editId, f_firstStay, f_n, f_m, f_allVariables, f_nextStamp, f_live, f_liveCount, f_marked, f_draftOpen, f_enforced, f_execCount, f_walkKnown, f_peelCount, f_planCount, a_values, a_before, a_kinds, a_strengths, a_constants, a_termCounts, a_termVars, a_termSigns, a_termModes, a_variableMasks, a_outputMasks, a_stamps, a_users, a_makers, a_ranked, a_atStrength, a_execIds, a_outputs, a_feeders, a_determiner, a_upstream, a_walk, a_agenda, a_peelIds, a_peelVars, a_plan) :=
  Exists.intro (p + 1) (xl_upd hn hN R post hp F hs hep hx hev (v0 := a_values) (fun val h => H val h.1) p 0 a_values (p + 1) (by omega) (by omega) ⟨fun j hj => by omega, fun v _ => rfl⟩)
end
end
section
/-! the component: small tests, ranking -/
section
variable {f_draftId f_editId f_firstStay f_n f_m f_allVariables f_live f_liveCount f_marked f_draftOpen f_enforced f_execCount f_walkKnown f_peelCount f_planCount : Int32} {f_nextStamp : Int64} {a_values a_before a_kinds a_strengths a_constants a_termCounts a_termVars a_termSigns a_termModes a_variableMasks a_outputMasks a_users a_makers a_ranked a_atStrength a_execIds a_outputs a_feeders a_determiner a_upstream a_walk a_agenda a_peelIds a_peelVars a_plan : Nat → Int32} {a_stamps : Nat → Int64}
variable {N M L : Nat}
theorem xs_var_t (hn : f_n = nI N) (hN : N ≤ 10) (post : Int32 → Prop) {v : Nat} (hv : v < N) (H : post 1) : wpX_isVariable post (f_draftId, f_editId, f_firstStay, f_n, f_m, f_allVariables, f_nextStamp, f_live, f_liveCount, f_marked, f_draftOpen, f_enforced, f_execCount, f_walkKnown, f_peelCount, f_planCount, a_values, a_before, a_kinds, a_strengths, a_constants, a_termCounts, a_termVars, a_termSigns, a_termModes, a_variableMasks, a_outputMasks, a_stamps, a_users, a_makers, a_ranked, a_atStrength, a_execIds, a_outputs, a_feeders, a_determiner, a_upstream, a_walk, a_agenda, a_peelIds, a_peelVars, a_plan) (nI v) :=
  br_f (nI_pos (by omega)) (br_f (by rw [hn]; exact nI_ge hv (by omega)) H)
theorem xs_var_f (hn : f_n = nI N) (post : Int32 → Prop) {x : Int32} (hx : x < 0 ∨ nI N ≤ x) (H : post 0) : wpX_isVariable post (f_draftId, f_editId, f_firstStay, f_n, f_m, f_allVariables, f_nextStamp, f_live, f_liveCount, f_marked, f_draftOpen, f_enforced, f_execCount, f_walkKnown, f_peelCount, f_planCount, a_values, a_before, a_kinds, a_strengths, a_constants, a_termCounts, a_termVars, a_termSigns, a_termModes, a_variableMasks, a_outputMasks, a_stamps, a_users, a_makers, a_ranked, a_atStrength, a_execIds, a_outputs, a_feeders, a_determiner, a_upstream, a_walk, a_agenda, a_peelIds, a_peelVars, a_plan) x :=
  br_c (fun _ => H) (fun z => br_t (by rw [hn]; exact hx.elim (fun y => absurd y z) id) H)
theorem xs_str_t (post : Int32 → Prop) {s : Nat} (hs : s < 7) (H : post 1) : wpX_isStrength post (f_draftId, f_editId, f_firstStay, f_n, f_m, f_allVariables, f_nextStamp, f_live, f_liveCount, f_marked, f_draftOpen, f_enforced, f_execCount, f_walkKnown, f_peelCount, f_planCount, a_values, a_before, a_kinds, a_strengths, a_constants, a_termCounts, a_termVars, a_termSigns, a_termModes, a_variableMasks, a_outputMasks, a_stamps, a_users, a_makers, a_ranked, a_atStrength, a_execIds, a_outputs, a_feeders, a_determiner, a_upstream, a_walk, a_agenda, a_peelIds, a_peelVars, a_plan) (nI s) :=
  br_f (nI_pos (by omega)) (br_f (nI_nlt (b := s) (a := 6) (by omega) (by decide)) H)
theorem xs_str_f (post : Int32 → Prop) {x : Int32} (hx : x < 0 ∨ nI 7 ≤ x) (H : post 0) : wpX_isStrength post (f_draftId, f_editId, f_firstStay, f_n, f_m, f_allVariables, f_nextStamp, f_live, f_liveCount, f_marked, f_draftOpen, f_enforced, f_execCount, f_walkKnown, f_peelCount, f_planCount, a_values, a_before, a_kinds, a_strengths, a_constants, a_termCounts, a_termVars, a_termSigns, a_termModes, a_variableMasks, a_outputMasks, a_stamps, a_users, a_makers, a_ranked, a_atStrength, a_execIds, a_outputs, a_feeders, a_determiner, a_upstream, a_walk, a_agenda, a_peelIds, a_peelVars, a_plan) x := by
  refine br_c (fun _ => H) (fun z => br_t ?_ H)
  have h := hx.elim (fun y => absurd y z) id
  rw [Int32.le_iff_toInt_le, nI_toInt (by decide)] at h
  rw [Int32.lt_iff_toInt_lt]
  have : (6 : Int32).toInt = 6 := by decide
  omega
theorem xs_live_t (hm : f_m = nI M) (hM : M ≤ 20) (post : Int32 → Prop) {c : Nat} (hc : c < M) (hl : Hb f_live c) (H : post 1) : wpX_isLive post (f_draftId, f_editId, f_firstStay, f_n, f_m, f_allVariables, f_nextStamp, f_live, f_liveCount, f_marked, f_draftOpen, f_enforced, f_execCount, f_walkKnown, f_peelCount, f_planCount, a_values, a_before, a_kinds, a_strengths, a_constants, a_termCounts, a_termVars, a_termSigns, a_termModes, a_variableMasks, a_outputMasks, a_stamps, a_users, a_makers, a_ranked, a_atStrength, a_execIds, a_outputs, a_feeders, a_determiner, a_upstream, a_walk, a_agenda, a_peelIds, a_peelVars, a_plan) (nI c) :=
  br_f (nI_pos (by omega)) (br_f (by rw [hm]; exact nI_ge hc (by omega)) (br_f (fun z => (hb_t (by omega)).mp z hl) H))
/-- not live: out of range, or a free slot -/
def NL (M : Nat) (live x : Int32) : Prop := x < 0 ∨ nI M ≤ x ∨ ∃ c, c < M ∧ x = nI c ∧ ¬ Hb live c
theorem xs_live_f (hm : f_m = nI M) (hM : M ≤ 20) (post : Int32 → Prop) {x : Int32} (hx : NL M f_live x) (H : post 0) : wpX_isLive post (f_draftId, f_editId, f_firstStay, f_n, f_m, f_allVariables, f_nextStamp, f_live, f_liveCount, f_marked, f_draftOpen, f_enforced, f_execCount, f_walkKnown, f_peelCount, f_planCount, a_values, a_before, a_kinds, a_strengths, a_constants, a_termCounts, a_termVars, a_termSigns, a_termModes, a_variableMasks, a_outputMasks, a_stamps, a_users, a_makers, a_ranked, a_atStrength, a_execIds, a_outputs, a_feeders, a_determiner, a_upstream, a_walk, a_agenda, a_peelIds, a_peelVars, a_plan) x := by
  rcases hx with h | h | ⟨c, hc, e, hl⟩
  · exact br_t h H
  · exact br_c (fun _ => H) (fun _ => br_t (by rw [hm]; exact h) H)
  · subst e
    exact br_f (nI_pos (by omega)) (br_f (by rw [hm]; exact nI_ge hc (by omega)) (br_t ((hb_t (by omega)).mpr hl) H))
theorem xl_free (hm : f_m = nI M) (hM : M ≤ 20) (post : Int32 → Prop) (H1 : ∀ s, s < M → ¬ Hb f_live s → (∀ j, j < s → Hb f_live j) → post (nI s)) (H2 : (∀ s, s < M → Hb f_live s) → post (-1)) :
    ∀ d i fuel, i + d = M → d < fuel → (∀ j, j < i → Hb f_live j) → wX_lowestFreeSlot_2 post f_draftId f_editId f_firstStay f_n f_m f_allVariables f_nextStamp f_live f_liveCount f_marked f_draftOpen f_enforced f_execCount f_walkKnown f_peelCount f_planCount a_values a_before a_kinds a_strengths a_constants a_termCounts a_termVars a_termSigns a_termModes a_variableMasks a_outputMasks a_stamps a_users a_makers a_ranked a_atStrength a_execIds a_outputs a_feeders a_determiner a_upstream a_walk a_agenda a_peelIds a_peelVars a_plan fuel (nI i) := by
  intro d
  induction d with
  | zero =>
    intro i fuel hi hf h
    have e : i = M := by omega
    subst e
    cases fuel with
    | zero => omega
    | succ fuel => exact br_t (by rw [hm]; exact Int32.le_refl _) (H2 h)
  | succ d ih =>
    intro i fuel hi hf h
    cases fuel with
    | zero => omega
    | succ fuel =>
      refine pk_le M i (fun h => absurd h (by omega)) (fun _ => br_c (fun z => ?_) (fun z => nm_r (nI_1 i) (ih (i + 1) fuel (by omega) (by omega) fun j hj => ?_))) hm rfl (by omega) (by omega)
      · rw [hb_t (by omega)] at z
        exact H1 i (by omega) z h
      · rw [hb_t (by omega), Classical.not_not] at z
        rcases Nat.lt_or_ge j i with y | y
        · exact h j y
        · have : j = i := by omega
          subst this
          exact z
theorem xs_free (hm : f_m = nI M) (hM : M ≤ 20) (post : Int32 → Prop) (H1 : ∀ s, s < M → ¬ Hb f_live s → (∀ j, j < s → Hb f_live j) → post (nI s)) (H2 : (∀ s, s < M → Hb f_live s) → post (-1)) : wpX_lowestFreeSlot post (f_draftId, f_editId, f_firstStay, f_n, f_m, f_allVariables, f_nextStamp, f_live, f_liveCount, f_marked, f_draftOpen, f_enforced, f_execCount, f_walkKnown, f_peelCount, f_planCount, a_values, a_before, a_kinds, a_strengths, a_constants, a_termCounts, a_termVars, a_termSigns, a_termModes, a_variableMasks, a_outputMasks, a_stamps, a_users, a_makers, a_ranked, a_atStrength, a_execIds, a_outputs, a_feeders, a_determiner, a_upstream, a_walk, a_agenda, a_peelIds, a_peelVars, a_plan) :=
  Exists.intro (M + 1) (xl_free hm hM post H1 H2 M 0 (M + 1) (by omega) (by omega) fun j hj => by omega)
theorem xl_rank (hL : f_liveCount = nI L) (hL20 : L ≤ 20) {rk : Nat → Nat} (hrk : ∀ j, j < L → rk j < 32 ∧ a_ranked j = nI (rk j)) (hst : ∀ j, j < L → tn (a_strengths (rk j)) < 8 ∧ a_strengths (rk j) = nI (tn (a_strengths (rk j)))) (hmo : ∀ i j, i < j → j < L → tn (a_strengths (rk i)) ≤ tn (a_strengths (rk j)))
    (post : Int32 → Prop) {s : Nat} (hs : s < 8) (H : ∀ r, r ≤ L → (∀ j, j < L → (tn (a_strengths (rk j)) ≤ s ↔ j < r)) → post (nI r)) :
    ∀ d i r fuel, i + d = L → d < fuel → r ≤ i → (∀ j, j < i → (tn (a_strengths (rk j)) ≤ s ↔ j < r)) → wX_rankBehind_4 post (nI s) f_draftId f_editId f_firstStay f_n f_m f_allVariables f_nextStamp f_live f_liveCount f_marked f_draftOpen f_enforced f_execCount f_walkKnown f_peelCount f_planCount a_values a_before a_kinds a_strengths a_constants a_termCounts a_termVars a_termSigns a_termModes a_variableMasks a_outputMasks a_stamps a_users a_makers a_ranked a_atStrength a_execIds a_outputs a_feeders a_determiner a_upstream a_walk a_agenda a_peelIds a_peelVars a_plan fuel (nI r) (nI i) := by
  intro d
  induction d with
  | zero =>
    intro i r fuel hi hf hr h
    have e : i = L := by omega
    subst e
    cases fuel with
    | zero => omega
    | succ fuel => exact br_t (by rw [hL]; exact Int32.le_refl _) (H r hr h)
  | succ d ih =>
    intro i r fuel hi hf hr h
    cases fuel with
    | zero => omega
    | succ fuel =>
      obtain ⟨h32, er⟩ := hrk i (by omega)
      obtain ⟨h8, es⟩ := hst i (by omega)
      have ei : (nI i).toNatClampNeg = i := nI_clamp (by omega)
      have ek : (nI (rk i)).toNatClampNeg = rk i := nI_clamp (by omega)
      refine pk_le L i (fun h => absurd h (by omega)) (fun _ => And.intro (vp_in_nI (by omega) (by omega)) ?_) hL rfl (by omega) (by omega)
      rw [ei, er]
      refine And.intro (vp_in_nI h32 (by omega)) ?_
      rw [ek, es]
      refine pk_lt s (tn (a_strengths (rk i))) (fun z => nm_r (nI_1 i) (ih (i + 1) r fuel (by omega) (by omega) (by omega) fun j hj => ?_)) (fun z => nm_r (nI_1 i) (nm_r (nI_1 i) (ih (i + 1) (i + 1) fuel (by omega) (by omega) (by omega) fun j hj => ?_))) rfl rfl (by omega) (by omega)
      · rcases Nat.lt_or_ge j i with y | y
        · exact h j y
        · have : j = i := by omega
          subst this
          omega
      · rcases Nat.lt_or_ge j i with y | y
        · have := hmo j i y (by omega)
          omega
        · have : j = i := by omega
          subst this
          omega
theorem xs_rank (hL : f_liveCount = nI L) (hL20 : L ≤ 20) {rk : Nat → Nat} (hrk : ∀ j, j < L → rk j < 32 ∧ a_ranked j = nI (rk j)) (hst : ∀ j, j < L → tn (a_strengths (rk j)) < 8 ∧ a_strengths (rk j) = nI (tn (a_strengths (rk j)))) (hmo : ∀ i j, i < j → j < L → tn (a_strengths (rk i)) ≤ tn (a_strengths (rk j)))
    (post : Int32 → Prop) {s : Nat} (hs : s < 8) (H : ∀ r, r ≤ L → (∀ j, j < L → (tn (a_strengths (rk j)) ≤ s ↔ j < r)) → post (nI r)) : wpX_rankBehind post (f_draftId, f_editId, f_firstStay, f_n, f_m, f_allVariables, f_nextStamp, f_live, f_liveCount, f_marked, f_draftOpen, f_enforced, f_execCount, f_walkKnown, f_peelCount, f_planCount, a_values, a_before, a_kinds, a_strengths, a_constants, a_termCounts, a_termVars, a_termSigns, a_termModes, a_variableMasks, a_outputMasks, a_stamps, a_users, a_makers, a_ranked, a_atStrength, a_execIds, a_outputs, a_feeders, a_determiner, a_upstream, a_walk, a_agenda, a_peelIds, a_peelVars, a_plan) (nI s) :=
  Exists.intro (L + 1) (xl_rank hL hL20 hrk hst hmo post hs H L 0 0 (L + 1) (by omega) (by omega) (by omega) fun j hj => by omega)
theorem xl_ins (hL : f_liveCount = nI L) (hL20 : L < 20) (post : Int32 → SX → Prop) {c s r : Nat} (hc : c < 32) (hs : s < 8) (es : a_strengths c = nI s) (hr : r ≤ L) {ra0 : Nat → Int32}
    (H : ∀ ra, (∀ j, j < r → ra j = ra0 j) → ra r = nI c → (∀ j, r < j → j ≤ L → ra j = ra0 (j - 1)) → post (nI r) (f_draftId, f_editId, f_firstStay, f_n, f_m, f_allVariables, f_nextStamp + 1, f_live, nI (L + 1), f_marked, f_draftOpen, f_enforced, f_execCount, f_walkKnown, f_peelCount, f_planCount, a_values, a_before, a_kinds, a_strengths, a_constants, a_termCounts, a_termVars, a_termSigns, a_termModes, a_variableMasks, a_outputMasks, vp_updL a_stamps c f_nextStamp, a_users, a_makers, ra, upd a_atStrength s (a_atStrength s ||| ((1 : Int32) <<< (nI c &&& 31))), a_execIds, a_outputs, a_feeders, a_determiner, a_upstream, a_walk, a_agenda, a_peelIds, a_peelVars, a_plan)) :
    ∀ d i ra fuel, r + d = i → i ≤ L → d < fuel → (∀ j, j ≤ i → ra j = ra0 j) → (∀ j, i < j → j ≤ L → ra j = ra0 (j - 1)) → wX_insertRanked_16 post (nI c) (nI r) f_draftId f_editId f_firstStay f_n f_m f_allVariables f_nextStamp f_live f_liveCount f_marked f_draftOpen f_enforced f_execCount f_walkKnown f_peelCount f_planCount fuel (nI i) a_values a_before a_kinds a_strengths a_constants a_termCounts a_termVars a_termSigns a_termModes a_variableMasks a_outputMasks a_stamps a_users a_makers ra a_atStrength a_execIds a_outputs a_feeders a_determiner a_upstream a_walk a_agenda a_peelIds a_peelVars a_plan := by
  have ec : (nI c).toNatClampNeg = c := nI_clamp (by omega)
  have er : (nI r).toNatClampNeg = r := nI_clamp (by omega)
  have ess : (nI s).toNatClampNeg = s := nI_clamp (by omega)
  intro d
  induction d with
  | zero =>
    intro i ra fuel hi hil hf h1 h2
    have e : i = r := by omega
    subst e
    cases fuel with
    | zero => omega
    | succ fuel =>
      refine br_t (Int32.le_refl _) (And.intro (vp_in_nI (by omega) (by omega)) (nm_r (e' := upd ra i (nI c)) (by rw [er]) (nm_r (e' := nI (L + 1)) (by rw [hL, nI_1]) (And.intro (vp_in_nI hc (by omega)) ?_))))
      rw [ec, es]
      refine And.intro (vp_in_nI hs (by omega)) (And.intro (vp_in_nI hs (by omega)) (nm_r (e' := upd a_atStrength s (a_atStrength s ||| ((1 : Int32) <<< (nI c &&& 31)))) (by rw [ess]) (And.intro (vp_in_nI hc (by omega)) (nm_e (nm_e (H _ (fun j hj => ?_) pk_us (fun j h3 h4 => ?_)))))))
      · rw [pk_un (by omega)]; exact h1 j (by omega)
      · rw [pk_un (by omega)]; exact h2 j h3 h4
  | succ d ih =>
    intro i ra fuel hi hil hf h1 h2
    cases fuel with
    | zero => omega
    | succ fuel =>
      obtain ⟨i', rfl⟩ : ∃ i', i = i' + 1 := ⟨i - 1, by omega⟩
      have em : nI (i' + 1) - 1 = nI i' := nI_pred i'
      have ei : (nI i').toNatClampNeg = i' := nI_clamp (by omega)
      have ei1 : (nI (i' + 1)).toNatClampNeg = i' + 1 := nI_clamp (by omega)
      refine pk_le (i' + 1) r (fun h => absurd h (by omega)) (fun _ => ?_) rfl rfl (by omega) (by omega)
      rw [em]
      refine And.intro (vp_in_nI (by omega) (by omega)) (And.intro (vp_in_nI (by omega) (by omega)) (nm_r (e' := upd ra (i' + 1) (ra i')) (by rw [ei, ei1]) (nm_r (pk_m1 i') (ih i' _ fuel (by omega) (by omega) (by omega) (fun j hj => ?_) (fun j h3 h4 => ?_)))))
      · rw [pk_un (by omega)]; exact h1 j (by omega)
      · rcases Nat.lt_or_ge (i' + 1) j with y | y
        · rw [pk_un (by omega)]; exact h2 j y h4
        · have : j = i' + 1 := by omega
          subst this
          rw [pk_us]; exact h1 i' (by omega)
theorem xs_ins (hL : f_liveCount = nI L) (hL20 : L < 20) {rk : Nat → Nat} (hrk : ∀ j, j < L → rk j < 32 ∧ a_ranked j = nI (rk j)) (hst : ∀ j, j < L → tn (a_strengths (rk j)) < 8 ∧ a_strengths (rk j) = nI (tn (a_strengths (rk j)))) (hmo : ∀ i j, i < j → j < L → tn (a_strengths (rk i)) ≤ tn (a_strengths (rk j)))
    (post : Int32 → SX → Prop) {c s : Nat} (hc : c < 32) (hs : s < 8) (es : a_strengths c = nI s)
    (H : ∀ r ra, r ≤ L → (∀ j, j < L → (tn (a_strengths (rk j)) ≤ s ↔ j < r)) → (∀ j, j < r → ra j = a_ranked j) → ra r = nI c → (∀ j, r < j → j ≤ L → ra j = a_ranked (j - 1)) → post (nI r) (f_draftId, f_editId, f_firstStay, f_n, f_m, f_allVariables, f_nextStamp + 1, f_live, nI (L + 1), f_marked, f_draftOpen, f_enforced, f_execCount, f_walkKnown, f_peelCount, f_planCount, a_values, a_before, a_kinds, a_strengths, a_constants, a_termCounts, a_termVars, a_termSigns, a_termModes, a_variableMasks, a_outputMasks, vp_updL a_stamps c f_nextStamp, a_users, a_makers, ra, upd a_atStrength s (a_atStrength s ||| ((1 : Int32) <<< (nI c &&& 31))), a_execIds, a_outputs, a_feeders, a_determiner, a_upstream, a_walk, a_agenda, a_peelIds, a_peelVars, a_plan)) : wpX_insertRanked post (f_draftId, f_editId, f_firstStay, f_n, f_m, f_allVariables, f_nextStamp, f_live, f_liveCount, f_marked, f_draftOpen, f_enforced, f_execCount, f_walkKnown, f_peelCount, f_planCount, a_values, a_before, a_kinds, a_strengths, a_constants, a_termCounts, a_termVars, a_termSigns, a_termModes, a_variableMasks, a_outputMasks, a_stamps, a_users, a_makers, a_ranked, a_atStrength, a_execIds, a_outputs, a_feeders, a_determiner, a_upstream, a_walk, a_agenda, a_peelIds, a_peelVars, a_plan) (nI c) := by
  have ec : (nI c).toNatClampNeg = c := nI_clamp (by omega)
  refine And.intro (vp_in_nI hc (by omega)) ?_
  rw [ec, es]
  refine xs_rank hL (by omega) hrk hst hmo _ hs fun r hr h => Exists.intro (L - r + 1) ?_
  rw [hL]
  exact hL ▸ xl_ins hL hL20 post hc hs es hr (fun ra h1 h2 h3 => H r ra hr h h1 h2 h3) (L - r) L a_ranked (L - r + 1) (by omega) (by omega) (by omega) (fun _ _ => rfl) fun j h1 h2 => by omega
theorem xl_rem32 (hL : f_liveCount = nI L) (hL20 : L ≤ 20) (post : Int32 → SX → Prop) {c s r : Nat} (hc : c < 32) (hs : s < 8) (es : a_strengths c = nI s) (hr : r < L) {ra0 : Nat → Int32}
    (H : ∀ ra, (∀ j, j < r → ra j = ra0 j) → (∀ j, r ≤ j → j + 1 < L → ra j = ra0 (j + 1)) → post (nI r) (f_draftId, f_editId, f_firstStay, f_n, f_m, f_allVariables, f_nextStamp, f_live, nI (L - 1), f_marked, f_draftOpen, f_enforced, f_execCount, f_walkKnown, f_peelCount, f_planCount, a_values, a_before, a_kinds, a_strengths, a_constants, a_termCounts, a_termVars, a_termSigns, a_termModes, a_variableMasks, a_outputMasks, a_stamps, a_users, a_makers, ra, upd a_atStrength s (a_atStrength s &&& (((1 : Int32) <<< (nI c &&& 31)) ^^^ (-1))), a_execIds, a_outputs, a_feeders, a_determiner, a_upstream, a_walk, a_agenda, a_peelIds, a_peelVars, a_plan)) :
    ∀ d i ra fuel, i + d = L - 1 → r ≤ i → d < fuel → (∀ j, j < r → ra j = ra0 j) → (∀ j, r ≤ j → j < i → ra j = ra0 (j + 1)) → (∀ j, i ≤ j → ra j = ra0 j) → wX_removeRanked_32 post (nI c) (nI r) f_draftId f_editId f_firstStay f_n f_m f_allVariables f_nextStamp f_live f_liveCount f_marked f_draftOpen f_enforced f_execCount f_walkKnown f_peelCount f_planCount fuel (nI i) a_values a_before a_kinds a_strengths a_constants a_termCounts a_termVars a_termSigns a_termModes a_variableMasks a_outputMasks a_stamps a_users a_makers ra a_atStrength a_execIds a_outputs a_feeders a_determiner a_upstream a_walk a_agenda a_peelIds a_peelVars a_plan := by
  have ec : (nI c).toNatClampNeg = c := nI_clamp (by omega)
  have ess : (nI s).toNatClampNeg = s := nI_clamp (by omega)
  have eL : f_liveCount - 1 = nI (L - 1) := by rw [hL, show (1 : Int32) = nI 1 from rfl, pk_sub (by omega)]
  intro d
  induction d with
  | zero =>
    intro i ra fuel hi hri hf h1 h2 h3
    have e : i = L - 1 := by omega
    subst e
    cases fuel with
    | zero => omega
    | succ fuel =>
      refine br_t (by rw [eL]; exact Int32.le_refl _) (nm_r eL (And.intro (vp_in_nI hc (by omega)) ?_))
      rw [ec, es]
      exact And.intro (vp_in_nI hs (by omega)) (And.intro (vp_in_nI hs (by omega)) (nm_r (e' := upd a_atStrength s (a_atStrength s &&& (((1 : Int32) <<< (nI c &&& 31)) ^^^ (-1)))) (by rw [ess]) (H ra h1 fun j h4 h5 => h2 j h4 (by omega))))
  | succ d ih =>
    intro i ra fuel hi hri hf h1 h2 h3
    cases fuel with
    | zero => omega
    | succ fuel =>
      have ei : (nI i).toNatClampNeg = i := nI_clamp (by omega)
      have ei1 : (nI (i + 1)).toNatClampNeg = i + 1 := nI_clamp (by omega)
      refine pk_le (L - 1) i (fun h => absurd h (by omega)) (fun _ => ?_) eL rfl (by omega) (by omega)
      rw [nI_1 i]
      refine And.intro (vp_in_nI (by omega) (by omega)) (And.intro (vp_in_nI (by omega) (by omega)) (nm_r (e' := upd ra i (ra (i + 1))) (by rw [ei, ei1]) (nm_e (ih (i + 1) _ fuel (by omega) (by omega) (by omega) (fun j hj => ?_) (fun j h4 h5 => ?_) (fun j h4 => ?_)))))
      · rw [pk_un (by omega)]; exact h1 j hj
      · rcases Nat.lt_or_ge j i with y | y
        · rw [pk_un (by omega)]; exact h2 j h4 y
        · have : j = i := by omega
          subst this
          rw [pk_us]; exact h3 _ (by omega)
      · rw [pk_un (by omega)]; exact h3 j (by omega)
theorem xl_rem4 (hL : f_liveCount = nI L) (hL20 : L ≤ 20) (post : Int32 → SX → Prop) {c s r : Nat} (hc : c < 32) (hs : s < 8) (es : a_strengths c = nI s) (hr : r < L) (hrc : ∀ j, j < L → (a_ranked j = nI c ↔ j = r))
    (H : ∀ ra, (∀ j, j < r → ra j = a_ranked j) → (∀ j, r ≤ j → j + 1 < L → ra j = a_ranked (j + 1)) → post (nI r) (f_draftId, f_editId, f_firstStay, f_n, f_m, f_allVariables, f_nextStamp, f_live, nI (L - 1), f_marked, f_draftOpen, f_enforced, f_execCount, f_walkKnown, f_peelCount, f_planCount, a_values, a_before, a_kinds, a_strengths, a_constants, a_termCounts, a_termVars, a_termSigns, a_termModes, a_variableMasks, a_outputMasks, a_stamps, a_users, a_makers, ra, upd a_atStrength s (a_atStrength s &&& (((1 : Int32) <<< (nI c &&& 31)) ^^^ (-1))), a_execIds, a_outputs, a_feeders, a_determiner, a_upstream, a_walk, a_agenda, a_peelIds, a_peelVars, a_plan)) :
    ∀ d i x2 fuel, i + d = L → d < fuel → (r < i → x2 = nI r) → wX_removeRanked_4 post (nI c) f_draftId f_editId f_firstStay f_n f_m f_allVariables f_nextStamp f_live f_liveCount f_marked f_draftOpen f_enforced f_execCount f_walkKnown f_peelCount f_planCount a_values a_before a_kinds a_strengths a_constants a_termCounts a_termVars a_termSigns a_termModes a_variableMasks a_outputMasks a_stamps a_users a_makers a_ranked a_atStrength a_execIds a_outputs a_feeders a_determiner a_upstream a_walk a_agenda a_peelIds a_peelVars a_plan fuel x2 (nI i) := by
  intro d
  induction d with
  | zero =>
    intro i x2 fuel hi hf h
    have e : i = L := by omega
    subst e
    cases fuel with
    | zero => omega
    | succ fuel =>
      have e2 := h hr
      subst e2
      exact br_t (by rw [hL]; exact Int32.le_refl _) (Exists.intro (i - r + 1) (xl_rem32 hL hL20 post hc hs es hr H (i - 1 - r) r a_ranked (i - r + 1) (by omega) (by omega) (by omega) (fun _ _ => rfl) (fun j h1 h2 => by omega) fun _ _ => rfl))
  | succ d ih =>
    intro i x2 fuel hi hf h
    cases fuel with
    | zero => omega
    | succ fuel =>
      have ei : (nI i).toNatClampNeg = i := nI_clamp (by omega)
      refine pk_le L i (fun h => absurd h (by omega)) (fun _ => And.intro (vp_in_nI (by omega) (by omega)) (br_c (fun z => nm_r (nI_1 i) (ih (i + 1) _ fuel (by omega) (by omega) fun h1 => ?_)) (fun z => nm_r (nI_1 i) (ih (i + 1) _ fuel (by omega) (by omega) fun h1 => ?_)))) hL rfl (by omega) (by omega)
      · rw [ei, hrc i (by omega)] at z
        rw [z]
      · rw [ei, hrc i (by omega)] at z
        exact h (by omega)
theorem xs_rem (hL : f_liveCount = nI L) (hL20 : L ≤ 20) (post : Int32 → SX → Prop) {c s r : Nat} (hc : c < 32) (hs : s < 8) (es : a_strengths c = nI s) (hr : r < L) (hrc : ∀ j, j < L → (a_ranked j = nI c ↔ j = r))
    (H : ∀ ra, (∀ j, j < r → ra j = a_ranked j) → (∀ j, r ≤ j → j + 1 < L → ra j = a_ranked (j + 1)) → post (nI r) (f_draftId, f_editId, f_firstStay, f_n, f_m, f_allVariables, f_nextStamp, f_live, nI (L - 1), f_marked, f_draftOpen, f_enforced, f_execCount, f_walkKnown, f_peelCount, f_planCount, a_values, a_before, a_kinds, a_strengths, a_constants, a_termCounts, a_termVars, a_termSigns, a_termModes, a_variableMasks, a_outputMasks, a_stamps, a_users, a_makers, ra, upd a_atStrength s (a_atStrength s &&& (((1 : Int32) <<< (nI c &&& 31)) ^^^ (-1))), a_execIds, a_outputs, a_feeders, a_determiner, a_upstream, a_walk, a_agenda, a_peelIds, a_peelVars, a_plan)) : wpX_removeRanked post (f_draftId, f_editId, f_firstStay, f_n, f_m, f_allVariables, f_nextStamp, f_live, f_liveCount, f_marked, f_draftOpen, f_enforced, f_execCount, f_walkKnown, f_peelCount, f_planCount, a_values, a_before, a_kinds, a_strengths, a_constants, a_termCounts, a_termVars, a_termSigns, a_termModes, a_variableMasks, a_outputMasks, a_stamps, a_users, a_makers, a_ranked, a_atStrength, a_execIds, a_outputs, a_feeders, a_determiner, a_upstream, a_walk, a_agenda, a_peelIds, a_peelVars, a_plan) (nI c) :=
  Exists.intro (L + 1) (xl_rem4 hL hL20 post hc hs es hr hrc H L 0 0 (L + 1) (by omega) (by omega) fun h => by omega)
end
end
section
/-! the reference: termOf, elsewhere, solvable -/
def UY (N : Nat) (cC tV : Nat → Int32) (c v : Nat) : Prop := v < N ∧ ∃ t, t < tn (cC c) ∧ tV (4 * c + t) = nI v
def MY (N : Nat) (cC tV tM : Nat → Int32) (c v : Nat) : Prop := v < N ∧ ∃ t, t < tn (cC c) ∧ tV (4 * c + t) = nI v ∧ tM (4 * c + t) = 1
/-- record c of the reference is well formed -/
def RY (N : Nat) (cC tV : Nat → Int32) (c : Nat) : Prop := c < 32 ∧ tn (cC c) ≤ 4 ∧ cC c = nI (tn (cC c)) ∧ (∀ t, t < tn (cC c) → ∃ v, v < N ∧ tV (4 * c + t) = nI v)
theorem ky_uy {N : Nat} {cC tV tM : Nat → Int32} {c v : Nat} (h : MY N cC tV tM c v) : UY N cC tV c v := by
  obtain ⟨h0, t, h1, h2, _⟩ := h
  exact ⟨h0, t, h1, h2⟩
theorem vb0 : vp_nar .boolean 0 = 0 := rfl
theorem vb1 : vp_nar .boolean 1 = 1 := rfl
/-- a set by a boolean array -/
def Ns (a : Nat → Int32) (c : Nat) : Prop := c < 32 ∧ a c ≠ 0
def B01 (a : Nat → Int32) : Prop := ∀ c, c < 32 → a c = 0 ∨ a c = 1
section
variable {g_n g_m g_planLen : Int32} {g_clock : Int64} {b_cKind b_cStrength b_cK b_cCount b_tVar b_tSign b_tMode b_here b_marked b_out b_inSet b_left b_last b_passed b_was b_member b_val b_old b_known b_plan : Nat → Int32} {b_born : Nat → Int64}
variable {N : Nat}
theorem yl_termOf (post : Int32 → Prop) {c q : Nat} (hc : c < 32) (eq : b_cCount c = nI q) (hq : q ≤ 4) {x : Int32} (H1 : ∀ t, t < q → b_tVar (4 * c + t) = x → (∀ t', t' < t → b_tVar (4 * c + t') ≠ x) → post (nI t)) (H2 : (∀ t, t < q → b_tVar (4 * c + t) ≠ x) → post (-1)) :
    ∀ d i fuel, i + d = q → d < fuel → (∀ t, t < i → b_tVar (4 * c + t) ≠ x) → wY_termOf_2 post (nI c) x g_n g_m g_planLen g_clock b_cKind b_cStrength b_cK b_cCount b_tVar b_tSign b_tMode b_born b_here b_marked b_out b_inSet b_left b_last b_passed b_was b_member b_val b_old b_known b_plan fuel (nI i) := by
  have ec : (nI c).toNatClampNeg = c := nI_clamp (by omega)
  intro d
  induction d with
  | zero =>
    intro i fuel hi hf h
    have e : i = q := by omega
    subst e
    cases fuel with
    | zero => omega
    | succ fuel => exact And.intro (vp_in_nI hc (by omega)) (br_t (by rw [ec, eq]; exact Int32.le_refl _) (H2 h))
  | succ d ih =>
    intro i fuel hi hf h
    cases fuel with
    | zero => omega
    | succ fuel =>
      have e4 : (4 * nI c + nI i).toNatClampNeg = 4 * c + i := by rw [ix_y]; exact nI_clamp (by omega)
      have i4 : vp_in (4 * nI c + nI i) 128 := by rw [ix_y]; exact vp_in_nI (by omega) (by omega)
      refine And.intro (vp_in_nI hc (by omega)) (br_f (by rw [ec, eq]; exact nI_ge (by omega) (by omega)) (And.intro i4 (br_c (fun z => ?_) (fun z => nm_r (nI_1 i) (ih (i + 1) fuel (by omega) (by omega) fun t ht => ?_)))))
      · rw [e4] at z
        exact H1 i (by omega) z h
      · rw [e4] at z
        rcases Nat.lt_or_ge t i with y | y
        · exact h t y
        · have : t = i := by omega
          subst this
          exact z
theorem ys_termOf (post : Int32 → Prop) {c q : Nat} (hc : c < 32) (eq : b_cCount c = nI q) (hq : q ≤ 4) {x : Int32} (H1 : ∀ t, t < q → b_tVar (4 * c + t) = x → (∀ t', t' < t → b_tVar (4 * c + t') ≠ x) → post (nI t)) (H2 : (∀ t, t < q → b_tVar (4 * c + t) ≠ x) → post (-1)) : wpY_termOf post (g_n, g_m, g_planLen, g_clock, b_cKind, b_cStrength, b_cK, b_cCount, b_tVar, b_tSign, b_tMode, b_born, b_here, b_marked, b_out, b_inSet, b_left, b_last, b_passed, b_was, b_member, b_val, b_old, b_known, b_plan) (nI c) x :=
  Exists.intro (q + 1) (yl_termOf post hc eq hq H1 H2 q 0 (q + 1) (by omega) (by omega) fun t ht => by omega)
theorem ys_tU (post : Int32 → Prop) {c v : Nat} (hv : v < N) (R : RY N b_cCount b_tVar c) (H1 : ∀ r, ¬ r < 0 → UY N b_cCount b_tVar c v → post r) (H2 : ∀ r, r < 0 → ¬ UY N b_cCount b_tVar c v → post r) : wpY_termOf post (g_n, g_m, g_planLen, g_clock, b_cKind, b_cStrength, b_cK, b_cCount, b_tVar, b_tSign, b_tMode, b_born, b_here, b_marked, b_out, b_inSet, b_left, b_last, b_passed, b_was, b_member, b_val, b_old, b_known, b_plan) (nI c) (nI v) :=
  ys_termOf post R.1 R.2.2.1 R.2.1 (fun t ht e _ => H1 _ (nI_pos (by have := R.2.1; omega)) ⟨hv, t, ht, e⟩) (fun h => H2 _ (by decide) fun ⟨_, t, ht, e⟩ => h t ht e)
theorem yl_else (post : Int32 → Prop) {c v : Nat} (hv : v < N) (R : ∀ d, Ns b_left d → RY N b_cCount b_tVar d) (hc : c < 32) (H1 : (∃ d, d ≠ c ∧ Ns b_left d ∧ UY N b_cCount b_tVar d v) → post 1) (H2 : (∀ d, Ns b_left d → UY N b_cCount b_tVar d v → d = c) → post 0) :
    ∀ d i fuel, i + d = 32 → d < fuel → (∀ d, d < i → Ns b_left d → UY N b_cCount b_tVar d v → d = c) → wY_elsewhere_2 post (nI c) (nI v) g_n g_m g_planLen g_clock b_cKind b_cStrength b_cK b_cCount b_tVar b_tSign b_tMode b_born b_here b_marked b_out b_inSet b_left b_last b_passed b_was b_member b_val b_old b_known b_plan fuel (nI i) := by
  intro d
  induction d with
  | zero =>
    intro i fuel hi hf h
    have e : i = 32 := by omega
    subst e
    cases fuel with
    | zero => omega
    | succ fuel => exact br_t (by decide) (H2 fun d hd hu => h d hd.1 hd hu)
  | succ d ih =>
    intro i fuel hi hf h
    cases fuel with
    | zero => omega
    | succ fuel =>
      have ei : (nI i).toNatClampNeg = i := nI_clamp (by omega)
      have nx : ((Ns b_left i → UY N b_cCount b_tVar i v → i = c)) → wY_elsewhere_2 post (nI c) (nI v) g_n g_m g_planLen g_clock b_cKind b_cStrength b_cK b_cCount b_tVar b_tSign b_tMode b_born b_here b_marked b_out b_inSet b_left b_last b_passed b_was b_member b_val b_old b_known b_plan fuel (nI (i + 1)) := fun hi' =>
        ih (i + 1) fuel (by omega) (by omega) fun d hd hl hu => by
          rcases Nat.lt_or_ge d i with y | y
          · exact h d y hl hu
          · have : d = i := by omega
            subst this
            exact hi' hl hu
      refine pk_le 32 i (fun h => absurd h (by omega)) (fun _ => pk_eq i c (fun z => nm_r (nI_1 i) (nx fun _ _ => z)) (fun z => And.intro (vp_in_nI (by omega) (by omega)) (br_c (fun z1 => nm_r (nI_1 i) (nx fun hl _ => ?_)) (fun z1 => ?_))) rfl rfl (by omega) (by omega)) rfl rfl (by omega) (by omega)
      · rw [ei] at z1
        exact absurd z1 hl.2
      · rw [ei] at z1
        have hl : Ns b_left i := ⟨by omega, z1⟩
        exact ys_tU _ hv (R i hl) (fun r hr hu => br_f hr (H1 ⟨i, z, hl, hu⟩)) (fun r hr hu => br_t hr (nm_r (nI_1 i) (nx fun _ hu' => absurd hu' hu)))
theorem ys_else (post : Int32 → Prop) {c v : Nat} (hv : v < N) (R : ∀ d, Ns b_left d → RY N b_cCount b_tVar d) (hc : c < 32) (H1 : (∃ d, d ≠ c ∧ Ns b_left d ∧ UY N b_cCount b_tVar d v) → post 1) (H2 : (∀ d, Ns b_left d → UY N b_cCount b_tVar d v → d = c) → post 0) : wpY_elsewhere post (g_n, g_m, g_planLen, g_clock, b_cKind, b_cStrength, b_cK, b_cCount, b_tVar, b_tSign, b_tMode, b_born, b_here, b_marked, b_out, b_inSet, b_left, b_last, b_passed, b_was, b_member, b_val, b_old, b_known, b_plan) (nI c) (nI v) :=
  Exists.intro 33 (yl_else post hv R hc H1 H2 32 0 33 (by omega) (by omega) fun d hd => by omega)
end
/-- what solvable() knows on its way: S the set, le the left ones, la the outputs -/
def SvI (us mk : Nat → Nat → Prop) (S : Nat → Prop) (le la : Nat → Int32) : Prop :=
  B01 le ∧ (∀ c, Ns le c → S c) ∧ (∀ c, S c → ¬ Ns le c → mk c (tn (la c)) ∧ la c = nI (tn (la c)) ∧ ∀ d, Ns le d → ¬ us d (tn (la c))) ∧
  (∀ c d, S c → S d → ¬ Ns le c → ¬ Ns le d → tn (la c) = tn (la d) → c = d) ∧ (∀ c, Cor us mk S c → Ns le c)
section
variable {us mk : Nat → Nat → Prop} {S : Nat → Prop} {le la : Nat → Int32}
theorem ns_un {a : Nat} {c : Nat} : Ns (upd le a 0) c ↔ Ns le c ∧ c ≠ a := by
  rcases Classical.em (c = a) with z | z
  · subst z
    exact ⟨fun h => absurd pk_us h.2, fun h => absurd rfl h.2⟩
  · unfold Ns; rw [pk_un z]
    exact ⟨fun h => ⟨h, z⟩, fun h => h.1⟩
theorem sv_step {c v : Nat} (h : SvI us mk S le la) (hmu : ∀ c v, mk c v → us c v) (hl : Ns le c) (hm : mk c v) (hv : v < 2 ^ 31) (hu : ∀ d, Ns le d → us d v → d = c) : SvI us mk S (upd le c 0) (upd la c (nI v)) := by
  have ev : tn (nI v) = v := tn_nI hv
  refine ⟨fun d hd => ?_, fun d hd => h.2.1 d (ns_un.mp hd).1, fun d hd hn => ?_, fun d e hd he hnd hne eq => ?_, fun d hd => ns_un.mpr (co_step (fun d hd => h.2.2.2.2 d hd) hm hu d hd)⟩
  · rcases Classical.em (d = c) with z | z
    · subst z; exact Or.inl pk_us
    · rw [pk_un z]; exact h.1 d hd
  · rcases Classical.em (d = c) with z | z
    · subst z
      rw [pk_us, ev]
      exact ⟨hm, rfl, fun e he hue => (ns_un.mp he).2 (hu e (ns_un.mp he).1 hue)⟩
    · rw [pk_un z]
      have hn' : ¬ Ns le d := fun y => hn (ns_un.mpr ⟨y, z⟩)
      obtain ⟨h1, h2, h3⟩ := h.2.2.1 d hd hn'
      exact ⟨h1, h2, fun e he => h3 e (ns_un.mp he).1⟩
  · rcases Classical.em (d = c) with z | z
    · rcases Classical.em (e = c) with y | y
      · rw [z, y]
      · subst z
        rw [pk_us, pk_un y, ev] at eq
        obtain ⟨_, _, h3⟩ := h.2.2.1 e he fun q => hne (ns_un.mpr ⟨q, y⟩)
        exact absurd (eq ▸ hmu _ _ hm) (h3 d hl)
    · rcases Classical.em (e = c) with y | y
      · subst y
        rw [pk_us, pk_un z, ev] at eq
        obtain ⟨_, _, h3⟩ := h.2.2.1 d hd fun q => hnd (ns_un.mpr ⟨q, z⟩)
        exact absurd (eq ▸ hmu _ _ hm) (h3 e hl)
      · rw [pk_un z, pk_un y] at eq
        exact h.2.2.2.1 d e hd he (fun q => hnd (ns_un.mpr ⟨q, z⟩)) (fun q => hne (ns_un.mpr ⟨q, y⟩)) eq
end
/-- outputs la of a solvable set S -/
def LsO (mk : Nat → Nat → Prop) (S : Nat → Prop) (la : Nat → Int32) : Prop :=
  (∀ c, S c → mk c (tn (la c)) ∧ la c = nI (tn (la c))) ∧ ∀ c d, S c → S d → tn (la c) = tn (la d) → c = d
section
variable {g_n g_m g_planLen : Int32} {g_clock : Int64} {b_cKind b_cStrength b_cK b_cCount b_tVar b_tSign b_tMode b_here b_marked b_out b_inSet b_left b_last b_passed b_was b_member b_val b_old b_known b_plan : Nat → Int32} {b_born : Nat → Int64}
variable {N : Nat} {S : Nat → Prop}
/-- what a call of solvable() gives -/
def SvR (us mk : Nat → Nat → Prop) (S : Nat → Prop) (r : Int32) (la : Nat → Int32) : Prop := (r = 1 ∧ Slv us mk S ∧ LsO mk S la) ∨ (r = 0 ∧ ¬ Slv us mk S)
theorem yl_154 (post : Int32 → SY → Prop) (H1 : (∀ c, ¬ Ns b_left c) → post 1 (g_n, g_m, g_planLen, g_clock, b_cKind, b_cStrength, b_cK, b_cCount, b_tVar, b_tSign, b_tMode, b_born, b_here, b_marked, b_out, b_inSet, b_left, b_last, b_passed, b_was, b_member, b_val, b_old, b_known, b_plan)) (H0 : (∃ c, Ns b_left c) → post 0 (g_n, g_m, g_planLen, g_clock, b_cKind, b_cStrength, b_cK, b_cCount, b_tVar, b_tSign, b_tMode, b_born, b_here, b_marked, b_out, b_inSet, b_left, b_last, b_passed, b_was, b_member, b_val, b_old, b_known, b_plan)) : ∀ d i fuel, i + d = 32 → d < fuel → (∀ c, c < i → b_left c = 0) → wY_solvable_154 post g_n g_m g_planLen g_clock b_cKind b_cStrength b_cK b_cCount b_tVar b_tSign b_tMode b_born b_here b_marked b_out b_inSet b_left b_last b_passed b_was b_member b_val b_old b_known b_plan fuel (nI i) := by
  intro d
  induction d with
  | zero =>
    intro i fuel hi hf h
    have e : i = 32 := by omega
    subst e
    cases fuel with
    | zero => omega
    | succ fuel => exact br_t (by decide) (H1 fun c hc => hc.2 (h c hc.1))
  | succ d ih =>
    intro i fuel hi hf h
    cases fuel with
    | zero => omega
    | succ fuel =>
      have ei : (nI i).toNatClampNeg = i := nI_clamp (by omega)
      refine pk_le 32 i (fun h => absurd h (by omega)) (fun _ => And.intro (vp_in_nI (by omega) (by omega)) (br_c (fun z => nm_r (nI_1 i) (ih (i + 1) fuel (by omega) (by omega) fun c hc => ?_)) (fun z => ?_))) rfl rfl (by omega) (by omega)
      · rw [ei] at z
        rcases Nat.lt_or_ge c i with y | y
        · exact h c y
        · have : c = i := by omega
          subst this
          exact z
      · rw [ei] at z
        exact H0 ⟨i, by omega, z⟩
theorem yl_end (post : Int32 → SY → Prop) (H : ∀ r le la, SvR (UY N b_cCount b_tVar) (MY N b_cCount b_tVar b_tMode) S r la → post r (g_n, g_m, g_planLen, g_clock, b_cKind, b_cStrength, b_cK, b_cCount, b_tVar, b_tSign, b_tMode, b_born, b_here, b_marked, b_out, b_inSet, le, la, b_passed, b_was, b_member, b_val, b_old, b_known, b_plan))
    (h : SvI (UY N b_cCount b_tVar) (MY N b_cCount b_tVar b_tMode) S b_left b_last) (hs : Stk (UY N b_cCount b_tVar) (MY N b_cCount b_tVar b_tMode) (Ns b_left)) : ∃ n154, wY_solvable_154 post g_n g_m g_planLen g_clock b_cKind b_cStrength b_cK b_cCount b_tVar b_tSign b_tMode b_born b_here b_marked b_out b_inSet b_left b_last b_passed b_was b_member b_val b_old b_known b_plan n154 0 := by
  refine Exists.intro 33 (yl_154 post (fun z => H 1 _ _ (Or.inl ⟨rfl, ?_, fun c hc => ?_, fun c d hc hd => ?_⟩)) (fun ⟨c, hc⟩ => H 0 _ _ (Or.inr ⟨rfl, fun y => ?_⟩)) 32 0 33 (by omega) (by omega) fun c hc => by omega)
  · rw [sv_cor]
    exact fun c hc => z c (h.2.2.2.2 c hc)
  · have := h.2.2.1 c hc (z c)
    exact ⟨this.1, this.2.1⟩
  · exact h.2.2.2.1 c d hc hd (z c) (z d)
  · exact y (Ns b_left) h.2.1 hs c hc
/-- the terms of record c -/
theorem yl_47 (post : Int32 → SY → Prop) (J28 : Int32 → (Nat → Int32) → (Nat → Int32) → (Nat → Int32) → (Nat → Int32) → (Nat → Int32) → (Nat → Int32) → (Nat → Int32) → (Nat → Int64) → (Nat → Int32) → (Nat → Int32) → (Nat → Int32) → (Nat → Int32) → (Nat → Int32) → (Nat → Int32) → (Nat → Int32) → (Nat → Int32) → (Nat → Int32) → (Nat → Int32) → (Nat → Int32) → (Nat → Int32) → (Nat → Int32) → Prop)
    (J38 : Int32 → Int32 → (Nat → Int32) → (Nat → Int32) → (Nat → Int32) → (Nat → Int32) → (Nat → Int32) → (Nat → Int32) → (Nat → Int32) → (Nat → Int64) → (Nat → Int32) → (Nat → Int32) → (Nat → Int32) → (Nat → Int32) → (Nat → Int32) → (Nat → Int32) → (Nat → Int32) → (Nat → Int32) → (Nat → Int32) → (Nat → Int32) → (Nat → Int32) → (Nat → Int32) → (Nat → Int32) → Prop)
    (x1 : Int32) {c : Nat} (hc : c < 32) {cc : Nat} (R : ∀ d, S d → RY N b_cCount b_tVar d) (hN : N ≤ 10) {q : Nat} (eq : b_cCount c = nI q) (hq : q ≤ 4)
    (HJ : ∀ (x2 : Int32) (le la : Nat → Int32), SvI (UY N b_cCount b_tVar) (MY N b_cCount b_tVar b_tMode) S le la → cn (Ns le) 32 ≤ cc → (¬ x2 = 0 → cn (Ns le) 32 + 1 ≤ cc) →
      (x2 = 0 → (∀ d, d < c + 1 → ∀ v, Ns le d → MY N b_cCount b_tVar b_tMode d v → ∃ e, e ≠ d ∧ Ns le e ∧ UY N b_cCount b_tVar e v)) → J38 x2 (nI (c + 1)) b_cKind b_cStrength b_cK b_cCount b_tVar b_tSign b_tMode b_born b_here b_marked b_out b_inSet le la b_passed b_was b_member b_val b_old b_known b_plan) :
    ∀ d i x2 le la fuel, i + d = q → d < fuel → SvI (UY N b_cCount b_tVar) (MY N b_cCount b_tVar b_tMode) S le la → cn (Ns le) 32 ≤ cc → (¬ x2 = 0 → cn (Ns le) 32 + 1 ≤ cc) →
      (x2 = 0 → (∀ d, d < c → ∀ v, Ns le d → MY N b_cCount b_tVar b_tMode d v → ∃ e, e ≠ d ∧ Ns le e ∧ UY N b_cCount b_tVar e v) ∧ (∀ t v, t < i → v < N → Ns le c → b_tVar (4 * c + t) = nI v → b_tMode (4 * c + t) = 1 → ∃ e, e ≠ c ∧ Ns le e ∧ UY N b_cCount b_tVar e v)) →
      wY_solvable_47 post J28 J38 x1 (nI c) g_n g_m g_planLen g_clock fuel x2 (nI i) b_cKind b_cStrength b_cK b_cCount b_tVar b_tSign b_tMode b_born b_here b_marked b_out b_inSet le la b_passed b_was b_member b_val b_old b_known b_plan := by
  have ec : (nI c).toNatClampNeg = c := nI_clamp (by omega)
  have vc : vp_in (nI c) 32 := vp_in_nI hc (by omega)
  have eqt : tn (b_cCount c) = q := by rw [eq]; exact tn_nI (by omega)
  intro d
  induction d with
  | zero =>
    intro i x2 le la fuel hi hf hI h1 h2 h3
    have e : i = q := by omega
    subst e
    cases fuel with
    | zero => omega
    | succ fuel =>
      refine And.intro vc (br_t (by rw [ec, eq]; exact Int32.le_refl _) (nm_r (nI_1 c) (HJ x2 le la hI h1 h2 fun z d hd v hl hk => ?_)))
      rcases Nat.lt_or_ge d c with y | y
      · exact (h3 z).1 d y v hl hk
      · have : d = c := by omega
        subst this
        obtain ⟨hvN, t, ht, e1, e2⟩ := hk
        exact (h3 z).2 t v (by omega) hvN hl e1 e2
  | succ d ih =>
    intro i x2 le la fuel hi hf hI h1 h2 h3
    cases fuel with
    | zero => omega
    | succ fuel =>
      have e4 : (4 * nI c + nI i).toNatClampNeg = 4 * c + i := by rw [ix_y]; exact nI_clamp (by omega)
      have i4 : vp_in (4 * nI c + nI i) 128 := by rw [ix_y]; exact vp_in_nI (by omega) (by omega)
      refine And.intro vc (br_f (by rw [ec, eq]; exact nI_ge (by omega) (by omega)) (And.intro vc (br_c (fun z => nm_r (nI_1 c) (HJ x2 le la hI h1 h2 fun z' d hd v hl hk => ?_)) (fun z => And.intro i4 (br_c (fun z1 => And.intro i4 ?_) (fun z1 => nm_r (nI_1 i) (ih (i + 1) x2 le la fuel (by omega) (by omega) hI h1 h2 fun z' => ⟨(h3 z').1, fun t v ht hvN hl e1 e2 => ?_⟩)))))))
      · rw [ec] at z
        rcases Nat.lt_or_ge d c with y | y
        · exact (h3 z').1 d y v hl hk
        · have : d = c := by omega
          subst this
          exact absurd z hl.2
      · rw [ec] at z
        rw [e4] at z1 ⊢
        have hl : Ns le c := ⟨hc, z⟩
        have hR : ∀ d, Ns le d → RY N b_cCount b_tVar d := fun d hd => R d (hI.2.1 d hd)
        obtain ⟨v, hv, ev⟩ := (hR c hl).2.2.2 i (by omega)
        rw [ev]
        have hk : MY N b_cCount b_tVar b_tMode c v := ⟨hv, i, by omega, ev, z1⟩
        refine ys_else _ hv hR hc (fun hx => br_f (by decide) (nm_r (nI_1 i) (ih (i + 1) x2 le la fuel (by omega) (by omega) hI h1 h2 fun z' => ⟨(h3 z').1, fun t w ht hwN hl' e1 e2 => ?_⟩))) (fun hx => br_t rfl (And.intro i4 (And.intro vc (nm_r (e' := upd la c (nI v)) (by rw [ec]) (And.intro vc (nm_r (e' := upd le c 0) (by rw [ec, vb0]) (nm_r (nI_1 i) (ih (i + 1) 1 _ _ fuel (by omega) (by omega) (sv_step hI (fun _ _ => ky_uy) hl hk (by omega) hx) ?_ ?_ ?_))))))))
        · rcases Nat.lt_or_ge t i with y | y
          · exact (h3 z').2 t w y hwN hl' e1 e2
          · have : t = i := by omega
            subst this
            rw [ev, nI_eq (by omega) (by omega)] at e1
            subst e1
            exact hx
        · have := cn_sub (P := Ns le) hl hc
          have e5 : cn (Ns (upd le c 0)) 32 = cn (fun k => Ns le k ∧ k ≠ c) 32 := cn_eq fun k _ => ns_un
          omega
        · intro _
          have := cn_sub (P := Ns le) hl hc
          have e5 : cn (Ns (upd le c 0)) 32 = cn (fun k => Ns le k ∧ k ≠ c) 32 := cn_eq fun k _ => ns_un
          omega
        · intro z'
          exact absurd z' (by decide)
      · rcases Nat.lt_or_ge t i with y | y
        · exact (h3 z').2 t v y hvN hl e1 e2
        · have : t = i := by omega
          subst this
          rw [e4] at z1
          exact absurd e2 z1
theorem yl_38 (post : Int32 → SY → Prop) (J28 : Int32 → (Nat → Int32) → (Nat → Int32) → (Nat → Int32) → (Nat → Int32) → (Nat → Int32) → (Nat → Int32) → (Nat → Int32) → (Nat → Int64) → (Nat → Int32) → (Nat → Int32) → (Nat → Int32) → (Nat → Int32) → (Nat → Int32) → (Nat → Int32) → (Nat → Int32) → (Nat → Int32) → (Nat → Int32) → (Nat → Int32) → (Nat → Int32) → (Nat → Int32) → (Nat → Int32) → Prop)
    {r cc : Nat} (hcc : cc + r ≤ 32) (R : ∀ d, S d → RY N b_cCount b_tVar d) (hN : N ≤ 10) (hC : ∀ c, c < 32 → ∃ q, q ≤ 4 ∧ b_cCount c = nI q)
    (H : ∀ r le la, SvR (UY N b_cCount b_tVar) (MY N b_cCount b_tVar b_tMode) S r la → post r (g_n, g_m, g_planLen, g_clock, b_cKind, b_cStrength, b_cK, b_cCount, b_tVar, b_tSign, b_tMode, b_born, b_here, b_marked, b_out, b_inSet, le, la, b_passed, b_was, b_member, b_val, b_old, b_known, b_plan))
    (HJ : ∀ le la, SvI (UY N b_cCount b_tVar) (MY N b_cCount b_tVar b_tMode) S le la → cn (Ns le) 32 + (r + 1) ≤ 32 → J28 (nI (r + 1)) b_cKind b_cStrength b_cK b_cCount b_tVar b_tSign b_tMode b_born b_here b_marked b_out b_inSet le la b_passed b_was b_member b_val b_old b_known b_plan) :
    ∀ d i x2 le la fuel, i + d = 32 → d < fuel → SvI (UY N b_cCount b_tVar) (MY N b_cCount b_tVar b_tMode) S le la → cn (Ns le) 32 ≤ cc → (¬ x2 = 0 → cn (Ns le) 32 + 1 ≤ cc) →
      (x2 = 0 → (∀ d, d < i → ∀ v, Ns le d → MY N b_cCount b_tVar b_tMode d v → ∃ e, e ≠ d ∧ Ns le e ∧ UY N b_cCount b_tVar e v)) →
      wY_solvable_38 post J28 (nI r) g_n g_m g_planLen g_clock fuel x2 (nI i) b_cKind b_cStrength b_cK b_cCount b_tVar b_tSign b_tMode b_born b_here b_marked b_out b_inSet le la b_passed b_was b_member b_val b_old b_known b_plan := by
  intro d
  induction d with
  | zero =>
    intro i x2 le la fuel hi hf hI h1 h2 h3
    have e : i = 32 := by omega
    subst e
    cases fuel with
    | zero => omega
    | succ fuel =>
      refine br_t (by decide) (br_c (fun z => ?_) (fun z => nm_r (nI_1 r) (HJ le la hI (by have := h2 z; omega))))
      exact yl_end post H hI fun c v hc hk => h3 z c hc.1 v hc hk
  | succ d ih =>
    intro i x2 le la fuel hi hf hI h1 h2 h3
    cases fuel with
    | zero => omega
    | succ fuel =>
      obtain ⟨q, hq, eq⟩ := hC i (by omega)
      refine pk_le 32 i (fun h => absurd h (by omega)) (fun _ => Exists.intro (q + 1) ?_) rfl rfl (by omega) (by omega)
      exact yl_47 post J28 _ (nI r) (by omega) R hN eq hq (fun x2' le' la' hI' h1' h2' h3' => ih (i + 1) x2' le' la' fuel (by omega) (by omega) hI' h1' h2' h3') q 0 x2 le la (q + 1) (by omega) (by omega) hI h1 h2 fun z => ⟨h3 z, fun t v ht => by omega⟩
theorem yl_28 (post : Int32 → SY → Prop) (R : ∀ d, S d → RY N b_cCount b_tVar d) (hN : N ≤ 10) (hC : ∀ c, c < 32 → ∃ q, q ≤ 4 ∧ b_cCount c = nI q)
    (H : ∀ r le la, SvR (UY N b_cCount b_tVar) (MY N b_cCount b_tVar b_tMode) S r la → post r (g_n, g_m, g_planLen, g_clock, b_cKind, b_cStrength, b_cK, b_cCount, b_tVar, b_tSign, b_tMode, b_born, b_here, b_marked, b_out, b_inSet, le, la, b_passed, b_was, b_member, b_val, b_old, b_known, b_plan)) :
    ∀ d r le la fuel, r + d = 32 → d < fuel → SvI (UY N b_cCount b_tVar) (MY N b_cCount b_tVar b_tMode) S le la → cn (Ns le) 32 + r ≤ 32 → wY_solvable_28 post g_n g_m g_planLen g_clock fuel (nI r) b_cKind b_cStrength b_cK b_cCount b_tVar b_tSign b_tMode b_born b_here b_marked b_out b_inSet le la b_passed b_was b_member b_val b_old b_known b_plan := by
  intro d
  induction d with
  | zero =>
    intro r le la fuel hi hf hI h1
    have e : r = 32 := by omega
    subst e
    cases fuel with
    | zero => omega
    | succ fuel => exact br_t (by decide) (yl_end post H hI fun c v hc hk => absurd hc (cn_none (P := Ns le) (N := 32) (by omega) hc.1))
  | succ d ih =>
    intro r le la fuel hi hf hI h1
    cases fuel with
    | zero => omega
    | succ fuel =>
      refine pk_le 32 r (fun h => absurd h (by omega)) (fun _ => Exists.intro 33 ?_) rfl rfl (by omega) (by omega)
      exact yl_38 post _ (cc := 32 - r) (by omega) R hN hC H (fun le' la' hI' h' => ih (r + 1) le' la' fuel (by omega) (by omega) hI' h') 32 0 0 le la 33 (by omega) (by omega) hI (by omega) (fun z => absurd rfl z) fun _ d hd => by omega
theorem vbn {x : Int32} (h : x = 0 ∨ x = 1) : vp_nar .boolean x = x := by
  rcases h with h | h <;> subst h <;> rfl
theorem yl_2 (post : Int32 → SY → Prop) (R : ∀ d, Ns b_inSet d → RY N b_cCount b_tVar d) (hN : N ≤ 10) (hC : ∀ c, c < 32 → ∃ q, q ≤ 4 ∧ b_cCount c = nI q) (hB : B01 b_inSet)
    (H : ∀ r le la, SvR (UY N b_cCount b_tVar) (MY N b_cCount b_tVar b_tMode) (Ns b_inSet) r la → post r (g_n, g_m, g_planLen, g_clock, b_cKind, b_cStrength, b_cK, b_cCount, b_tVar, b_tSign, b_tMode, b_born, b_here, b_marked, b_out, b_inSet, le, la, b_passed, b_was, b_member, b_val, b_old, b_known, b_plan)) :
    ∀ d i le fuel, i + d = 32 → d < fuel → (∀ c, c < i → le c = b_inSet c) → wY_solvable_2 post g_n g_m g_planLen g_clock fuel (nI i) b_cKind b_cStrength b_cK b_cCount b_tVar b_tSign b_tMode b_born b_here b_marked b_out b_inSet le b_last b_passed b_was b_member b_val b_old b_known b_plan := by
  intro d
  induction d with
  | zero =>
    intro i le fuel hi hf h
    have e : i = 32 := by omega
    subst e
    cases fuel with
    | zero => omega
    | succ fuel =>
      have eS : ∀ c, Ns le c ↔ Ns b_inSet c := fun c => ⟨fun y => ⟨y.1, by rw [← h c y.1]; exact y.2⟩, fun y => ⟨y.1, by rw [h c y.1]; exact y.2⟩⟩
      refine br_t (by decide) (Exists.intro 33 (yl_28 post R hN hC H 32 0 le b_last 33 (by omega) (by omega) ⟨fun c hc => by rw [h c hc]; exact hB c hc, fun c hc => (eS c).mp hc, fun c hc hn => absurd ((eS c).mpr hc) hn, fun c d hc hd hn => absurd ((eS c).mpr hc) hn, fun c hc => (eS c).mpr (co_sub hc)⟩ ?_))
      have := cn_le (Ns le) 32
      omega
  | succ d ih =>
    intro i le fuel hi hf h
    cases fuel with
    | zero => omega
    | succ fuel =>
      have ei : (nI i).toNatClampNeg = i := nI_clamp (by omega)
      have vi : vp_in (nI i) 32 := vp_in_nI (by omega) (by omega)
      refine pk_le 32 i (fun h => absurd h (by omega)) (fun _ => And.intro vi (And.intro vi (nm_r (e' := upd le i (b_inSet i)) (by rw [ei, vbn (hB i (by omega))]) (nm_r (nI_1 i) (ih (i + 1) _ fuel (by omega) (by omega) fun c hc => ?_))))) rfl rfl (by omega) (by omega)
      rcases Nat.lt_or_ge c i with y | y
      · rw [pk_un (by omega)]; exact h c y
      · have : c = i := by omega
        subst this
        exact pk_us
theorem ys_solv (post : Int32 → SY → Prop) (R : ∀ d, Ns b_inSet d → RY N b_cCount b_tVar d) (hN : N ≤ 10) (hC : ∀ c, c < 32 → ∃ q, q ≤ 4 ∧ b_cCount c = nI q) (hB : B01 b_inSet)
    (H : ∀ r le la, SvR (UY N b_cCount b_tVar) (MY N b_cCount b_tVar b_tMode) (Ns b_inSet) r la → post r (g_n, g_m, g_planLen, g_clock, b_cKind, b_cStrength, b_cK, b_cCount, b_tVar, b_tSign, b_tMode, b_born, b_here, b_marked, b_out, b_inSet, le, la, b_passed, b_was, b_member, b_val, b_old, b_known, b_plan)) : wpY_solvable post (g_n, g_m, g_planLen, g_clock, b_cKind, b_cStrength, b_cK, b_cCount, b_tVar, b_tSign, b_tMode, b_born, b_here, b_marked, b_out, b_inSet, b_left, b_last, b_passed, b_was, b_member, b_val, b_old, b_known, b_plan) :=
  Exists.intro 33 (yl_2 post R hN hC hB H 32 0 b_left 33 (by omega) (by omega) fun c hc => by omega)
end
end
section
/-! the reference: choose -/
def ln (x : Int64) : Nat := x.toInt.toNat
theorem ln_lN {n : Nat} (h : n < 2 ^ 63) : ln (lN n) = n := by unfold ln; rw [pk_lT h]; omega
def keyY (st : Nat → Int32) (bn : Nat → Int64) (c : Nat) : Nat := tn (st c) * 65536 + ln (bn c)
/-- the candidates, x the extra one or -1 -/
def DY (x : Int32) (he : Nat → Int32) (c : Nat) : Prop := c < 32 ∧ (nI c = x ∨ (c ≠ 20 ∧ he c ≠ 0))
/-- what choose() gives: C the chosen set, out its outputs -/
def OutR (us mk : Nat → Nat → Prop) (key : Nat → Nat) (D C : Nat → Prop) (out : Nat → Int32) : Prop :=
  Chs us mk key D C ∧ Slv us mk C ∧ LsO mk C out ∧ ∀ c, c < 32 → ¬ C c → out c = -1
theorem ns_up {a : Nat → Int32} {m : Nat} (hm : m < 32) {c : Nat} : Ns (upd a m 1) c ↔ Ns a c ∨ c = m := by
  rcases Classical.em (c = m) with z | z
  · subst z
    exact ⟨fun _ => Or.inr rfl, fun _ => ⟨hm, by rw [pk_us]; decide⟩⟩
  · unfold Ns; rw [pk_un z]
    exact ⟨Or.inl, fun h => h.elim id fun q => absurd q z⟩
theorem up_up {a : Nat → Int32} {m : Nat} {x y : Int32} : upd (upd a m x) m y = upd a m y := by
  funext j
  unfold upd
  by_cases h : j = m
  · rw [if_pos h, if_pos h]
  · rw [if_neg h, if_neg h, if_neg h]
theorem b01_up {a : Nat → Int32} {m : Nat} {x : Int32} (h : B01 a) (hx : x = 0 ∨ x = 1) : B01 (upd a m x) := fun c hc => by
  rcases Classical.em (c = m) with z | z
  · subst z; rw [pk_us]; exact hx
  · rw [pk_un z]; exact h c hc
section
variable {g_n g_m g_planLen : Int32} {g_clock : Int64} {b_cKind b_cStrength b_cK b_cCount b_tVar b_tSign b_tMode b_here b_marked b_out b_inSet b_left b_last b_passed b_was b_member b_val b_old b_known b_plan : Nat → Int32} {b_born : Nat → Int64}
variable {N : Nat}
theorem yl_202 (post : SY → Prop) (H : ∀ out, (∀ c, c < 32 → (b_inSet c = 0 → out c = -1) ∧ (b_inSet c ≠ 0 → out c = b_last c)) → post (g_n, g_m, g_planLen, g_clock, b_cKind, b_cStrength, b_cK, b_cCount, b_tVar, b_tSign, b_tMode, b_born, b_here, b_marked, out, b_inSet, b_left, b_last, b_passed, b_was, b_member, b_val, b_old, b_known, b_plan)) :
    ∀ d i out fuel, i + d = 32 → d < fuel → (∀ c, c < i → (b_inSet c = 0 → out c = -1) ∧ (b_inSet c ≠ 0 → out c = b_last c)) → wY_choose_202 post g_n g_m g_planLen g_clock fuel (nI i) b_cKind b_cStrength b_cK b_cCount b_tVar b_tSign b_tMode b_born b_here b_marked out b_inSet b_left b_last b_passed b_was b_member b_val b_old b_known b_plan := by
  intro d
  induction d with
  | zero =>
    intro i out fuel hi hf h
    have e : i = 32 := by omega
    subst e
    cases fuel with
    | zero => omega
    | succ fuel => exact br_t (by decide) (H out h)
  | succ d ih =>
    intro i out fuel hi hf h
    cases fuel with
    | zero => omega
    | succ fuel =>
      have ei : (nI i).toNatClampNeg = i := nI_clamp (by omega)
      have vi : vp_in (nI i) 32 := vp_in_nI (by omega) (by omega)
      have nx : ∀ y : Int32, (b_inSet i = 0 → y = -1) → (b_inSet i ≠ 0 → y = b_last i) → ∀ c, c < i + 1 → (b_inSet c = 0 → upd out i y c = -1) ∧ (b_inSet c ≠ 0 → upd out i y c = b_last c) := by
        intro y h1 h2 c hc
        rcases Nat.lt_or_ge c i with z | z
        · rw [pk_un (by omega)]; exact h c z
        · have : c = i := by omega
          subst this
          rw [pk_us]; exact ⟨h1, h2⟩
      refine pk_le 32 i (fun h => absurd h (by omega)) (fun _ => And.intro vi (br_c (fun z => And.intro vi (nm_r (e' := upd out i (-1)) (by rw [ei]) (nm_r (nI_1 i) (ih (i + 1) _ fuel (by omega) (by omega) (nx _ (fun _ => rfl) fun q => ?_))))) (fun z => And.intro vi (And.intro vi (nm_r (e' := upd out i (b_last i)) (by rw [ei]) (nm_r (nI_1 i) (ih (i + 1) _ fuel (by omega) (by omega) (nx _ (fun q => ?_) fun _ => rfl)))))))) rfl rfl (by omega) (by omega)
      · rw [ei] at z; exact absurd z q
      · rw [ei] at z; exact absurd q z
theorem yl_195 (post : SY → Prop) {key : Nat → Nat} {D : Nat → Prop} (hD : ∀ c, D c → RY N b_cCount b_tVar c) (hN : N ≤ 10) (hC : ∀ c, c < 32 → ∃ q, q ≤ 4 ∧ b_cCount c = nI q) (hB : B01 b_inSet)
    (h : Chs (UY N b_cCount b_tVar) (MY N b_cCount b_tVar b_tMode) key D (Ns b_inSet)) (hS : Slv (UY N b_cCount b_tVar) (MY N b_cCount b_tVar b_tMode) (Ns b_inSet))
    (H : ∀ C out le la, OutR (UY N b_cCount b_tVar) (MY N b_cCount b_tVar b_tMode) key D C out → post (g_n, g_m, g_planLen, g_clock, b_cKind, b_cStrength, b_cK, b_cCount, b_tVar, b_tSign, b_tMode, b_born, b_here, b_marked, out, b_inSet, le, la, b_passed, b_was, b_member, b_val, b_old, b_known, b_plan)) : wY_choose_195 post g_n g_m g_planLen g_clock b_cKind b_cStrength b_cK b_cCount b_tVar b_tSign b_tMode b_born b_here b_marked b_out b_inSet b_left b_last b_passed b_was b_member b_val b_old b_known b_plan := by
  refine ys_solv _ (fun d hd => hD d (h.1 d hd)) hN hC hB fun r le la hr => ?_
  have hL : LsO (MY N b_cCount b_tVar b_tMode) (Ns b_inSet) la := by
    rcases hr with ⟨_, _, h3⟩ | ⟨_, h2⟩
    · exact h3
    · exact absurd hS h2
  refine Exists.intro 33 (yl_202 post (fun out ho => H (Ns b_inSet) out le la ⟨h, hS, ⟨fun c hc => ?_, fun c d hc hd => ?_⟩, fun c hc hn => (ho c hc).1 (Classical.byContradiction fun q => hn ⟨hc, q⟩)⟩) 32 0 b_out 33 (by omega) (by omega) fun c hc => by omega)
  · rw [(ho c hc.1).2 hc.2]; exact hL.1 c hc
  · rw [(ho c hc.1).2 hc.2, (ho d hd.1).2 hd.2]; exact hL.2 c d hc hd
/-- what the comparison needs: strength and birth as small numbers -/
def SB (st : Nat → Int32) (bn : Nat → Int64) (c : Nat) : Prop := ∃ s b, s ≤ 7 ∧ b < 65536 ∧ st c = nI s ∧ bn c = lN b
theorem yl_79 (post : SY → Prop) (J68 : Int32 → Int32 → Int32 → Int32 → Int64 → (Nat → Int32) → (Nat → Int32) → (Nat → Int32) → (Nat → Int32) → (Nat → Int32) → (Nat → Int32) → (Nat → Int32) → (Nat → Int64) → (Nat → Int32) → (Nat → Int32) → (Nat → Int32) → (Nat → Int32) → (Nat → Int32) → (Nat → Int32) → (Nat → Int32) → (Nat → Int32) → (Nat → Int32) → (Nat → Int32) → (Nat → Int32) → (Nat → Int32) → (Nat → Int32) → Prop)
    {rd : Nat} (hsb : ∀ c, c < 32 → b_passed c = 0 → SB b_cStrength b_born c) (hRs : ∀ d, Ns b_inSet d → RY N b_cCount b_tVar d) (hRm : ∀ c, c < 32 → b_passed c = 0 → RY N b_cCount b_tVar c) (hN : N ≤ 10) (hC : ∀ c, c < 32 → ∃ q, q ≤ 4 ∧ b_cCount c = nI q) (hB : B01 b_inSet)
    (Hn : (∀ c, c < 32 → b_passed c ≠ 0) → wY_choose_195 post g_n g_m g_planLen g_clock b_cKind b_cStrength b_cK b_cCount b_tVar b_tSign b_tMode b_born b_here b_marked b_out b_inSet b_left b_last b_passed b_was b_member b_val b_old b_known b_plan)
    (HJ : ∀ m r le la, m < 32 → b_passed m = 0 → (∀ c, c < 32 → b_passed c = 0 → keyY b_cStrength b_born m ≤ keyY b_cStrength b_born c) → SvR (UY N b_cCount b_tVar) (MY N b_cCount b_tVar b_tMode) (Ns (upd b_inSet m 1)) r la → J68 (nI (rd + 1)) g_n g_m g_planLen g_clock b_cKind b_cStrength b_cK b_cCount b_tVar b_tSign b_tMode b_born b_here b_marked b_out (upd b_inSet m r) le la (upd b_passed m 1) b_was b_member b_val b_old b_known b_plan) :
    ∀ d i x3 fuel, i + d = 32 → d < fuel → ((x3 = -1 ∧ ∀ c, c < i → b_passed c ≠ 0) ∨ (∃ m, m < i ∧ x3 = nI m ∧ b_passed m = 0 ∧ ∀ c, c < i → b_passed c = 0 → keyY b_cStrength b_born m ≤ keyY b_cStrength b_born c)) → wY_choose_79 post J68 (nI rd) g_n g_m g_planLen g_clock b_cKind b_cStrength b_cK b_cCount b_tVar b_tSign b_tMode b_born b_here b_marked b_out b_inSet b_left b_last b_passed b_was b_member b_val b_old b_known b_plan fuel x3 (nI i) := by
  intro d
  induction d with
  | zero =>
    intro i x3 fuel hi hf h
    have e : i = 32 := by omega
    subst e
    cases fuel with
    | zero => omega
    | succ fuel =>
      refine br_t (by decide) ?_
      rcases h with ⟨e, h⟩ | ⟨m, hm, e, hp, h⟩
      · subst e
        exact br_f (by decide) (Hn h)
      · subst e
        have em : (nI m).toNatClampNeg = m := nI_clamp (by omega)
        have vm : vp_in (nI m) 32 := vp_in_nI hm (by omega)
        refine br_t (nI_pos' (by omega)) (And.intro vm (nm_r (e' := upd b_passed m 1) (by rw [em, vb1]) (And.intro vm (nm_r (e' := upd b_inSet m 1) (by rw [em, vb1]) ?_))))
        refine ys_solv _ (fun d hd => ?_) hN hC (b01_up hB (Or.inr rfl)) fun r le la hr => ?_
        · rcases (ns_up hm).mp hd with q | q
          · exact hRs d q
          · subst q; exact hRm d hm hp
        · have hr01 : r = 0 ∨ r = 1 := hr.elim (fun q => Or.inr q.1) fun q => Or.inl q.1
          exact And.intro vm (nm_r (e' := upd b_inSet m r) (by rw [em, vbn hr01, up_up]) (nm_r (nI_1 rd) (HJ m r le la hm hp h hr)))
  | succ d ih =>
    intro i x3 fuel hi hf h
    cases fuel with
    | zero => omega
    | succ fuel =>
      have ei : (nI i).toNatClampNeg = i := nI_clamp (by omega)
      have vi : vp_in (nI i) 32 := vp_in_nI (by omega) (by omega)
      have lst : ∀ {P : Nat → Prop}, (∀ c, c < i → P c) → P i → ∀ c, c < i + 1 → P c := fun h1 h2 c hc => by
        rcases Nat.lt_or_ge c i with y | y
        · exact h1 c y
        · have : c = i := by omega
          subst this
          exact h2
      refine pk_le 32 i (fun h => absurd h (by omega)) (fun _ => And.intro vi (br_c (fun z => ?_) (fun z => nm_r (nI_1 i) (ih (i + 1) x3 fuel (by omega) (by omega) ?_)))) rfl rfl (by omega) (by omega)
      · rw [ei] at z
        rcases h with ⟨e, h⟩ | ⟨m, hm, e, hp, h⟩
        · subst e
          exact br_t (by decide) (nm_r (nI_1 i) (ih (i + 1) _ fuel (by omega) (by omega) (Or.inr ⟨i, by omega, rfl, z, lst (fun c hc q => absurd q (h c hc)) fun _ => Nat.le_refl _⟩)))
        · subst e
          have em : (nI m).toNatClampNeg = m := nI_clamp (by omega)
          have vm : vp_in (nI m) 32 := vp_in_nI (by omega) (by omega)
          obtain ⟨si, bi, hsi, hbi, esi, ebi⟩ := hsb i (by omega) z
          obtain ⟨sm, bm, hsm, hbm, esm, ebm⟩ := hsb m (by omega) hp
          have ki : keyY b_cStrength b_born i = si * 65536 + bi := by unfold keyY; rw [esi, ebi, tn_nI (by omega), ln_lN (by omega)]
          have km : keyY b_cStrength b_born m = sm * 65536 + bm := by unfold keyY; rw [esm, ebm, tn_nI (by omega), ln_lN (by omega)]
          have take : keyY b_cStrength b_born i ≤ keyY b_cStrength b_born m → wY_choose_79 post J68 (nI rd) g_n g_m g_planLen g_clock b_cKind b_cStrength b_cK b_cCount b_tVar b_tSign b_tMode b_born b_here b_marked b_out b_inSet b_left b_last b_passed b_was b_member b_val b_old b_known b_plan fuel (nI i) (nI (i + 1)) := fun hle =>
            ih (i + 1) _ fuel (by omega) (by omega) (Or.inr ⟨i, by omega, rfl, z, lst (fun c hc q => Nat.le_trans hle (h c hc q)) fun _ => Nat.le_refl _⟩)
          have keep : keyY b_cStrength b_born m ≤ keyY b_cStrength b_born i → wY_choose_79 post J68 (nI rd) g_n g_m g_planLen g_clock b_cKind b_cStrength b_cK b_cCount b_tVar b_tSign b_tMode b_born b_here b_marked b_out b_inSet b_left b_last b_passed b_was b_member b_val b_old b_known b_plan fuel (nI m) (nI (i + 1)) := fun hle =>
            ih (i + 1) _ fuel (by omega) (by omega) (Or.inr ⟨m, by omega, rfl, hp, lst h fun _ => hle⟩)
          refine br_f (nI_pos (by omega)) (And.intro vi (And.intro vm ?_))
          rw [ei, em, esi, esm, ebi, ebm]
          refine pk_lt si sm (fun h1 => nm_r (nI_1 i) (take (by omega))) (fun h1 => And.intro vi (And.intro vm (pk_eq si sm (fun h2 => And.intro vi (And.intro vm (br_c (fun h3 => nm_r (nI_1 i) (keep ?_)) (fun h3 => nm_r (nI_1 i) (take ?_))))) (fun h2 => nm_r (nI_1 i) (keep (by omega))) rfl rfl (by omega) (by omega)))) rfl rfl (by omega) (by omega)
          · rw [pk_lLE (by omega) (by omega)] at h3; omega
          · rw [pk_lLE (by omega) (by omega)] at h3; omega
      · rw [ei] at z
        rcases h with ⟨e, h⟩ | ⟨m, hm, e, hp, h⟩
        · exact Or.inl ⟨e, lst h z⟩
        · exact Or.inr ⟨m, by omega, e, hp, lst h fun q => absurd q z⟩
/-- the state of the choice between two rounds -/
def ChI (us mk : Nat → Nat → Prop) (key : Nat → Nat) (D : Nat → Prop) (inS pa : Nat → Int32) : Prop :=
  B01 inS ∧ (∀ c, c < 32 → pa c = 0 → D c) ∧ Chs us mk key (fun c => D c ∧ pa c ≠ 0) (Ns inS) ∧ Slv us mk (Ns inS) ∧ ∀ c d, D c → pa c ≠ 0 → d < 32 → pa d = 0 → key c < key d
theorem chI_step {us mk : Nat → Nat → Prop} {key : Nat → Nat} {D : Nat → Prop} {inS pa la : Nat → Int32} {m : Nat} {r : Int32} (h : ChI us mk key D inS pa) (hinj : ∀ c d, D c → D d → key c = key d → c = d) (hm : m < 32) (hp : pa m = 0) (hmin : ∀ c, c < 32 → pa c = 0 → key m ≤ key c)
    (hr : SvR us mk (Ns (upd inS m 1)) r la) : ChI us mk key D (upd inS m r) (upd pa m 1) := by
  obtain ⟨h1, h2, h3, h4, h5⟩ := h
  have hDm := h2 m hm hp
  have n1 : (1 : Int32) ≠ 0 := by decide
  have hpa : ∀ c, upd pa m 1 c = 0 → pa c = 0 ∧ c ≠ m := fun c hc => by
    rcases Classical.em (c = m) with z | z
    · subst z; rw [pk_us] at hc; exact absurd hc n1
    · rw [pk_un z] at hc; exact ⟨hc, z⟩
  have hk : ∀ d, (D d ∧ pa d ≠ 0) → key d < key m := fun d hd => h5 d m hd.1 hd.2 hm hp
  have eD : ∀ c, ((D c ∧ pa c ≠ 0) ∨ c = m) ↔ (D c ∧ upd pa m 1 c ≠ 0) := fun c => by
    rcases Classical.em (c = m) with z | z
    · subst z; rw [pk_us]; exact ⟨fun _ => ⟨hDm, n1⟩, fun _ => Or.inr rfl⟩
    · rw [pk_un z]; exact ⟨fun q => q.elim id fun y => absurd y z, Or.inl⟩
  have hn : ¬ Ns inS m := fun q => (h3.1 m q).2 hp
  have last : ∀ c d, D c → upd pa m 1 c ≠ 0 → d < 32 → upd pa m 1 d = 0 → key c < key d := fun c d hc hpc hd hpd => by
    obtain ⟨q1, q2⟩ := hpa d hpd
    rcases Classical.em (c = m) with z | z
    · subst z
      have a := hmin d hd q1
      rcases Nat.lt_or_ge (key c) (key d) with y | y
      · exact y
      · exact absurd (hinj c d hc (h2 d hd q1) (by omega)).symm q2
    · rw [pk_un z] at hpc; exact h5 c d hc hpc hd q1
  have hS1 : ∀ c, Ns (upd inS m 1) c ↔ Ns inS c ∨ c = m := fun c => ns_up hm
  rcases hr with ⟨e, hs, _⟩ | ⟨e, hs⟩
  · subst e
    have hs' := (sv_eq hS1).mp hs
    exact ⟨b01_up h1 (Or.inr rfl), fun c hc q => h2 c hc (hpa c q).1, ch_congr (ch_yes h3 hk hs') eD (fun c => (hS1 c).symm) (fun _ _ _ _ => Iff.rfl) (fun _ _ _ => Iff.rfl) (fun _ _ _ => Iff.rfl), hs, last⟩
  · subst e
    have e0 : ∀ c, Ns inS c ↔ Ns (upd inS m 0) c := fun c => by
      rw [ns_un]; exact ⟨fun q => ⟨q, fun y => hn (y ▸ q)⟩, fun q => q.1⟩
    refine ⟨b01_up h1 (Or.inl rfl), fun c hc q => h2 c hc (hpa c q).1, ch_congr (ch_no h3 (fun q => q.2 hp) fun y => ?_) eD e0 (fun _ _ _ _ => Iff.rfl) (fun _ _ _ => Iff.rfl) (fun _ _ _ => Iff.rfl), (sv_eq e0).mp h4, last⟩
    exact hs (sv_mono (fun d hd => ((hS1 d).mp hd).elim (fun q => Or.inl ⟨q, hk d (h3.1 d q)⟩) Or.inr) y)
theorem yl_68 (post : SY → Prop) {D : Nat → Prop} (hD : ∀ c, D c → RY N b_cCount b_tVar c ∧ SB b_cStrength b_born c) (hinj : ∀ c d, D c → D d → keyY b_cStrength b_born c = keyY b_cStrength b_born d → c = d) (hN : N ≤ 10) (hC : ∀ c, c < 32 → ∃ q, q ≤ 4 ∧ b_cCount c = nI q)
    (H : ∀ C out inS pa le la, OutR (UY N b_cCount b_tVar) (MY N b_cCount b_tVar b_tMode) (keyY b_cStrength b_born) D C out → post (g_n, g_m, g_planLen, g_clock, b_cKind, b_cStrength, b_cK, b_cCount, b_tVar, b_tSign, b_tMode, b_born, b_here, b_marked, out, inS, le, la, pa, b_was, b_member, b_val, b_old, b_known, b_plan)) :
    ∀ d rd inS pa le la fuel, rd + d = 32 → d < fuel → ChI (UY N b_cCount b_tVar) (MY N b_cCount b_tVar b_tMode) (keyY b_cStrength b_born) D inS pa → cn (fun c => pa c = 0) 32 + rd ≤ 32 → wY_choose_68 post fuel (nI rd) g_n g_m g_planLen g_clock b_cKind b_cStrength b_cK b_cCount b_tVar b_tSign b_tMode b_born b_here b_marked b_out inS le la pa b_was b_member b_val b_old b_known b_plan := by
  have fin : ∀ inS pa le la, ChI (UY N b_cCount b_tVar) (MY N b_cCount b_tVar b_tMode) (keyY b_cStrength b_born) D inS pa → (∀ c, c < 32 → pa c ≠ 0) → wY_choose_195 post g_n g_m g_planLen g_clock b_cKind b_cStrength b_cK b_cCount b_tVar b_tSign b_tMode b_born b_here b_marked b_out inS le la pa b_was b_member b_val b_old b_known b_plan := by
    intro inS pa le la hI hp
    refine yl_195 post (fun c hc => (hD c hc).1) hN hC hI.1 (ch_congr hI.2.2.1 (fun c => ⟨fun q => q.1, fun q => ⟨q, hp c (hD c q).1.1⟩⟩) (fun _ => Iff.rfl) (fun _ _ _ _ => Iff.rfl) (fun _ _ _ => Iff.rfl) (fun _ _ _ => Iff.rfl)) hI.2.2.2.1 fun C out le' la' hO => H C out inS pa le' la' hO
  intro d
  induction d with
  | zero =>
    intro rd inS pa le la fuel hi hf hI hc
    have e : rd = 32 := by omega
    subst e
    cases fuel with
    | zero => omega
    | succ fuel => exact br_t (by decide) (fin inS pa le la hI fun c hc' => cn_none (P := fun c => pa c = 0) (N := 32) (by omega) hc')
  | succ d ih =>
    intro rd inS pa le la fuel hi hf hI hc
    cases fuel with
    | zero => omega
    | succ fuel =>
      refine pk_le 32 rd (fun h => absurd h (by omega)) (fun _ => Exists.intro 33 (yl_79 post _ (fun c hc' hp => (hD c (hI.2.1 c hc' hp)).2) (fun d hd => (hD d (hI.2.2.1.1 d hd).1).1) (fun c hc' hp => (hD c (hI.2.1 c hc' hp)).1) hN hC hI.1 (fin inS pa le la hI) (fun m r le' la' hm hp hmin hr => ih (rd + 1) _ _ le' la' fuel (by omega) (by omega) (chI_step hI hinj hm hp hmin hr) ?_) 32 0 (-1) 33 (by omega) (by omega) (Or.inl ⟨rfl, fun c hc' => by omega⟩))) rfl rfl (by omega) (by omega)
      have e1 := cn_sub (P := fun c => pa c = 0) hp hm
      have e2 : cn (fun c => upd pa m 1 c = 0) 32 ≤ cn (fun c => pa c = 0 ∧ c ≠ m) 32 := cn_mono fun c _ hc' => by
        rcases Classical.em (c = m) with z | z
        · subst z; rw [pk_us] at hc'; exact absurd hc' (by decide)
        · rw [pk_un z] at hc'; exact ⟨hc', z⟩
      omega
theorem yl_16 (post : SY → Prop) {x : Int32} (hD : ∀ c, DY x b_here c → RY N b_cCount b_tVar c ∧ SB b_cStrength b_born c) (hinj : ∀ c d, DY x b_here c → DY x b_here d → keyY b_cStrength b_born c = keyY b_cStrength b_born d → c = d) (hN : N ≤ 10) (hC : ∀ c, c < 32 → ∃ q, q ≤ 4 ∧ b_cCount c = nI q)
    (H : ∀ C out inS pa le la, OutR (UY N b_cCount b_tVar) (MY N b_cCount b_tVar b_tMode) (keyY b_cStrength b_born) (DY x b_here) C out → post (g_n, g_m, g_planLen, g_clock, b_cKind, b_cStrength, b_cK, b_cCount, b_tVar, b_tSign, b_tMode, b_born, b_here, b_marked, out, inS, le, la, pa, b_was, b_member, b_val, b_old, b_known, b_plan)) :
    ∀ d i inS pa fuel, i + d = 32 → d < fuel → (∀ c, c < i → inS c = 0 ∧ (pa c = 0 ↔ DY x b_here c)) → wY_choose_16 post x g_n g_m g_planLen g_clock fuel (nI i) b_cKind b_cStrength b_cK b_cCount b_tVar b_tSign b_tMode b_born b_here b_marked b_out inS b_left b_last pa b_was b_member b_val b_old b_known b_plan := by
  intro d
  induction d with
  | zero =>
    intro i inS pa fuel hi hf h
    have e : i = 32 := by omega
    subst e
    cases fuel with
    | zero => omega
    | succ fuel =>
      have hns : ∀ c, ¬ Ns inS c := fun c hc => hc.2 (h c hc.1).1
      refine br_t (by decide) (Exists.intro 33 (yl_68 post hD hinj hN hC H 32 0 inS pa b_left b_last 33 (by omega) (by omega) ⟨fun c hc => Or.inl (h c hc).1, fun c hc hp => (h c hc).2.mp hp, ⟨fun c hc => absurd hc (hns c), fun c hc => absurd ((h c hc.1.1).2.mpr hc.1) hc.2⟩, sv_empty hns, fun c d hc hp => absurd ((h c hc.1).2.mpr hc) hp⟩ ?_))
      have := cn_le (fun c => pa c = 0) 32
      omega
  | succ d ih =>
    intro i inS pa fuel hi hf h
    cases fuel with
    | zero => omega
    | succ fuel =>
      have ei : (nI i).toNatClampNeg = i := nI_clamp (by omega)
      have vi : vp_in (nI i) 32 := vp_in_nI (by omega) (by omega)
      have nx : ∀ y : Int32, (y = 0 ↔ DY x b_here i) → wY_choose_16 post x g_n g_m g_planLen g_clock fuel (nI (i + 1)) b_cKind b_cStrength b_cK b_cCount b_tVar b_tSign b_tMode b_born b_here b_marked b_out (upd inS i 0) b_left b_last (upd pa i y) b_was b_member b_val b_old b_known b_plan := fun y hy =>
        ih (i + 1) _ _ fuel (by omega) (by omega) fun c hc => by
          rcases Nat.lt_or_ge c i with z | z
          · rw [pk_un (by omega), pk_un (by omega)]; exact h c z
          · have : c = i := by omega
            subst this
            rw [pk_us, pk_us]; exact ⟨rfl, hy⟩
      have n1 : ¬ (1 : Int32) = 0 := by decide
      refine pk_le 32 i (fun h => absurd h (by omega)) (fun _ => And.intro vi (nm_r (e' := upd inS i 0) (by rw [ei, vb0]) (br_c (fun z => And.intro vi (nm_r (e' := upd pa i 0) (by rw [ei, vb0]) (nm_r (nI_1 i) (nx 0 ⟨fun _ => ⟨by omega, Or.inl z⟩, fun _ => rfl⟩)))) (fun z => pk_eq i 20 (fun z1 => And.intro vi (nm_r (e' := upd pa i 1) (by rw [ei, vb1]) (nm_r (nI_1 i) (nx 1 ⟨fun q => absurd q n1, fun q => q.2.elim (fun y => absurd y z) fun y => absurd z1 y.1⟩)))) (fun z1 => And.intro vi (br_c (fun z2 => And.intro vi (nm_r (e' := upd pa i 1) (by rw [ei, vb1]) (nm_r (nI_1 i) (nx 1 ⟨fun q => absurd q n1, fun q => q.2.elim (fun y => absurd y z) fun y => ?_⟩)))) (fun z2 => And.intro vi (nm_r (e' := upd pa i 0) (by rw [ei, vb0]) (nm_r (nI_1 i) (nx 0 ⟨fun _ => ⟨by omega, Or.inr ⟨z1, ?_⟩⟩, fun _ => rfl⟩)))))) rfl rfl (by omega) (by omega))))) rfl rfl (by omega) (by omega)
      · rw [ei] at z2; exact absurd z2 y.2
      · rw [ei] at z2; exact z2
theorem ys_choose (post : SY → Prop) (hD : ∀ c, DY (-1) b_here c → RY N b_cCount b_tVar c ∧ SB b_cStrength b_born c) (hinj : ∀ c d, DY (-1) b_here c → DY (-1) b_here d → keyY b_cStrength b_born c = keyY b_cStrength b_born d → c = d) (hN : N ≤ 10) (hC : ∀ c, c < 32 → ∃ q, q ≤ 4 ∧ b_cCount c = nI q)
    (H : ∀ C out inS pa le la, OutR (UY N b_cCount b_tVar) (MY N b_cCount b_tVar b_tMode) (keyY b_cStrength b_born) (DY (-1) b_here) C out → post (g_n, g_m, g_planLen, g_clock, b_cKind, b_cStrength, b_cK, b_cCount, b_tVar, b_tSign, b_tMode, b_born, b_here, b_marked, out, inS, le, la, pa, b_was, b_member, b_val, b_old, b_known, b_plan)) : wpY_choose post (g_n, g_m, g_planLen, g_clock, b_cKind, b_cStrength, b_cK, b_cCount, b_tVar, b_tSign, b_tMode, b_born, b_here, b_marked, b_out, b_inSet, b_left, b_last, b_passed, b_was, b_member, b_val, b_old, b_known, b_plan) (-1) :=
  br_t (by decide) (Exists.intro 33 (yl_16 post hD hinj hN hC H 32 0 b_inSet b_passed 33 (by omega) (by omega) fun c hc => by omega))
theorem ys_chooseX (post : SY → Prop) {e : Nat} (he : e < 32) (hD : ∀ c, DY (nI e) b_here c → RY N b_cCount b_tVar c ∧ SB b_cStrength (vp_updL b_born e g_clock) c) (hinj : ∀ c d, DY (nI e) b_here c → DY (nI e) b_here d → keyY b_cStrength (vp_updL b_born e g_clock) c = keyY b_cStrength (vp_updL b_born e g_clock) d → c = d) (hN : N ≤ 10) (hC : ∀ c, c < 32 → ∃ q, q ≤ 4 ∧ b_cCount c = nI q)
    (H : ∀ C out inS pa le la, OutR (UY N b_cCount b_tVar) (MY N b_cCount b_tVar b_tMode) (keyY b_cStrength (vp_updL b_born e g_clock)) (DY (nI e) b_here) C out → post (g_n, g_m, g_planLen, g_clock, b_cKind, b_cStrength, b_cK, b_cCount, b_tVar, b_tSign, b_tMode, vp_updL b_born e g_clock, b_here, b_marked, out, inS, le, la, pa, b_was, b_member, b_val, b_old, b_known, b_plan)) : wpY_choose post (g_n, g_m, g_planLen, g_clock, b_cKind, b_cStrength, b_cK, b_cCount, b_tVar, b_tSign, b_tMode, b_born, b_here, b_marked, b_out, b_inSet, b_left, b_last, b_passed, b_was, b_member, b_val, b_old, b_known, b_plan) (nI e) :=
  br_f (nI_pos (by omega)) (And.intro (vp_in_nI he (by omega)) (nm_r (e' := vp_updL b_born e g_clock) (by rw [nI_clamp (by omega)]) (Exists.intro 33 (yl_16 post hD hinj hN hC H 32 0 b_inSet b_passed 33 (by omega) (by omega) fun c hc => by omega))))
end
end
section
/-! the reference: demand, run, unknowns, update -/
section
variable {g_n g_m g_planLen : Int32} {g_clock : Int64} {b_cKind b_cStrength b_cK b_cCount b_tVar b_tSign b_tMode b_here b_marked b_out b_inSet b_left b_last b_passed b_was b_member b_val b_old b_known b_plan : Nat → Int32} {b_born : Nat → Int64}
variable {N : Nat} {c o q t0 : Nat}
theorem yl_dem (hN : N ≤ 10) (post : Int32 → Prop) (hc : c < 32) (eq : b_cCount c = nI q) (hq : q ≤ 4) (ht : t0 < q) (hv : ∀ t, t < q → ∃ v, v < N ∧ b_tVar (4 * c + t) = nI v) {x0 : Int32}
    (H1 : b_cKind c = 1 → post (b_tSign (4 * c + t0) * dmA (b_cKind c) b_tVar b_tSign b_val (4 * c) t0 q x0)) (H2 : ¬ b_cKind c = 1 → post (dmA (b_cKind c) b_tVar b_tSign b_val (4 * c) t0 q x0)) :
    ∀ d i x3 fuel, i + d = q → d < fuel → x3 = dmA (b_cKind c) b_tVar b_tSign b_val (4 * c) t0 i x0 → wY_demand_37 post (nI c) (nI t0) g_n g_m g_planLen g_clock b_cKind b_cStrength b_cK b_cCount b_tVar b_tSign b_tMode b_born b_here b_marked b_out b_inSet b_left b_last b_passed b_was b_member b_val b_old b_known b_plan fuel x3 (nI i) := by
  have ec : (nI c).toNatClampNeg = c := nI_clamp (by omega)
  have vc : vp_in (nI c) 32 := vp_in_nI hc (by omega)
  intro d
  induction d with
  | zero =>
    intro i x3 fuel hi hf h3
    have e : i = q := by omega
    subst e
    cases fuel with
    | zero => omega
    | succ fuel =>
      have e4 : (4 * nI c + nI t0).toNatClampNeg = 4 * c + t0 := by rw [ix_y]; exact nI_clamp (by omega)
      have i4 : vp_in (4 * nI c + nI t0) 128 := by rw [ix_y]; exact vp_in_nI (by omega) (by omega)
      refine And.intro vc (br_t (by rw [ec, eq]; exact Int32.le_refl _) (And.intro vc (br_c (fun z => And.intro i4 ?_) (fun z => ?_))))
      · rw [ec] at z
        rw [e4, h3]; exact H1 z
      · rw [ec] at z
        rw [h3]; exact H2 z
  | succ d ih =>
    intro i x3 fuel hi hf h3
    cases fuel with
    | zero => omega
    | succ fuel =>
      obtain ⟨v, hvN, ev⟩ := hv i (by omega)
      have e4 : (4 * nI c + nI i).toNatClampNeg = 4 * c + i := by rw [ix_y]; exact nI_clamp (by omega)
      have i4 : vp_in (4 * nI c + nI i) 128 := by rw [ix_y]; exact vp_in_nI (by omega) (by omega)
      have evv : (nI v).toNatClampNeg = v := nI_clamp (by omega)
      have hu : b_val (tn (b_tVar (4 * c + i))) = b_val v := by rw [ev, tn_nI (by omega)]
      refine And.intro vc (br_f (by rw [ec, eq]; exact nI_ge (by omega) (by omega)) (And.intro i4 (And.intro (by rw [e4, ev]; exact vp_in_nI (by omega) (by omega)) (nm_r (e' := b_val v) (by rw [e4, ev, evv]) ?_))))
      have nx : ∀ y, y = dmA (b_cKind c) b_tVar b_tSign b_val (4 * c) t0 (i + 1) x0 → wY_demand_37 post (nI c) (nI t0) g_n g_m g_planLen g_clock b_cKind b_cStrength b_cK b_cCount b_tVar b_tSign b_tMode b_born b_here b_marked b_out b_inSet b_left b_last b_passed b_was b_member b_val b_old b_known b_plan fuel y (nI (i + 1)) := fun y hy => ih (i + 1) y fuel (by omega) (by omega) hy
      have nt : ∀ {P : Prop}, i ≠ t0 → (nI i = nI t0 → P) := fun h e => absurd ((nI_eq (by omega) (by omega)).mp e) h
      by_cases hit : i = t0
      · subst hit
        exact br_t rfl (br_t rfl (br_t rfl (br_t rfl (nm_r (nI_1 i) (nx _ (by rw [dm_s0 rfl]; exact h3))))))
      · have hne : ¬ nI i = nI t0 := fun e => hit ((nI_eq (by omega) (by omega)).mp e)
        refine br_f hne (And.intro vc ?_)
        rw [ec]
        by_cases k1 : b_cKind c = 1
        · have n2 : ¬ b_cKind (nI c).toNatClampNeg = 2 := by rw [ec, k1]; decide
          have n3 : ¬ b_cKind (nI c).toNatClampNeg = 3 := by rw [ec, k1]; decide
          have n4 : ¬ b_cKind (nI c).toNatClampNeg = 4 := by rw [ec, k1]; decide
          refine br_t k1 (And.intro i4 (nm_e (br_f hne (And.intro vc (br_f n2 (br_f hne (And.intro vc (br_f n3 (br_f hne (And.intro vc (br_f n4 (nm_r (nI_1 i) (nx _ ?_)))))))))))))
          rw [e4, h3, k1, dm_s1 hit hu]
        · refine br_f k1 (br_f hne (And.intro vc ?_))
          rw [ec]
          by_cases k2 : b_cKind c = 2
          · have n3 : ¬ b_cKind (nI c).toNatClampNeg = 3 := by rw [ec, k2]; decide
            have n4 : ¬ b_cKind (nI c).toNatClampNeg = 4 := by rw [ec, k2]; decide
            refine br_t k2 (nm_e (br_f hne (And.intro vc (br_f n3 (br_f hne (And.intro vc (br_f n4 (nm_r (nI_1 i) (nx _ ?_)))))))))
            rw [h3, k2, dm_s2 hit hu]
          · refine br_f k2 (br_f hne (And.intro vc ?_))
            rw [ec]
            by_cases k3 : b_cKind c = 3
            · have n4 : ¬ b_cKind (nI c).toNatClampNeg = 4 := by rw [ec, k3]; decide
              refine br_t k3 (nm_e (br_f hne (And.intro vc (br_f n4 (nm_r (nI_1 i) (nx _ ?_))))))
              rw [h3, k3, dm_s3 hit hu]
            · refine br_f k3 (br_f hne (And.intro vc ?_))
              rw [ec]
              by_cases k4 : b_cKind c = 4
              · have es := dm_s4 (x := x0) (ts := b_tSign) hit hu
                rw [k4] at h3
                refine br_t k4 (br_c (fun z => nm_r (nI_1 i) (nx _ ?_)) (fun z => nm_r (nI_1 i) (nx _ ?_)))
                · rw [k4, es, ← h3, if_pos z]
                · rw [k4, es, ← h3, if_neg z]
              · refine br_f k4 (nm_r (nI_1 i) (nx _ ?_))
                rw [dm_s5 k1 k2 k3 k4]; exact h3
theorem ys_dem (hN : N ≤ 10) (post : Int32 → Prop) (hc : c < 32) (eq : b_cCount c = nI q) (hq : q ≤ 4) (ht : t0 < q) (hv : ∀ t, t < q → ∃ v, v < N ∧ b_tVar (4 * c + t) = nI v)
    (H : post (dmV (b_cKind c) (b_cK c) b_tVar b_tSign b_val (4 * c) t0 q)) : wpY_demand post (g_n, g_m, g_planLen, g_clock, b_cKind, b_cStrength, b_cK, b_cCount, b_tVar, b_tSign, b_tMode, b_born, b_here, b_marked, b_out, b_inSet, b_left, b_last, b_passed, b_was, b_member, b_val, b_old, b_known, b_plan) (nI c) (nI t0) := by
  have ec : (nI c).toNatClampNeg = c := nI_clamp (by omega)
  have vc : vp_in (nI c) 32 := vp_in_nI hc (by omega)
  have e4 : (4 * nI c + nI t0).toNatClampNeg = 4 * c + t0 := by rw [ix_y]; exact nI_clamp (by omega)
  have i4 : vp_in (4 * nI c + nI t0) 128 := by rw [ix_y]; exact vp_in_nI (by omega) (by omega)
  obtain ⟨v, hvN, ev⟩ := hv t0 ht
  have evv : (nI v).toNatClampNeg = v := nI_clamp (by omega)
  unfold dmV at H
  refine And.intro vc (br_c (fun z => ?_) (fun z => ?_))
  · rw [ec] at z
    rw [if_neg (by rw [z]; decide), if_pos z, ev, tn_nI (by omega)] at H
    refine And.intro i4 (And.intro (by rw [e4, ev]; exact vp_in_nI (by omega) (by omega)) (nm_r (e' := b_val v) (by rw [e4, ev, evv]) (Exists.intro (q + 1) (yl_dem hN post hc eq hq ht hv (x0 := b_val v) (fun k => absurd (z.symm.trans k) (by decide)) (fun _ => H) q 0 _ (q + 1) (by omega) (by omega) rfl))))
  · rw [ec] at z
    rw [if_neg z] at H
    refine And.intro vc (nm_r (e' := b_cK c) (by rw [ec]) (Exists.intro (q + 1) (yl_dem hN post hc eq hq ht hv (x0 := b_cK c) (fun k => ?_) (fun k => ?_) q 0 _ (q + 1) (by omega) (by omega) rfl)))
    · rw [if_pos k] at H; exact H
    · rw [if_neg k] at H; exact H
theorem ys_run (hN : N ≤ 10) (post : SY → Prop) (h : EvOK N b_cKind b_cCount b_tVar c o) (eo : b_out c = nI o) (H : post (g_n, g_m, g_planLen, g_clock, b_cKind, b_cStrength, b_cK, b_cCount, b_tVar, b_tSign, b_tMode, b_born, b_here, b_marked, b_out, b_inSet, b_left, b_last, b_passed, b_was, b_member, upd b_val o (dmD b_cKind b_cK b_cCount b_tVar b_tSign c o b_val), b_old, b_known, b_plan)) : wpY_run post (g_n, g_m, g_planLen, g_clock, b_cKind, b_cStrength, b_cK, b_cCount, b_tVar, b_tSign, b_tMode, b_born, b_here, b_marked, b_out, b_inSet, b_left, b_last, b_passed, b_was, b_member, b_val, b_old, b_known, b_plan) (nI c) := by
  obtain ⟨hc, ho, hk, q, t0, hq, eq, ht, e0, hv, hd, h34⟩ := h
  rw [dm_q (N := N) hq eq ht e0 hd] at H
  have ec : (nI c).toNatClampNeg = c := nI_clamp (by omega)
  have eoo : (nI o).toNatClampNeg = o := nI_clamp (by omega)
  have vc : vp_in (nI c) 32 := vp_in_nI hc (by omega)
  refine And.intro vc ?_
  rw [ec, eo]
  refine ys_termOf _ hc eq hq (fun t h1 h2 _ => ?_) (fun h => absurd e0 (h t0 ht))
  have : t = t0 := Classical.byContradiction fun y => hd t h1 y h2
  subst this
  exact br_f (nI_pos (by omega)) (And.intro vc (ys_dem hN _ hc eq hq ht hv (And.intro (vp_in_nI (by omega) (by omega)) (nm_r (e' := upd b_val o (dmV (b_cKind c) (b_cK c) b_tVar b_tSign b_val (4 * c) t q)) (by rw [eoo]) H))))
theorem yl_unk (hN : N ≤ 10) (post : Int32 → Prop) (hc : c < 32) (eq : b_cCount c = nI q) (hq : q ≤ 4) (hv : ∀ t, t < q → ∃ v, v < N ∧ b_tVar (4 * c + t) = nI v)
    (H : post (nI (cn (fun t => b_known (tn (b_tVar (4 * c + t))) = 0) q))) :
    ∀ d i fuel, i + d = q → d < fuel → wY_unknowns_4 post (nI c) g_n g_m g_planLen g_clock b_cKind b_cStrength b_cK b_cCount b_tVar b_tSign b_tMode b_born b_here b_marked b_out b_inSet b_left b_last b_passed b_was b_member b_val b_old b_known b_plan fuel (nI (cn (fun t => b_known (tn (b_tVar (4 * c + t))) = 0) i)) (nI i) := by
  have ec : (nI c).toNatClampNeg = c := nI_clamp (by omega)
  have vc : vp_in (nI c) 32 := vp_in_nI hc (by omega)
  intro d
  induction d with
  | zero =>
    intro i fuel hi hf
    have e : i = q := by omega
    subst e
    cases fuel with
    | zero => omega
    | succ fuel => exact And.intro vc (br_t (by rw [ec, eq]; exact Int32.le_refl _) H)
  | succ d ih =>
    intro i fuel hi hf
    cases fuel with
    | zero => omega
    | succ fuel =>
      obtain ⟨v, hvN, ev⟩ := hv i (by omega)
      have e4 : (4 * nI c + nI i).toNatClampNeg = 4 * c + i := by rw [ix_y]; exact nI_clamp (by omega)
      have i4 : vp_in (4 * nI c + nI i) 128 := by rw [ix_y]; exact vp_in_nI (by omega) (by omega)
      have evv : (nI v).toNatClampNeg = v := nI_clamp (by omega)
      have nx := ih (i + 1) fuel (by omega) (by omega)
      rw [cn_s] at nx
      refine And.intro vc (br_f (by rw [ec, eq]; exact nI_ge (by omega) (by omega)) (And.intro i4 (And.intro (by rw [e4, ev]; exact vp_in_nI (by omega) (by omega)) (br_c (fun z => nm_r (nI_1 _) (nm_r (nI_1 i) ?_)) (fun z => nm_r (nI_1 i) ?_)))))
      · rw [e4] at z
        rw [b01_t z] at nx; exact nx
      · rw [e4] at z
        rw [b01_f z] at nx; exact nx
theorem ys_unk (hN : N ≤ 10) (post : Int32 → Prop) (hc : c < 32) (eq : b_cCount c = nI q) (hq : q ≤ 4) (hv : ∀ t, t < q → ∃ v, v < N ∧ b_tVar (4 * c + t) = nI v)
    (H : post (nI (cn (fun t => b_known (tn (b_tVar (4 * c + t))) = 0) q))) : wpY_unknowns post (g_n, g_m, g_planLen, g_clock, b_cKind, b_cStrength, b_cK, b_cCount, b_tVar, b_tSign, b_tMode, b_born, b_here, b_marked, b_out, b_inSet, b_left, b_last, b_passed, b_was, b_member, b_val, b_old, b_known, b_plan) (nI c) :=
  Exists.intro (q + 1) (yl_unk hN post hc eq hq hv H q 0 (q + 1) (by omega) (by omega))
end
/-- the reference's evaluation on its way -/
def YI (us : Nat → Nat → Prop) (N p : Nat) (xs os : Nat → Nat) (D : Nat → Nat → (Nat → Int32) → Int32) (v0 val kn : Nat → Int32) : Prop :=
  (∀ i, i < p → kn (os i) ≠ 0 → val (os i) = D (xs i) (os i) (fun w => if w = os i then v0 w else val w) ∧ ∀ w, us (xs i) w → kn w ≠ 0) ∧ ∀ v, v < N → kn v = 0 → val v = v0 v
theorem yi_step {us mk : Nat → Nat → Prop} {S : Nat → Prop} {p N i : Nat} {xs os : Nat → Nat} {D : Nat → Nat → (Nat → Int32) → Int32} {v0 val kn : Nat → Int32} (F : Fps us mk S p xs os) (hmu : ∀ c v, mk c v → us c v) (huN : ∀ c v, us c v → v < N)
    (hD : ∀ i, i < p → ∀ f g : Nat → Int32, (∀ w, us (xs i) w → f w = g w) → D (xs i) (os i) f = D (xs i) (os i) g) (hi : i < p) (hk : kn (os i) = 0) (hin : ∀ w, us (xs i) w → w ≠ os i → kn w ≠ 0) (h : YI us N p xs os D v0 val kn) : YI us N p xs os D v0 (upd val (os i) (D (xs i) (os i) val)) (upd kn (os i) 1) := by
  refine ⟨fun j hj hkj => ?_, fun v hv hkv => ?_⟩
  · rcases Classical.em (j = i) with z | z
    · subst z
      refine ⟨?_, fun w hw => ?_⟩
      · rw [pk_us]
        apply hD j hj
        intro w hw
        rcases Classical.em (w = os j) with y | y
        · rw [if_pos y, y]; exact h.2 _ (huN _ _ (hmu _ _ (F.1 j hj).2)) hk
        · rw [if_neg y, pk_un y]
      · rcases Classical.em (w = os j) with y | y
        · rw [y, pk_us]; decide
        · rw [pk_un y]; exact hin w hw y
    · have hne : os j ≠ os i := fun e => z (fp_os F hmu hj hi e)
      rw [pk_un hne] at hkj
      obtain ⟨h1, h2⟩ := h.1 j hj hkj
      have hw' : ∀ w, us (xs j) w → w ≠ os i := fun w hw e => h2 w hw (e ▸ hk)
      refine ⟨?_, fun w hw => by rw [pk_un (hw' w hw)]; exact h2 w hw⟩
      rw [pk_un hne, h1]
      apply hD j hj
      intro w hw
      rw [pk_un (hw' w hw)]
  · have hne : v ≠ os i := fun e => by rw [e, pk_us] at hkv; exact absurd hkv (by decide)
    rw [pk_un hne] at hkv ⊢
    exact h.2 v hv hkv
section
variable {g_n g_m g_planLen : Int32} {g_clock : Int64} {b_cKind b_cStrength b_cK b_cCount b_tVar b_tSign b_tMode b_here b_marked b_out b_inSet b_left b_last b_passed b_was b_member b_val b_old b_known b_plan : Nat → Int32} {b_born : Nat → Int64}
variable {N : Nat}
theorem yl_u35 (hn : g_n = nI N) (hN : N ≤ 10) (post : SY → Prop) (J : Int32 → Int32 → Int32 → Int32 → Int64 → (Nat → Int32) → (Nat → Int32) → (Nat → Int32) → (Nat → Int32) → (Nat → Int32) → (Nat → Int32) → (Nat → Int32) → (Nat → Int64) → (Nat → Int32) → (Nat → Int32) → (Nat → Int32) → (Nat → Int32) → (Nat → Int32) → (Nat → Int32) → (Nat → Int32) → (Nat → Int32) → (Nat → Int32) → (Nat → Int32) → (Nat → Int32) → (Nat → Int32) → (Nat → Int32) → Prop)
    {S : Nat → Prop} {p rd : Nat} {xs os : Nat → Nat} {v0 : Nat → Int32} (F : Fps (UY N b_cCount b_tVar) (MY N b_cCount b_tVar b_tMode) S p xs os) (hs : ∀ v, v < N → ∃ i, i < p ∧ os i = v) (hout : ∀ i, i < p → b_out (xs i) = nI (os i)) (hno : ∀ c, c < 32 → ¬ S c → b_out c = -1)
    (hev : ∀ i, i < p → EvOK N b_cKind b_cCount b_tVar (xs i) (os i))
    (HJ : ∀ val kn, YI (UY N b_cCount b_tVar) N p xs os (dmD b_cKind b_cK b_cCount b_tVar b_tSign) v0 val kn → (∀ j, j < p → j < rd + 1 → kn (os j) ≠ 0) → J (nI (rd + 1)) g_n g_m g_planLen g_clock b_cKind b_cStrength b_cK b_cCount b_tVar b_tSign b_tMode b_born b_here b_marked b_out b_inSet b_left b_last b_passed b_was b_member val b_old kn b_plan) :
    ∀ d i val kn fuel, i + d = 32 → d < fuel → YI (UY N b_cCount b_tVar) N p xs os (dmD b_cKind b_cK b_cCount b_tVar b_tSign) v0 val kn → (∀ j, j < p → (j < rd ∨ (j = rd ∧ xs j < i)) → kn (os j) ≠ 0) → wY_update_35 post J (nI rd) fuel (nI i) g_n g_m g_planLen g_clock b_cKind b_cStrength b_cK b_cCount b_tVar b_tSign b_tMode b_born b_here b_marked b_out b_inSet b_left b_last b_passed b_was b_member val b_old kn b_plan := by
  have hmu : ∀ c v, MY N b_cCount b_tVar b_tMode c v → UY N b_cCount b_tVar c v := fun _ _ => ky_uy
  have huN : ∀ c v, UY N b_cCount b_tVar c v → v < N := fun c v h => h.1
  have hD : ∀ i, i < p → ∀ f g : Nat → Int32, (∀ w, UY N b_cCount b_tVar (xs i) w → f w = g w) → dmD b_cKind b_cK b_cCount b_tVar b_tSign (xs i) (os i) f = dmD b_cKind b_cK b_cCount b_tVar b_tSign (xs i) (os i) g :=
    fun i hi f g hf => dm_congr (hev i hi) rfl rfl rfl (fun _ _ => ⟨rfl, rfl⟩) (fun w hw => hf w hw) hN
  intro d
  induction d with
  | zero =>
    intro i val kn fuel hi hf hI hk
    have e : i = 32 := by omega
    subst e
    cases fuel with
    | zero => omega
    | succ fuel =>
      refine br_t (by decide) (nm_r (nI_1 rd) (HJ val kn hI fun j hj hlt => hk j hj ?_))
      rcases Nat.lt_or_ge j rd with y | y
      · exact Or.inl y
      · exact Or.inr ⟨by omega, (hev j hj).1⟩
  | succ d ih =>
    intro i val kn fuel hi hf hI hk
    cases fuel with
    | zero => omega
    | succ fuel =>
      have ei : (nI i).toNatClampNeg = i := nI_clamp (by omega)
      have vi : vp_in (nI i) 32 := vp_in_nI (by omega) (by omega)
      have nx : ∀ val' kn', YI (UY N b_cCount b_tVar) N p xs os (dmD b_cKind b_cK b_cCount b_tVar b_tSign) v0 val' kn' → (∀ v, kn v ≠ 0 → kn' v ≠ 0) → (rd < p → xs rd = i → kn' (os rd) ≠ 0) → wY_update_35 post J (nI rd) fuel (nI (i + 1)) g_n g_m g_planLen g_clock b_cKind b_cStrength b_cK b_cCount b_tVar b_tSign b_tMode b_born b_here b_marked b_out b_inSet b_left b_last b_passed b_was b_member val' b_old kn' b_plan := by
        intro val' kn' hI' hm hrd
        refine ih (i + 1) val' kn' fuel (by omega) (by omega) hI' fun j hj h => ?_
        rcases h with h | ⟨h1, h2⟩
        · exact hm _ (hk j hj (Or.inl h))
        · subst h1
          rcases Nat.lt_or_ge (xs j) i with y | y
          · exact hm _ (hk j hj (Or.inr ⟨rfl, y⟩))
          · exact hrd hj (by omega)
      refine pk_le 32 i (fun h => absurd h (by omega)) (fun _ => And.intro vi ?_) rfl rfl (by omega) (by omega)
      rw [ei]
      rcases Classical.em (S i) with hS | hS
      · obtain ⟨j, hj, ej⟩ := F.2.1 i hS
        subst ej
        have hoj := (hev j hj).2.1
        have eo := hout j hj
        have eoo : (nI (os j)).toNatClampNeg = os j := nI_clamp (by omega)
        have vo : vp_in (nI (os j)) 10 := vp_in_nI (by omega) (by omega)
        obtain ⟨_, _, _, q, t0, hq, eq, ht, e0, hv, hdi, _⟩ := hev j hj
        have eqt : tn (b_cCount (xs j)) = q := by rw [eq]; exact tn_nI (by omega)
        rw [eo]
        refine br_f (nI_pos (by omega)) (And.intro vi (And.intro vo ?_))
        rw [eoo]
        refine br_c (fun z => ?_) (fun z => nm_r (nI_1 _) (nx val kn hI (fun _ h => h) fun h1 h2 => ?_))
        · refine ys_unk hN _ (by omega) eq hq hv ?_
          have hcn : cn (fun t => kn (tn (b_tVar (4 * xs j + t))) = 0) q ≤ 4 := Nat.le_trans (cn_le _ _) hq
          have e0' : tn (b_tVar (4 * xs j + t0)) = os j := by rw [e0]; exact tn_nI (by omega)
          refine pk_eq (cn (fun t => kn (tn (b_tVar (4 * xs j + t))) = 0) q) 1 (fun h1 => ?_) (fun h1 => nm_r (nI_1 _) (nx val kn hI (fun _ h => h) fun h2 h3 => ?_)) rfl rfl (by omega) (by omega)
          · have hin : ∀ w, UY N b_cCount b_tVar (xs j) w → w ≠ os j → kn w ≠ 0 := by
              rintro w ⟨hwN, t, htq, ew⟩ hne hkw
              rw [eqt] at htq
              have htt : t ≠ t0 := fun e => hne (by rw [e, e0, nI_eq (by omega) (by omega)] at ew; omega)
              have s1 := cn_sub (P := fun t => kn (tn (b_tVar (4 * xs j + t))) = 0) (a := t0) (N := q) (by show kn _ = 0; rw [e0']; exact z) ht
              have s2 := cn_sub (P := fun k => kn (tn (b_tVar (4 * xs j + k))) = 0 ∧ k ≠ t0) (a := t) (N := q) ⟨by show kn _ = 0; rw [ew, tn_nI (by omega)]; exact hkw, htt⟩ htq
              omega
            refine ys_run hN _ (hev j hj) eo (And.intro vi (And.intro ?_ ?_))
            · rw [eo]; exact vo
            · refine nm_r (e' := upd kn (os j) 1) (by rw [eo, eoo, vb1]) (nm_r (nI_1 _) (nx _ _ (yi_step F hmu huN hD hj z hin hI) (fun v hkv => ?_) (fun h2 h3 => ?_)))
              · rcases Classical.em (v = os j) with y | y
                · rw [y, pk_us]; decide
                · rw [pk_un y]; exact hkv
              · have : rd = j := fp_xs F hmu h2 hj h3
                rw [this, pk_us]; decide
          · exfalso
            have hrj : rd = j := fp_xs F hmu h2 hj h3
            apply h1
            have s1 := cn_sub (P := fun t => kn (tn (b_tVar (4 * xs j + t))) = 0) (a := t0) (N := q) (by show kn _ = 0; rw [e0']; exact z) ht
            rw [s1, cn_zero]
            rintro t htq ⟨h4, h5⟩
            obtain ⟨w, hwN, ew⟩ := hv t htq
            have h4' : kn (tn (b_tVar (4 * xs j + t))) = 0 := h4
            rw [ew, tn_nI (by omega)] at h4'
            obtain ⟨l, hl, el⟩ := hs w hwN
            subst el
            have hlj : j ≠ l := fun e => hdi t htq h5 (by rw [ew, e])
            have := F.2.2 l j hl hj ⟨hwN, t, by rw [eqt]; exact htq, ew⟩ hlj
            exact hk l hl (Or.inl (by omega)) h4'
        · have : rd = j := fp_xs F hmu h1 hj h2
          rw [this]; exact z
      · rw [hno i (by omega) hS]
        refine br_t (by decide) (nm_r (nI_1 i) (nx val kn hI (fun _ h => h) fun h1 h2 => absurd (h2 ▸ (F.1 rd h1).1) hS))
theorem yl_u25 (hn : g_n = nI N) (hN : N ≤ 10) (post : SY → Prop)
    {S : Nat → Prop} {p : Nat} {xs os : Nat → Nat} {v0 : Nat → Int32} (hp : p ≤ N) (F : Fps (UY N b_cCount b_tVar) (MY N b_cCount b_tVar b_tMode) S p xs os) (hs : ∀ v, v < N → ∃ i, i < p ∧ os i = v) (hout : ∀ i, i < p → b_out (xs i) = nI (os i)) (hno : ∀ c, c < 32 → ¬ S c → b_out c = -1)
    (hev : ∀ i, i < p → EvOK N b_cKind b_cCount b_tVar (xs i) (os i))
    (H : ∀ val kn, Evl p xs os (dmD b_cKind b_cK b_cCount b_tVar b_tSign) v0 val → post (g_n, g_m, g_planLen, g_clock, b_cKind, b_cStrength, b_cK, b_cCount, b_tVar, b_tSign, b_tMode, b_born, b_here, b_marked, b_out, b_inSet, b_left, b_last, b_passed, b_was, b_member, val, b_old, kn, b_plan)) :
    ∀ d rd val kn fuel, rd + d = N → d < fuel → YI (UY N b_cCount b_tVar) N p xs os (dmD b_cKind b_cK b_cCount b_tVar b_tSign) v0 val kn → (∀ j, j < p → j < rd → kn (os j) ≠ 0) → wY_update_25 post fuel (nI rd) g_n g_m g_planLen g_clock b_cKind b_cStrength b_cK b_cCount b_tVar b_tSign b_tMode b_born b_here b_marked b_out b_inSet b_left b_last b_passed b_was b_member val b_old kn b_plan := by
  intro d
  induction d with
  | zero =>
    intro rd val kn fuel hi hf hI hk
    have e : rd = N := by omega
    subst e
    cases fuel with
    | zero => omega
    | succ fuel => exact br_t (by rw [hn]; exact Int32.le_refl _) (H val kn fun i hi => (hI.1 i hi (hk i hi (by omega))).1)
  | succ d ih =>
    intro rd val kn fuel hi hf hI hk
    cases fuel with
    | zero => omega
    | succ fuel =>
      refine pk_le N rd (fun h => absurd h (by omega)) (fun _ => Exists.intro 33 (yl_u35 hn hN post _ F hs hout hno hev (fun val' kn' hI' hk' => ih (rd + 1) val' kn' fuel (by omega) (by omega) hI' hk') 32 0 val kn 33 (by omega) (by omega) hI fun j hj h => ?_)) hn rfl (by omega) (by omega)
      rcases h with h | ⟨_, h⟩
      · exact hk j hj h
      · omega
theorem yl_u2 (hn : g_n = nI N) (hN : N ≤ 10) (post : SY → Prop) (H : ∀ kn, (∀ v, v < N → kn v = 0) → ∃ n25, wY_update_25 post n25 0 g_n g_m g_planLen g_clock b_cKind b_cStrength b_cK b_cCount b_tVar b_tSign b_tMode b_born b_here b_marked b_out b_inSet b_left b_last b_passed b_was b_member b_val b_old kn b_plan) :
    ∀ d i kn fuel, i + d = N → d < fuel → (∀ v, v < i → kn v = 0) → wY_update_2 post g_n g_m g_planLen g_clock fuel (nI i) b_cKind b_cStrength b_cK b_cCount b_tVar b_tSign b_tMode b_born b_here b_marked b_out b_inSet b_left b_last b_passed b_was b_member b_val b_old kn b_plan := by
  intro d
  induction d with
  | zero =>
    intro i kn fuel hi hf h
    have e : i = N := by omega
    subst e
    cases fuel with
    | zero => omega
    | succ fuel => exact br_t (by rw [hn]; exact Int32.le_refl _) (H kn h)
  | succ d ih =>
    intro i kn fuel hi hf h
    cases fuel with
    | zero => omega
    | succ fuel =>
      refine pk_le N i (fun h => absurd h (by omega)) (fun _ => And.intro (vp_in_nI (by omega) (by omega)) (nm_r (e' := upd kn i 0) (by rw [nI_clamp (by omega), vb0]) (nm_r (nI_1 i) (ih (i + 1) _ fuel (by omega) (by omega) fun v hv => ?_)))) hn rfl (by omega) (by omega)
      rcases Nat.lt_or_ge v i with y | y
      · rw [pk_un (by omega)]; exact h v y
      · have : v = i := by omega
        subst this
        exact pk_us
theorem ys_update (hn : g_n = nI N) (hN : N ≤ 10) (post : SY → Prop)
    {S : Nat → Prop} {p : Nat} {xs os : Nat → Nat} (hp : p ≤ N) (F : Fps (UY N b_cCount b_tVar) (MY N b_cCount b_tVar b_tMode) S p xs os) (hs : ∀ v, v < N → ∃ i, i < p ∧ os i = v) (hout : ∀ i, i < p → b_out (xs i) = nI (os i)) (hno : ∀ c, c < 32 → ¬ S c → b_out c = -1)
    (hev : ∀ i, i < p → EvOK N b_cKind b_cCount b_tVar (xs i) (os i))
    (H : ∀ val kn, Evl p xs os (dmD b_cKind b_cK b_cCount b_tVar b_tSign) b_val val → post (g_n, g_m, g_planLen, g_clock, b_cKind, b_cStrength, b_cK, b_cCount, b_tVar, b_tSign, b_tMode, b_born, b_here, b_marked, b_out, b_inSet, b_left, b_last, b_passed, b_was, b_member, val, b_old, kn, b_plan)) : wpY_update post (g_n, g_m, g_planLen, g_clock, b_cKind, b_cStrength, b_cK, b_cCount, b_tVar, b_tSign, b_tMode, b_born, b_here, b_marked, b_out, b_inSet, b_left, b_last, b_passed, b_was, b_member, b_val, b_old, b_known, b_plan) := by
  refine Exists.intro (N + 1) (yl_u2 hn hN post (fun kn hk => Exists.intro (N + 1) (yl_u25 hn hN post hp F hs hout hno hev H N 0 b_val kn (N + 1) (by omega) (by omega) ⟨fun i hi h => absurd (hk _ (hev i hi).2.1) h, fun v _ _ => rfl⟩ fun j _ h => by omega)) N 0 b_known (N + 1) (by omega) (by omega) fun v hv => by omega)
end
end
section
/-! the relation -/
def DIM (N M : Nat) (fn fm fall gn gm : Int32) : Prop := fn = nI N ∧ 2 ≤ N ∧ N ≤ 10 ∧ fm = nI M ∧ 2 ≤ M ∧ M ≤ 20 ∧ (∀ v, Hb fall v ↔ v < N) ∧ gn = nI N ∧ gm = nI M
/-- the valid records: live, the open draft, the implicit stays -/
def Vd (N : Nat) (live dO : Int32) (c : Nat) : Prop := Hb live c ∨ (c = 20 ∧ ¬ dO = 0) ∨ (22 ≤ c ∧ c < 22 + N)
/-- the candidates of the choice -/
def DX (N : Nat) (live : Int32) (c : Nat) : Prop := Hb live c ∨ (22 ≤ c ∧ c < 22 + N)
def AgR (kd st K tc tv ts tm ck cs cK cC tV tS tM : Nat → Int32) (c : Nat) : Prop := kd c = ck c ∧ st c = cs c ∧ K c = cK c ∧ tc c = cC c ∧ ∀ t, t < tn (tc c) → tv (4 * c + t) = tV (4 * c + t) ∧ ts (4 * c + t) = tS (4 * c + t) ∧ tm (4 * c + t) = tM (4 * c + t)
def KdR (kd tc tm : Nat → Int32) (c : Nat) : Prop := (kd c = 0 ∨ kd c = 1 ∨ kd c = 2 ∨ kd c = 3 ∨ kd c = 4) ∧ (kd c = 3 ∨ kd c = 4 → ∀ t, t < tn (tc c) → tm (4 * c + t) = 1 → t = 0)
def RcO (N : Nat) (live dO : Int32) (kd st K tc tv ts tm vm om us mk ck cs cK cC tV tS tM : Nat → Int32) : Prop :=
  RX N tc tv tm vm om us mk ∧ (∀ c, Vd N live dO c → AgR kd st K tc tv ts tm ck cs cK cC tV tS tM c ∧ KdR kd tc tm c) ∧
  (∀ v, v < N → st (22 + v) = 7 ∧ tc (22 + v) = nI 1 ∧ tv (4 * (22 + v)) = nI v ∧ tm (4 * (22 + v)) = 1 ∧ kd (22 + v) = 0) ∧
  (∀ c, c < 32 → ∃ q, q ≤ 4 ∧ cC c = nI q) ∧ (∀ c, Hb live c ∨ (c = 20 ∧ ¬ dO = 0) → ∃ s, s < 7 ∧ st c = nI s) ∧ (∀ c, Hb live c → ∃ v, UX N mk c v)
def LvO (N M : Nat) (live marked dO : Int32) (he mkd : Nat → Int32) : Prop :=
  (∀ c, Hb live c → c < M) ∧ (∀ c, Hb marked c → Hb live c) ∧ (∀ c, Hb live c → (Hb marked c ↔ ¬ mkd c = 0)) ∧ (∀ c, c < 20 → (¬ he c = 0 ↔ Hb live c)) ∧ (he 20 = 0 ↔ dO = 0) ∧ he 21 = 0 ∧ ∀ c, 22 ≤ c → c < 32 → (¬ he c = 0 ↔ c < 22 + N)
def keyR (st : Nat → Int32) (sp : Nat → Int64) (c : Nat) : Nat := if c < 20 then tn (st c) * 65536 + ln (sp c) else 7 * 65536 + c
def RkO (live lc : Int32) (L : Nat) (ra st : Nat → Int32) (sp : Nat → Int64) : Prop :=
  lc = nI L ∧ (∀ i, i < L → Hb live (tn (ra i)) ∧ ra i = nI (tn (ra i))) ∧ (∀ c, Hb live c → ∃ i, i < L ∧ tn (ra i) = c) ∧ ∀ i j, i < j → j < L → keyR st sp (tn (ra i)) < keyR st sp (tn (ra j))
def AtO (N : Nat) (live : Int32) (st at_ : Nat → Int32) : Prop := (∀ s, s < 7 → ∀ c, Hb (at_ s) c ↔ Hb live c ∧ st c = nI s) ∧ ∀ c, Hb (at_ 7) c ↔ 22 ≤ c ∧ c < 22 + N
def SmO (N : Nat) (live : Int32) (q : Nat) (ns clk : Int64) (sp bn : Nat → Int64) : Prop := ns = lN q ∧ clk = lN q ∧ (∀ c, Hb live c → ∃ b, b < q ∧ sp c = lN b ∧ bn c = lN b) ∧ ∀ v, v < N → bn (22 + v) = lN v
def STR (N M L q : Nat) (live marked dO lc : Int32) (ns clk : Int64) (kd st K tc tv ts tm vm om us mk ra at_ : Nat → Int32) (sp : Nat → Int64) (ck cs cK cC tV tS tM : Nat → Int32) (bn : Nat → Int64) (he mkd : Nat → Int32) : Prop :=
  RcO N live dO kd st K tc tv ts tm vm om us mk ck cs cK cC tV tS tM ∧ LvO N M live marked dO he mkd ∧ RkO live lc L ra st sp ∧ AtO N live st at_ ∧ SmO N live q ns clk sp bn
/-- s is the walkabout strength of v whose stay is not enforced -/
def WkV (us mk : Nat → Nat → Prop) (E : Int32) (st : Nat → Int32) (v s : Nat) : Prop :=
  s ≤ 7 ∧ (∀ s', s' < s → s' < 7 → Slv us mk (fun c => (Hb E c ∧ c < 20 ∧ tn (st c) ≤ s') ∨ c = 22 + v)) ∧ (s < 7 → ¬ Slv us mk (fun c => (Hb E c ∧ c < 20 ∧ tn (st c) ≤ s) ∨ c = 22 + v))
def WkO (N : Nat) (us mk : Nat → Nat → Prop) (E wkn : Int32) (st wk : Nat → Int32) : Prop := ∀ v, v < N → Hb wkn v → ¬ Hb E (22 + v) → ∃ s, wk v = nI s ∧ WkV us mk E st v s
def EPR (N : Nat) (live E ec wkn : Int32) (st : Nat → Int32) (sp : Nat → Int64) (us mk ex ou fd de up wk out : Nat → Int32) : Prop :=
  Chs (UX N us) (UX N mk) (keyR st sp) (DX N live) (Hb E) ∧ Slv (UX N us) (UX N mk) (Hb E) ∧ (∀ c, Hb live c → st c = 0 → Hb E c) ∧
  (∃ p, ec = nI p ∧ FX N (UX N us) (UX N mk) E p ex ou fd de up) ∧ (∀ c, c < 32 → out c = ou c) ∧ WkO N (UX N us) (UX N mk) E wkn st wk
def PLN (E pc pl : Int32) (pa pb : Nat → Int32) : Prop := (pc = -1 ∧ pl = -7) ∨ ∃ p, p ≤ 20 ∧ pc = nI p ∧ pl = nI p ∧ ∀ i, i < p → ∃ c, c < 20 ∧ Hb E c ∧ pa i = nI c ∧ pb i = nI c
/-- the relation at the head of a turn whose first cell is k -/
def i_Rel (k : Nat) (u : SX) (v : SY) : Prop := match u with
  | (f_draftId, f_editId, f_firstStay, f_n, f_m, f_allVariables, f_nextStamp, f_live, f_liveCount, f_marked, f_draftOpen, f_enforced, f_execCount, f_walkKnown, f_peelCount, f_planCount, a_values, a_before, a_kinds, a_strengths, a_constants, a_termCounts, a_termVars, a_termSigns, a_termModes, a_variableMasks, a_outputMasks, a_stamps, a_users, a_makers, a_ranked, a_atStrength, a_execIds, a_outputs, a_feeders, a_determiner, a_upstream, a_walk, a_agenda, a_peelIds, a_peelVars, a_plan) => match v with
    | (g_n, g_m, g_planLen, g_clock, b_cKind, b_cStrength, b_cK, b_cCount, b_tVar, b_tSign, b_tMode, b_born, b_here, b_marked, b_out, b_inSet, b_left, b_last, b_passed, b_was, b_member, b_val, b_old, b_known, b_plan) => ∃ N M L q, q ≤ k ∧ DIM N M f_n f_m f_allVariables g_n g_m ∧ STR N M L q f_live f_marked f_draftOpen f_liveCount f_nextStamp g_clock a_kinds a_strengths a_constants a_termCounts a_termVars a_termSigns a_termModes a_variableMasks a_outputMasks a_users a_makers a_ranked a_atStrength a_stamps b_cKind b_cStrength b_cK b_cCount b_tVar b_tSign b_tMode b_born b_here b_marked ∧ EPR N f_live f_enforced f_execCount f_walkKnown a_strengths a_stamps a_users a_makers a_execIds a_outputs a_feeders a_determiner a_upstream a_walk b_out ∧ PLN f_enforced f_planCount g_planLen a_plan b_plan ∧ ∀ v, v < N → a_values v = b_val v
theorem zz_el {k : Nat} {P : SX → SY → Prop} (h : ∀ (f_draftId f_editId f_firstStay f_n f_m f_allVariables f_live f_liveCount f_marked f_draftOpen f_enforced f_execCount f_walkKnown f_peelCount f_planCount : Int32) (f_nextStamp : Int64) (a_values a_before a_kinds a_strengths a_constants a_termCounts a_termVars a_termSigns a_termModes a_variableMasks a_outputMasks a_users a_makers a_ranked a_atStrength a_execIds a_outputs a_feeders a_determiner a_upstream a_walk a_agenda a_peelIds a_peelVars a_plan : Nat → Int32) (a_stamps : Nat → Int64) (g_n g_m g_planLen : Int32) (g_clock : Int64) (b_cKind b_cStrength b_cK b_cCount b_tVar b_tSign b_tMode b_here b_marked b_out b_inSet b_left b_last b_passed b_was b_member b_val b_old b_known b_plan : Nat → Int32) (b_born : Nat → Int64) (N M L q : Nat), q ≤ k → DIM N M f_n f_m f_allVariables g_n g_m → STR N M L q f_live f_marked f_draftOpen f_liveCount f_nextStamp g_clock a_kinds a_strengths a_constants a_termCounts a_termVars a_termSigns a_termModes a_variableMasks a_outputMasks a_users a_makers a_ranked a_atStrength a_stamps b_cKind b_cStrength b_cK b_cCount b_tVar b_tSign b_tMode b_born b_here b_marked → EPR N f_live f_enforced f_execCount f_walkKnown a_strengths a_stamps a_users a_makers a_execIds a_outputs a_feeders a_determiner a_upstream a_walk b_out → PLN f_enforced f_planCount g_planLen a_plan b_plan → (∀ v, v < N → a_values v = b_val v) → P (f_draftId, f_editId, f_firstStay, f_n, f_m, f_allVariables, f_nextStamp, f_live, f_liveCount, f_marked, f_draftOpen, f_enforced, f_execCount, f_walkKnown, f_peelCount, f_planCount, a_values, a_before, a_kinds, a_strengths, a_constants, a_termCounts, a_termVars, a_termSigns, a_termModes, a_variableMasks, a_outputMasks, a_stamps, a_users, a_makers, a_ranked, a_atStrength, a_execIds, a_outputs, a_feeders, a_determiner, a_upstream, a_walk, a_agenda, a_peelIds, a_peelVars, a_plan) (g_n, g_m, g_planLen, g_clock, b_cKind, b_cStrength, b_cK, b_cCount, b_tVar, b_tSign, b_tMode, b_born, b_here, b_marked, b_out, b_inSet, b_left, b_last, b_passed, b_was, b_member, b_val, b_old, b_known, b_plan)) {u : SX} {v : SY} (I : i_Rel k u v) : P u v :=
  match u, v, I with
  | (f_draftId, f_editId, f_firstStay, f_n, f_m, f_allVariables, f_nextStamp, f_live, f_liveCount, f_marked, f_draftOpen, f_enforced, f_execCount, f_walkKnown, f_peelCount, f_planCount, a_values, a_before, a_kinds, a_strengths, a_constants, a_termCounts, a_termVars, a_termSigns, a_termModes, a_variableMasks, a_outputMasks, a_stamps, a_users, a_makers, a_ranked, a_atStrength, a_execIds, a_outputs, a_feeders, a_determiner, a_upstream, a_walk, a_agenda, a_peelIds, a_peelVars, a_plan), (g_n, g_m, g_planLen, g_clock, b_cKind, b_cStrength, b_cK, b_cCount, b_tVar, b_tSign, b_tMode, b_born, b_here, b_marked, b_out, b_inSet, b_left, b_last, b_passed, b_was, b_member, b_val, b_old, b_known, b_plan), ⟨N, M, L, q, h1, h2, h3, h4, h5, h6⟩ => h f_draftId f_editId f_firstStay f_n f_m f_allVariables f_live f_liveCount f_marked f_draftOpen f_enforced f_execCount f_walkKnown f_peelCount f_planCount f_nextStamp a_values a_before a_kinds a_strengths a_constants a_termCounts a_termVars a_termSigns a_termModes a_variableMasks a_outputMasks a_users a_makers a_ranked a_atStrength a_execIds a_outputs a_feeders a_determiner a_upstream a_walk a_agenda a_peelIds a_peelVars a_plan a_stamps g_n g_m g_planLen g_clock b_cKind b_cStrength b_cK b_cCount b_tVar b_tSign b_tMode b_here b_marked b_out b_inSet b_left b_last b_passed b_was b_member b_val b_old b_known b_plan b_born N M L q h1 h2 h3 h4 h5 h6
section
variable {f_draftId f_editId f_firstStay f_n f_m f_allVariables f_live f_liveCount f_marked f_draftOpen f_enforced f_execCount f_walkKnown f_peelCount f_planCount : Int32} {f_nextStamp : Int64} {a_values a_before a_kinds a_strengths a_constants a_termCounts a_termVars a_termSigns a_termModes a_variableMasks a_outputMasks a_users a_makers a_ranked a_atStrength a_execIds a_outputs a_feeders a_determiner a_upstream a_walk a_agenda a_peelIds a_peelVars a_plan : Nat → Int32} {a_stamps : Nat → Int64}
variable {g_n g_m g_planLen : Int32} {g_clock : Int64} {b_cKind b_cStrength b_cK b_cCount b_tVar b_tSign b_tMode b_here b_marked b_out b_inSet b_left b_last b_passed b_was b_member b_val b_old b_known b_plan : Nat → Int32} {b_born : Nat → Int64}
variable {N M L q k : Nat}
theorem zz_mk (h1 : q ≤ k) (h2 : DIM N M f_n f_m f_allVariables g_n g_m) (h3 : STR N M L q f_live f_marked f_draftOpen f_liveCount f_nextStamp g_clock a_kinds a_strengths a_constants a_termCounts a_termVars a_termSigns a_termModes a_variableMasks a_outputMasks a_users a_makers a_ranked a_atStrength a_stamps b_cKind b_cStrength b_cK b_cCount b_tVar b_tSign b_tMode b_born b_here b_marked) (h4 : EPR N f_live f_enforced f_execCount f_walkKnown a_strengths a_stamps a_users a_makers a_execIds a_outputs a_feeders a_determiner a_upstream a_walk b_out) (h5 : PLN f_enforced f_planCount g_planLen a_plan b_plan) (h6 : ∀ v, v < N → a_values v = b_val v) : i_Rel k (f_draftId, f_editId, f_firstStay, f_n, f_m, f_allVariables, f_nextStamp, f_live, f_liveCount, f_marked, f_draftOpen, f_enforced, f_execCount, f_walkKnown, f_peelCount, f_planCount, a_values, a_before, a_kinds, a_strengths, a_constants, a_termCounts, a_termVars, a_termSigns, a_termModes, a_variableMasks, a_outputMasks, a_stamps, a_users, a_makers, a_ranked, a_atStrength, a_execIds, a_outputs, a_feeders, a_determiner, a_upstream, a_walk, a_agenda, a_peelIds, a_peelVars, a_plan) (g_n, g_m, g_planLen, g_clock, b_cKind, b_cStrength, b_cK, b_cCount, b_tVar, b_tSign, b_tMode, b_born, b_here, b_marked, b_out, b_inSet, b_left, b_last, b_passed, b_was, b_member, b_val, b_old, b_known, b_plan) := ⟨N, M, L, q, h1, h2, h3, h4, h5, h6⟩
end
end
section
/-! what follows from the relation's parts -/
section
variable {us mk us' mk' : Nat → Nat → Prop} {N : Nat} {E : Int32}
theorem fx_congr {p : Nat} {ex ou fd de up : Nat → Int32} (h : FX N us mk E p ex ou fd de up) (hu : ∀ c v, Hb E c → (us c v ↔ us' c v)) (hm : ∀ c v, Hb E c → (mk c v ↔ mk' c v)) : FX N us' mk' E p ex ou fd de up := by
  obtain ⟨h1, h2, h3, h4, h5, h6, h7, h8⟩ := h
  refine ⟨h1, fp_congr h2 (fun _ => Iff.rfl) hu hm, h3, h4, h5, h6, fun c hc d => ?_, fun c hc w => ?_⟩
  · rw [h7 c hc d, hu c _ hc]
  · rw [h8 c hc w]
    constructor
    · rintro ⟨d, a, b, g, e⟩
      exact ⟨d, a, b, (hu c _ hc).mp g, e⟩
    · rintro ⟨d, a, b, g, e⟩
      exact ⟨d, a, b, (hu c _ hc).mpr g, e⟩
theorem wv_congr {st st' : Nat → Int32} {v s : Nat} (h : WkV us mk E st v s) (hu : ∀ c w, Hb E c ∨ c = 22 + v → (us c w ↔ us' c w)) (hm : ∀ c w, Hb E c ∨ c = 22 + v → (mk c w ↔ mk' c w)) (hst : ∀ c, Hb E c → c < 20 → st' c = st c) : WkV us' mk' E st' v s := by
  have e : ∀ s c, ((Hb E c ∧ c < 20 ∧ tn (st c) ≤ s) ∨ c = 22 + v) ↔ ((Hb E c ∧ c < 20 ∧ tn (st' c) ≤ s) ∨ c = 22 + v) := by
    intro s c
    constructor
    · rintro (z | z)
      · exact Or.inl ⟨z.1, z.2.1, by rw [hst c z.1 z.2.1]; exact z.2.2⟩
      · exact Or.inr z
    · rintro (z | z)
      · exact Or.inl ⟨z.1, z.2.1, by rw [← hst c z.1 z.2.1]; exact z.2.2⟩
      · exact Or.inr z
  have f : ∀ s, Slv us mk (fun c => (Hb E c ∧ c < 20 ∧ tn (st c) ≤ s) ∨ c = 22 + v) ↔ Slv us' mk' (fun c => (Hb E c ∧ c < 20 ∧ tn (st' c) ≤ s) ∨ c = 22 + v) := by
    intro s
    rw [← sv_eq (e s)]
    exact ⟨sv_congr (fun c w hc => hu c w (hc.imp (fun z => z.1) id)) (fun c w hc => hm c w (hc.imp (fun z => z.1) id)), sv_congr (fun c w hc => (hu c w (hc.imp (fun z => z.1) id)).symm) (fun c w hc => (hm c w (hc.imp (fun z => z.1) id)).symm)⟩
  exact ⟨h.1, fun s' h1 h2 => (f s').mp (h.2.1 s' h1 h2), fun h1 h2 => h.2.2 h1 ((f s).mpr h2)⟩
end
theorem key_congr {st st' : Nat → Int32} {sp sp' : Nat → Int64} {c : Nat} (h1 : c < 20 → st' c = st c) (h2 : c < 20 → sp' c = sp c) : keyR st' sp' c = keyR st sp c := by
  unfold keyR
  by_cases h : c < 20
  · rw [if_pos h, if_pos h, h1 h, h2 h]
  · rw [if_neg h, if_neg h]
theorem ep_congr {N : Nat} {live E ec wkn : Int32} {st st' : Nat → Int32} {sp sp' : Nat → Int64} {us mk us' mk' ex ou fd de up wk out : Nat → Int32} (hliv : ∀ c, Hb live c → c < 20) (h : EPR N live E ec wkn st sp us mk ex ou fd de up wk out)
    (hu : ∀ c v, DX N live c → (UX N us c v ↔ UX N us' c v)) (hm : ∀ c v, DX N live c → (UX N mk c v ↔ UX N mk' c v)) (hst : ∀ c, Hb live c → st' c = st c) (hsp : ∀ c, Hb live c → sp' c = sp c) : EPR N live E ec wkn st' sp' us' mk' ex ou fd de up wk out := by
  obtain ⟨h1, h2, h3, ⟨p, h4, h5⟩, h6, h7⟩ := h
  have hE : ∀ c, Hb E c → DX N live c := h1.1
  have lt20 : ∀ c, DX N live c → c < 20 → Hb live c := fun c hc h => hc.elim id fun z => absurd z.1 (by omega)
  have hk : ∀ c, DX N live c → keyR st' sp' c = keyR st sp c := fun c hc => key_congr (fun z => hst c (lt20 c hc z)) (fun z => hsp c (lt20 c hc z))
  refine ⟨ch_congr h1 (fun _ => Iff.rfl) (fun _ => Iff.rfl) (fun c d hc hd => by rw [hk c hc, hk d hd]) hu hm, sv_congr (fun c v hc => hu c v (hE c hc)) (fun c v hc => hm c v (hE c hc)) h2, fun c hc hs => h3 c hc (by rw [← hst c hc]; exact hs), ⟨p, h4, fx_congr h5 (fun c v hc => hu c v (hE c hc)) (fun c v hc => hm c v (hE c hc))⟩, h6, fun v hv hk' hn => ?_⟩
  obtain ⟨s, e, hw⟩ := h7 v hv hk' hn
  have hd : ∀ c, Hb E c ∨ c = 22 + v → DX N live c := fun c z => z.elim (hE c) fun e => Or.inr ⟨by omega, by omega⟩
  exact ⟨s, e, wv_congr hw (fun c w hc => hu c w (hd c hc)) (fun c w hc => hm c w (hd c hc)) fun c hc h20 => hst c (lt20 c (hE c hc) h20)⟩
section
variable {f_draftId f_editId f_firstStay f_n f_m f_allVariables f_live f_liveCount f_marked f_draftOpen f_enforced f_execCount f_walkKnown f_peelCount f_planCount : Int32} {f_nextStamp : Int64} {a_values a_before a_kinds a_strengths a_constants a_termCounts a_termVars a_termSigns a_termModes a_variableMasks a_outputMasks a_users a_makers a_ranked a_atStrength a_execIds a_outputs a_feeders a_determiner a_upstream a_walk a_agenda a_peelIds a_peelVars a_plan : Nat → Int32} {a_stamps : Nat → Int64}
variable {g_n g_m g_planLen : Int32} {g_clock : Int64} {b_cKind b_cStrength b_cK b_cCount b_tVar b_tSign b_tMode b_here b_marked b_out b_inSet b_left b_last b_passed b_was b_member b_val b_old b_known b_plan : Nat → Int32} {b_born : Nat → Int64}
variable {N M L q : Nat}
theorem vd_32 (S : STR N M L q f_live f_marked f_draftOpen f_liveCount f_nextStamp g_clock a_kinds a_strengths a_constants a_termCounts a_termVars a_termSigns a_termModes a_variableMasks a_outputMasks a_users a_makers a_ranked a_atStrength a_stamps b_cKind b_cStrength b_cK b_cCount b_tVar b_tSign b_tMode b_born b_here b_marked) (hN : N ≤ 10) {c : Nat} (hc : Vd N f_live f_draftOpen c) : c < 32 := by
  rcases hc with h | h | h
  · exact hb_lt h
  · omega
  · omega
theorem dx_vd {c : Nat} (hc : DX N f_live c) : Vd N f_live f_draftOpen c := hc.elim Or.inl fun h => Or.inr (Or.inr h)
theorem st_u (S : STR N M L q f_live f_marked f_draftOpen f_liveCount f_nextStamp g_clock a_kinds a_strengths a_constants a_termCounts a_termVars a_termSigns a_termModes a_variableMasks a_outputMasks a_users a_makers a_ranked a_atStrength a_stamps b_cKind b_cStrength b_cK b_cCount b_tVar b_tSign b_tMode b_born b_here b_marked) (hN : N ≤ 10) {c v : Nat} (hc : Vd N f_live f_draftOpen c) : UX N a_users c v ↔ UY N b_cCount b_tVar c v := by
  obtain ⟨_, _, _, h4, h5⟩ := (S.1.2.1 c hc).1
  rw [rx_u hN S.1.1]
  unfold UY
  rw [← h4]
  constructor
  · rintro ⟨_, a, t, ht, e⟩
    exact ⟨a, t, ht, by rw [← (h5 t ht).1]; exact e⟩
  · rintro ⟨a, t, ht, e⟩
    exact ⟨vd_32 S hN hc, a, t, ht, by rw [(h5 t ht).1]; exact e⟩
theorem st_m (S : STR N M L q f_live f_marked f_draftOpen f_liveCount f_nextStamp g_clock a_kinds a_strengths a_constants a_termCounts a_termVars a_termSigns a_termModes a_variableMasks a_outputMasks a_users a_makers a_ranked a_atStrength a_stamps b_cKind b_cStrength b_cK b_cCount b_tVar b_tSign b_tMode b_born b_here b_marked) (hN : N ≤ 10) {c v : Nat} (hc : Vd N f_live f_draftOpen c) : UX N a_makers c v ↔ MY N b_cCount b_tVar b_tMode c v := by
  obtain ⟨_, _, _, h4, h5⟩ := (S.1.2.1 c hc).1
  rw [rx_k hN S.1.1]
  unfold MY
  rw [← h4]
  constructor
  · rintro ⟨_, a, t, ht, e, e2⟩
    exact ⟨a, t, ht, by rw [← (h5 t ht).1]; exact e, by rw [← (h5 t ht).2.2]; exact e2⟩
  · rintro ⟨a, t, ht, e, e2⟩
    exact ⟨vd_32 S hN hc, a, t, ht, by rw [(h5 t ht).1]; exact e, by rw [(h5 t ht).2.2]; exact e2⟩
theorem st_RY (S : STR N M L q f_live f_marked f_draftOpen f_liveCount f_nextStamp g_clock a_kinds a_strengths a_constants a_termCounts a_termVars a_termSigns a_termModes a_variableMasks a_outputMasks a_users a_makers a_ranked a_atStrength a_stamps b_cKind b_cStrength b_cK b_cCount b_tVar b_tSign b_tMode b_born b_here b_marked) (hN : N ≤ 10) {c : Nat} (hc : Vd N f_live f_draftOpen c) : RY N b_cCount b_tVar c := by
  have h32 := vd_32 S hN hc
  obtain ⟨_, _, _, h4, h5⟩ := (S.1.2.1 c hc).1
  obtain ⟨q0, hq, eq, hv, _⟩ := S.1.1 c h32
  have eqt : tn (a_termCounts c) = q0 := by rw [eq]; exact tn_nI (by omega)
  rw [eqt] at h5
  refine ⟨h32, ?_, ?_, ?_⟩
  · rw [← h4, eqt]; exact hq
  · rw [← h4, eqt]; exact eq
  · rw [← h4, eqt]
    intro t ht
    rw [← (h5 t ht).1]; exact hv t ht
theorem st_D (S : STR N M L q f_live f_marked f_draftOpen f_liveCount f_nextStamp g_clock a_kinds a_strengths a_constants a_termCounts a_termVars a_termSigns a_termModes a_variableMasks a_outputMasks a_users a_makers a_ranked a_atStrength a_stamps b_cKind b_cStrength b_cK b_cCount b_tVar b_tSign b_tMode b_born b_here b_marked) (hN : N ≤ 10) (hM : M ≤ 20) {c : Nat} : DY (-1) b_here c ↔ DX N f_live c := by
  obtain ⟨h1, _, _, h4, h5, h6, h7⟩ := S.2.1
  constructor
  · rintro ⟨hc, z | ⟨z, y⟩⟩
    · exact absurd (show nI c < 0 by rw [z]; decide) (nI_pos (by omega))
    · rcases Nat.lt_or_ge c 20 with a | a
      · exact Or.inl ((h4 c a).mp y)
      · have : c = 21 ∨ 22 ≤ c := by omega
        rcases this with b | b
        · subst b; exact absurd h6 y
        · exact Or.inr ⟨b, (h7 c b hc).mp y⟩
  · rintro (z | ⟨z, y⟩)
    · have := h1 c z
      exact ⟨by omega, Or.inr ⟨by omega, (h4 c (by omega)).mpr z⟩⟩
    · exact ⟨by omega, Or.inr ⟨by omega, (h7 c z (by omega)).mpr y⟩⟩
theorem st_sb (S : STR N M L q f_live f_marked f_draftOpen f_liveCount f_nextStamp g_clock a_kinds a_strengths a_constants a_termCounts a_termVars a_termSigns a_termModes a_variableMasks a_outputMasks a_users a_makers a_ranked a_atStrength a_stamps b_cKind b_cStrength b_cK b_cCount b_tVar b_tSign b_tMode b_born b_here b_marked) (hN : N ≤ 10) (hM : M ≤ 20) (hq : q ≤ 2050) {c : Nat} (hc : DX N f_live c) : ∃ s b, s ≤ 7 ∧ b < 65536 ∧ b_cStrength c = nI s ∧ b_born c = lN b ∧ (c < 20 → s < 7 ∧ keyR a_strengths a_stamps c = s * 65536 + b) ∧ (20 ≤ c → s = 7 ∧ c = 22 + b) := by
  obtain ⟨_, e2, _⟩ := (S.1.2.1 c (dx_vd hc)).1
  rcases hc with z | ⟨z, y⟩
  · have h20 := S.2.1.1 c z
    obtain ⟨s, hs, es⟩ := S.1.2.2.2.2.1 c (Or.inl z)
    obtain ⟨b, hb, eb, eb'⟩ := S.2.2.2.2.2.2.1 c z
    refine ⟨s, b, by omega, by omega, by rw [← e2]; exact es, eb', fun _ => ⟨hs, ?_⟩, fun h => by omega⟩
    unfold keyR
    rw [if_pos (by omega), es, eb, tn_nI (by omega), ln_lN (by omega)]
  · obtain ⟨v, rfl⟩ : ∃ v, c = 22 + v := ⟨c - 22, by omega⟩
    have h7 := (S.1.2.2.1 v (by omega)).1
    exact ⟨7, v, by omega, by omega, by rw [← e2, h7]; rfl, S.2.2.2.2.2.2.2 v (by omega), fun h => by omega, fun _ => ⟨rfl, rfl⟩⟩
theorem st_SB (S : STR N M L q f_live f_marked f_draftOpen f_liveCount f_nextStamp g_clock a_kinds a_strengths a_constants a_termCounts a_termVars a_termSigns a_termModes a_variableMasks a_outputMasks a_users a_makers a_ranked a_atStrength a_stamps b_cKind b_cStrength b_cK b_cCount b_tVar b_tSign b_tMode b_born b_here b_marked) (hN : N ≤ 10) (hM : M ≤ 20) (hq : q ≤ 2050) {c : Nat} (hc : DX N f_live c) : SB b_cStrength b_born c := by
  obtain ⟨s, b, h1, h2, h3, h4, _⟩ := st_sb S hN hM hq hc
  exact ⟨s, b, h1, h2, h3, h4⟩
theorem st_kY (S : STR N M L q f_live f_marked f_draftOpen f_liveCount f_nextStamp g_clock a_kinds a_strengths a_constants a_termCounts a_termVars a_termSigns a_termModes a_variableMasks a_outputMasks a_users a_makers a_ranked a_atStrength a_stamps b_cKind b_cStrength b_cK b_cCount b_tVar b_tSign b_tMode b_born b_here b_marked) (hN : N ≤ 10) (hM : M ≤ 20) (hq : q ≤ 2050) {c : Nat} (hc : DX N f_live c) : (c < 20 ∧ keyY b_cStrength b_born c = keyR a_strengths a_stamps c ∧ keyR a_strengths a_stamps c < 7 * 65536) ∨ (22 ≤ c ∧ keyY b_cStrength b_born c + 22 = keyR a_strengths a_stamps c ∧ keyR a_strengths a_stamps c = 7 * 65536 + c) := by
  obtain ⟨s, b, h1, h2, h3, h4, h5, h6⟩ := st_sb S hN hM hq hc
  have kY : keyY b_cStrength b_born c = s * 65536 + b := by unfold keyY; rw [h3, h4, tn_nI (by omega), ln_lN (by omega)]
  rcases Nat.lt_or_ge c 20 with z | z
  · obtain ⟨a, e⟩ := h5 z
    exact Or.inl ⟨z, by rw [kY, e], by omega⟩
  · obtain ⟨a, e⟩ := h6 z
    have kR : keyR a_strengths a_stamps c = 7 * 65536 + c := by unfold keyR; rw [if_neg (by omega)]
    exact Or.inr ⟨by omega, by omega, kR⟩
theorem st_key (S : STR N M L q f_live f_marked f_draftOpen f_liveCount f_nextStamp g_clock a_kinds a_strengths a_constants a_termCounts a_termVars a_termSigns a_termModes a_variableMasks a_outputMasks a_users a_makers a_ranked a_atStrength a_stamps b_cKind b_cStrength b_cK b_cCount b_tVar b_tSign b_tMode b_born b_here b_marked) (hN : N ≤ 10) (hM : M ≤ 20) (hq : q ≤ 2050) {c d : Nat} (hc : DX N f_live c) (hd : DX N f_live d) : keyR a_strengths a_stamps d < keyR a_strengths a_stamps c ↔ keyY b_cStrength b_born d < keyY b_cStrength b_born c := by
  have a := st_kY S hN hM hq hc
  have b := st_kY S hN hM hq hd
  omega
theorem st_kin (S : STR N M L q f_live f_marked f_draftOpen f_liveCount f_nextStamp g_clock a_kinds a_strengths a_constants a_termCounts a_termVars a_termSigns a_termModes a_variableMasks a_outputMasks a_users a_makers a_ranked a_atStrength a_stamps b_cKind b_cStrength b_cK b_cCount b_tVar b_tSign b_tMode b_born b_here b_marked) {c d : Nat} (hc : Hb f_live c) (hd : Hb f_live d) (e : keyR a_strengths a_stamps c = keyR a_strengths a_stamps d) : c = d := by
  obtain ⟨_, _, h3, h4⟩ := S.2.2.1
  obtain ⟨i, hi, ei⟩ := h3 c hc
  obtain ⟨j, hj, ej⟩ := h3 d hd
  rcases Nat.lt_trichotomy i j with z | z | z
  · have := h4 i j z hj
    rw [ei, ej] at this; omega
  · rw [← ei, ← ej, z]
  · have := h4 j i z hi
    rw [ei, ej] at this; omega
theorem st_inj (S : STR N M L q f_live f_marked f_draftOpen f_liveCount f_nextStamp g_clock a_kinds a_strengths a_constants a_termCounts a_termVars a_termSigns a_termModes a_variableMasks a_outputMasks a_users a_makers a_ranked a_atStrength a_stamps b_cKind b_cStrength b_cK b_cCount b_tVar b_tSign b_tMode b_born b_here b_marked) (hN : N ≤ 10) (hM : M ≤ 20) (hq : q ≤ 2050) {c d : Nat} (hc : DX N f_live c) (hd : DX N f_live d) (e : keyY b_cStrength b_born c = keyY b_cStrength b_born d) : c = d := by
  have a := st_kY S hN hM hq hc
  have b := st_kY S hN hM hq hd
  rcases Nat.lt_or_ge c 20 with z | z
  · rcases Nat.lt_or_ge d 20 with y | y
    · exact st_kin S (hc.elim id fun h => absurd h.1 (by omega)) (hd.elim id fun h => absurd h.1 (by omega)) (by omega)
    · omega
  · omega
theorem st_stay (S : STR N M L q f_live f_marked f_draftOpen f_liveCount f_nextStamp g_clock a_kinds a_strengths a_constants a_termCounts a_termVars a_termSigns a_termModes a_variableMasks a_outputMasks a_users a_makers a_ranked a_atStrength a_stamps b_cKind b_cStrength b_cK b_cCount b_tVar b_tSign b_tMode b_born b_here b_marked) (hN : N ≤ 10) {v : Nat} (hv : v < N) : (∀ w, UX N a_makers (22 + v) w ↔ w = v) ∧ ∀ w, UX N a_users (22 + v) w ↔ w = v := by
  obtain ⟨_, h1, h2, h3, _⟩ := S.1.2.2.1 v hv
  have e1 : tn (a_termCounts (22 + v)) = 1 := by rw [h1]; exact tn_nI (by decide)
  refine ⟨fun w => ?_, fun w => ?_⟩
  · rw [rx_k hN S.1.1, e1]
    constructor
    · rintro ⟨_, hw, t, ht, e, _⟩
      have : t = 0 := by omega
      subst this
      rw [Nat.add_zero, h2, nI_eq (by omega) (by omega)] at e
      exact e.symm
    · rintro rfl
      exact ⟨by omega, hv, 0, by omega, h2, h3⟩
  · rw [rx_u hN S.1.1, e1]
    constructor
    · rintro ⟨_, hw, t, ht, e⟩
      have : t = 0 := by omega
      subst this
      rw [Nat.add_zero, h2, nI_eq (by omega) (by omega)] at e
      exact e.symm
    · rintro rfl
      exact ⟨by omega, hv, 0, by omega, h2⟩
theorem ev_X (S : STR N M L q f_live f_marked f_draftOpen f_liveCount f_nextStamp g_clock a_kinds a_strengths a_constants a_termCounts a_termVars a_termSigns a_termModes a_variableMasks a_outputMasks a_users a_makers a_ranked a_atStrength a_stamps b_cKind b_cStrength b_cK b_cCount b_tVar b_tSign b_tMode b_born b_here b_marked) (hN : N ≤ 10) {c o : Nat} (hc : Vd N f_live f_draftOpen c) (hm : UX N a_makers c o) : EvOK N a_kinds a_termCounts a_termVars c o := by
  obtain ⟨hk, hk2⟩ := (S.1.2.1 c hc).2
  obtain ⟨h32, ho, t, ht, e1, e2⟩ := (rx_k hN S.1.1).mp hm
  obtain ⟨q0, hq, eq, hv, hd, _⟩ := S.1.1 c h32
  have eqt : tn (a_termCounts c) = q0 := by rw [eq]; exact tn_nI (by omega)
  rw [eqt] at ht hk2
  refine ⟨h32, ho, hk, q0, t, hq, eq, ht, e1, hv, fun t' ht' hne e => ?_, fun h => hk2 h t ht e2⟩
  rcases Nat.lt_trichotomy t t' with z | z | z
  · exact hd t t' z ht' (e1.trans e.symm)
  · exact hne z.symm
  · exact hd t' t z ht (e.trans e1.symm)
theorem ev_Y (S : STR N M L q f_live f_marked f_draftOpen f_liveCount f_nextStamp g_clock a_kinds a_strengths a_constants a_termCounts a_termVars a_termSigns a_termModes a_variableMasks a_outputMasks a_users a_makers a_ranked a_atStrength a_stamps b_cKind b_cStrength b_cK b_cCount b_tVar b_tSign b_tMode b_born b_here b_marked) (hN : N ≤ 10) {c o : Nat} (hc : Vd N f_live f_draftOpen c) (h : EvOK N a_kinds a_termCounts a_termVars c o) : EvOK N b_cKind b_cCount b_tVar c o := by
  obtain ⟨e1, e2, e3, e4, e5⟩ := (S.1.2.1 c hc).1
  obtain ⟨h1, h2, h3, q0, t0, h4, h5, h6, h7, h8, h9, h10⟩ := h
  have eqt : tn (a_termCounts c) = q0 := by rw [h5]; exact tn_nI (by omega)
  rw [eqt] at e5
  refine ⟨h1, h2, by rw [← e1]; exact h3, q0, t0, h4, by rw [← e4]; exact h5, h6, by rw [← (e5 t0 h6).1]; exact h7, fun t ht => by rw [← (e5 t ht).1]; exact h8 t ht, fun t ht => by rw [← (e5 t ht).1]; exact h9 t ht, by rw [← e1]; exact h10⟩
theorem dm_XY (S : STR N M L q f_live f_marked f_draftOpen f_liveCount f_nextStamp g_clock a_kinds a_strengths a_constants a_termCounts a_termVars a_termSigns a_termModes a_variableMasks a_outputMasks a_users a_makers a_ranked a_atStrength a_stamps b_cKind b_cStrength b_cK b_cCount b_tVar b_tSign b_tMode b_born b_here b_marked) (hN : N ≤ 10) {c o : Nat} (hc : Vd N f_live f_draftOpen c) (h : EvOK N a_kinds a_termCounts a_termVars c o) (f g : Nat → Int32) (hf : ∀ w, UX N a_users c w → f w = g w) : dmD a_kinds a_constants a_termCounts a_termVars a_termSigns c o f = dmD b_cKind b_cK b_cCount b_tVar b_tSign c o g := by
  obtain ⟨e1, e2, e3, e4, e5⟩ := (S.1.2.1 c hc).1
  exact dm_congr h e1 e3 e4 (fun t ht => ⟨(e5 t ht).1, (e5 t ht).2.1⟩) (fun w hw => hf w ((rx_u hN S.1.1).mpr ⟨h.1, hw.1, hw.2⟩)) hN
end
end
section
/-! plain readers -/
theorem lv_case (M : Nat) (hM : M ≤ 20) (live x : Int32) : NL M live x ∨ ∃ c, c < M ∧ x = nI c ∧ Hb live c := by
  rcases pk_ix x (n := M) (by omega) with z | z | ⟨c, hc, e⟩
  · exact Or.inl (Or.inl z)
  · exact Or.inl (Or.inr (Or.inl z))
  · rcases Classical.em (Hb live c) with y | y
    · exact Or.inr ⟨c, hc, e, y⟩
    · exact Or.inl (Or.inr (Or.inr ⟨c, hc, e, y⟩))
theorem hb_one1 (y : Int32) : (y &&& 1 = 0 ∧ ¬ Hb y 0) ∨ (y &&& 1 = 1 ∧ Hb y 0) := by
  have h1 : ∀ i, Hb 1 i ↔ i = 0 := fun i => by
    have := hb_one (c := 0) (i := i) (by omega)
    rw [show (1 : Int32) <<< (nI 0 &&& 31) = 1 from by decide] at this
    exact this
  rcases Classical.em (Hb y 0) with z | z
  · refine Or.inr ⟨hb_ext fun i => ?_, z⟩
    rw [hb_and, h1]
    exact ⟨fun h => h.2, fun h => ⟨h ▸ z, h⟩⟩
  · refine Or.inl ⟨hb_z.mpr fun i hi => ?_, z⟩
    rw [hb_and, h1] at hi
    exact z (hi.2 ▸ hi.1)
theorem cn_bij {rk : Nat → Nat} {M : Nat} {P : Nat → Prop} : ∀ L, (∀ i, i < L → rk i < M) → (∀ i j, i < j → j < L → rk i ≠ rk j) → cn (fun i => P (rk i)) L = cn (fun d => (∃ i, i < L ∧ rk i = d) ∧ P d) M
  | 0, _, _ => (cn_zero fun k _ h => by obtain ⟨⟨i, h, _⟩, _⟩ := h; omega).symm
  | L + 1, h1, h2 => by
    have ih := cn_bij (rk := rk) (M := M) (P := P) L (fun i hi => h1 i (by omega)) (fun i j hij hj => h2 i j hij (by omega))
    rw [cn_s, ih]
    rcases Classical.em (P (rk L)) with z | z
    · rw [b01_t z, ← cn_add (P := fun d => (∃ i, i < L ∧ rk i = d) ∧ P d) (a := rk L) (fun y => by obtain ⟨⟨i, hi, e⟩, _⟩ := y; exact h2 i L hi (by omega) e) (h1 L (by omega))]
      apply cn_eq
      intro d _
      constructor
      · rintro (⟨⟨i, hi, e⟩, hp⟩ | e)
        · exact ⟨⟨i, by omega, e⟩, hp⟩
        · subst e; exact ⟨⟨L, by omega, rfl⟩, z⟩
      · rintro ⟨⟨i, hi, e⟩, hp⟩
        rcases Nat.lt_or_ge i L with y | y
        · exact Or.inl ⟨⟨i, y, e⟩, hp⟩
        · have : i = L := by omega
          subst this
          exact Or.inr e.symm
    · rw [b01_f z]
      apply cn_eq
      intro d _
      constructor
      · rintro ⟨⟨i, hi, e⟩, hp⟩
        exact ⟨⟨i, by omega, e⟩, hp⟩
      · rintro ⟨⟨i, hi, e⟩, hp⟩
        rcases Nat.lt_or_ge i L with y | y
        · exact ⟨⟨i, y, e⟩, hp⟩
        · have : i = L := by omega
          subst this
          exact absurd (e ▸ hp) z
section
variable {f_draftId f_editId f_firstStay f_n f_m f_allVariables f_live f_liveCount f_marked f_draftOpen f_enforced f_execCount f_walkKnown f_peelCount f_planCount : Int32} {f_nextStamp : Int64} {a_values a_before a_kinds a_strengths a_constants a_termCounts a_termVars a_termSigns a_termModes a_variableMasks a_outputMasks a_users a_makers a_ranked a_atStrength a_execIds a_outputs a_feeders a_determiner a_upstream a_walk a_agenda a_peelIds a_peelVars a_plan : Nat → Int32} {a_stamps : Nat → Int64}
variable {g_n g_m g_planLen : Int32} {g_clock : Int64} {b_cKind b_cStrength b_cK b_cCount b_tVar b_tSign b_tMode b_here b_marked b_out b_inSet b_left b_last b_passed b_was b_member b_val b_old b_known b_plan : Nat → Int32} {b_born : Nat → Int64}
variable {N M L q : Nat}
theorem ys_live_t (hm : g_m = nI M) (hM : M ≤ 20) (post : Int32 → Prop) {c : Nat} (hc : c < M) (hl : ¬ b_here c = 0) (H : post 1) : wpY_live post (g_n, g_m, g_planLen, g_clock, b_cKind, b_cStrength, b_cK, b_cCount, b_tVar, b_tSign, b_tMode, b_born, b_here, b_marked, b_out, b_inSet, b_left, b_last, b_passed, b_was, b_member, b_val, b_old, b_known, b_plan) (nI c) :=
  br_f (nI_pos (by omega)) (br_f (by rw [hm]; exact nI_ge hc (by omega)) (And.intro (vp_in_nI (by omega) (by omega)) (br_f (by rw [nI_clamp (by omega)]; exact hl) H)))
theorem ys_live_f (hm : g_m = nI M) (hM : M ≤ 20) (post : Int32 → Prop) (S : STR N M L q f_live f_marked f_draftOpen f_liveCount f_nextStamp g_clock a_kinds a_strengths a_constants a_termCounts a_termVars a_termSigns a_termModes a_variableMasks a_outputMasks a_users a_makers a_ranked a_atStrength a_stamps b_cKind b_cStrength b_cK b_cCount b_tVar b_tSign b_tMode b_born b_here b_marked) {x : Int32} (hx : NL M f_live x) (H : post 0) : wpY_live post (g_n, g_m, g_planLen, g_clock, b_cKind, b_cStrength, b_cK, b_cCount, b_tVar, b_tSign, b_tMode, b_born, b_here, b_marked, b_out, b_inSet, b_left, b_last, b_passed, b_was, b_member, b_val, b_old, b_known, b_plan) x := by
  rcases hx with h | h | ⟨c, hc, e, hl⟩
  · exact br_t h H
  · exact br_c (fun _ => H) (fun _ => br_t (by rw [hm]; exact h) H)
  · subst e
    refine br_f (nI_pos (by omega)) (br_f (by rw [hm]; exact nI_ge hc (by omega)) (And.intro (vp_in_nI (by omega) (by omega)) (br_t ?_ H)))
    rw [nI_clamp (by omega)]
    exact Classical.byContradiction fun y => hl ((S.2.1.2.2.2.1 c (by omega)).mp y)
theorem st_here (S : STR N M L q f_live f_marked f_draftOpen f_liveCount f_nextStamp g_clock a_kinds a_strengths a_constants a_termCounts a_termVars a_termSigns a_termModes a_variableMasks a_outputMasks a_users a_makers a_ranked a_atStrength a_stamps b_cKind b_cStrength b_cK b_cCount b_tVar b_tSign b_tMode b_born b_here b_marked) (hM : M ≤ 20) {c : Nat} (hc : c < M) (hl : Hb f_live c) : ¬ b_here c = 0 := (S.2.1.2.2.2.1 c (by omega)).mpr hl
theorem i_up {k : Nat} {u : SX} {v : SY} (h : i_Rel k u v) : i_Rel (k + 4) u v :=
  zz_el (P := fun u v => i_Rel (k + 4) u v) (fun f_draftId f_editId f_firstStay f_n f_m f_allVariables f_live f_liveCount f_marked f_draftOpen f_enforced f_execCount f_walkKnown f_peelCount f_planCount f_nextStamp a_values a_before a_kinds a_strengths a_constants a_termCounts a_termVars a_termSigns a_termModes a_variableMasks a_outputMasks a_users a_makers a_ranked a_atStrength a_execIds a_outputs a_feeders a_determiner a_upstream a_walk a_agenda a_peelIds a_peelVars a_plan a_stamps g_n g_m g_planLen g_clock b_cKind b_cStrength b_cK b_cCount b_tVar b_tSign b_tMode b_here b_marked b_out b_inSet b_left b_last b_passed b_was b_member b_val b_old b_known b_plan b_born N M L q h1 h2 h3 h4 h5 h6 => zz_mk (by omega) h2 h3 h4 h5 h6) h
theorem i_vc_value {k : Nat} {u : SX} {v : SY} (I : i_Rel k u v) (hk : k + 4 ≤ 2050) (v1 : Int32) : wpX_value (fun r => wpY_value (fun r' => r' = r ∧ i_Rel (k + 4) u v) v v1) u v1 := by
  refine zz_el (P := fun u v => wpX_value (fun r => wpY_value (fun r' => r' = r ∧ i_Rel (k + 4) u v) v v1) u v1) ?_ I
  intro f_draftId f_editId f_firstStay f_n f_m f_allVariables f_live f_liveCount f_marked f_draftOpen f_enforced f_execCount f_walkKnown f_peelCount f_planCount f_nextStamp a_values a_before a_kinds a_strengths a_constants a_termCounts a_termVars a_termSigns a_termModes a_variableMasks a_outputMasks a_users a_makers a_ranked a_atStrength a_execIds a_outputs a_feeders a_determiner a_upstream a_walk a_agenda a_peelIds a_peelVars a_plan a_stamps g_n g_m g_planLen g_clock b_cKind b_cStrength b_cK b_cCount b_tVar b_tSign b_tMode b_here b_marked b_out b_inSet b_left b_last b_passed b_was b_member b_val b_old b_known b_plan b_born N M L q h1 h2 h3 h4 h5 h6
  have II : i_Rel (k + 4) (f_draftId, f_editId, f_firstStay, f_n, f_m, f_allVariables, f_nextStamp, f_live, f_liveCount, f_marked, f_draftOpen, f_enforced, f_execCount, f_walkKnown, f_peelCount, f_planCount, a_values, a_before, a_kinds, a_strengths, a_constants, a_termCounts, a_termVars, a_termSigns, a_termModes, a_variableMasks, a_outputMasks, a_stamps, a_users, a_makers, a_ranked, a_atStrength, a_execIds, a_outputs, a_feeders, a_determiner, a_upstream, a_walk, a_agenda, a_peelIds, a_peelVars, a_plan) (g_n, g_m, g_planLen, g_clock, b_cKind, b_cStrength, b_cK, b_cCount, b_tVar, b_tSign, b_tMode, b_born, b_here, b_marked, b_out, b_inSet, b_left, b_last, b_passed, b_was, b_member, b_val, b_old, b_known, b_plan) := zz_mk (by omega) h2 h3 h4 h5 h6
  obtain ⟨hn, hN2, hN, hm, hM2, hM, hall, gn, gm⟩ := h2
  unfold wpX_value wpY_value
  rcases pk_ix v1 (n := N) (by omega) with z | z | ⟨j, hj, rfl⟩
  · refine xs_var_f hn _ (Or.inl z) ?_
    refine br_t rfl ?_
    exact br_t z ⟨rfl, II⟩
  · refine xs_var_f hn _ (Or.inr z) ?_
    refine br_t rfl ?_
    refine br_c (fun _ => ⟨rfl, II⟩) (fun _ => br_f ?_ ⟨rfl, II⟩)
    rw [gn]; exact Int32.not_lt.mpr z
  · have ej : (nI j).toNatClampNeg = j := nI_clamp (by omega)
    have vj : vp_in (nI j) 10 := vp_in_nI (by omega) (by omega)
    refine xs_var_t hn hN _ hj ?_
    refine br_f (by decide) (And.intro vj (br_f (nI_pos (by omega)) (br_t ?_ (And.intro vj ⟨?_, II⟩))))
    · rw [gn]; exact nI_lt hj (by omega)
    · rw [ej]; exact (h6 j hj).symm
theorem yl_det (hm : g_m = nI M) (hM : M ≤ 20) (post : Int32 → Prop) {x : Int32} (H1 : ∀ c, c < M → b_out c = x → post (nI c)) (H2 : (∀ c, c < M → b_out c ≠ x) → post (-1)) :
    ∀ d i fuel, i + d = M → d < fuel → (∀ c, c < i → b_out c ≠ x) → wY_determinedBy_17 post x g_n g_m g_planLen g_clock b_cKind b_cStrength b_cK b_cCount b_tVar b_tSign b_tMode b_born b_here b_marked b_out b_inSet b_left b_last b_passed b_was b_member b_val b_old b_known b_plan fuel (nI i) := by
  intro d
  induction d with
  | zero =>
    intro i fuel hi hf h
    have e : i = M := by omega
    subst e
    cases fuel with
    | zero => omega
    | succ fuel => exact br_t (by rw [hm]; exact Int32.le_refl _) (H2 h)
  | succ d ih =>
    intro i fuel hi hf h
    cases fuel with
    | zero => omega
    | succ fuel =>
      refine pk_le M i (fun h => absurd h (by omega)) (fun _ => And.intro (vp_in_nI (by omega) (by omega)) ?_) hm rfl (by omega) (by omega)
      rw [nI_clamp (by omega)]
      refine br_c (fun z => H1 i (by omega) z) (fun z => nm_r (nI_1 i) (ih (i + 1) fuel (by omega) (by omega) fun c hc => ?_))
      rcases Nat.lt_or_ge c i with y | y
      · exact h c y
      · have : c = i := by omega
        subst this
        exact z
theorem i_vc_determinedBy {k : Nat} {u : SX} {v : SY} (I : i_Rel k u v) (hk : k + 4 ≤ 2050) (v1 : Int32) : wpX_determinedBy (fun r => wpY_determinedBy (fun r' => r' = r ∧ i_Rel (k + 4) u v) v v1) u v1 := by
  refine zz_el (P := fun u v => wpX_determinedBy (fun r => wpY_determinedBy (fun r' => r' = r ∧ i_Rel (k + 4) u v) v v1) u v1) ?_ I
  intro f_draftId f_editId f_firstStay f_n f_m f_allVariables f_live f_liveCount f_marked f_draftOpen f_enforced f_execCount f_walkKnown f_peelCount f_planCount f_nextStamp a_values a_before a_kinds a_strengths a_constants a_termCounts a_termVars a_termSigns a_termModes a_variableMasks a_outputMasks a_users a_makers a_ranked a_atStrength a_execIds a_outputs a_feeders a_determiner a_upstream a_walk a_agenda a_peelIds a_peelVars a_plan a_stamps g_n g_m g_planLen g_clock b_cKind b_cStrength b_cK b_cCount b_tVar b_tSign b_tMode b_here b_marked b_out b_inSet b_left b_last b_passed b_was b_member b_val b_old b_known b_plan b_born N M L q h1 h2 h3 h4 h5 h6
  have II : i_Rel (k + 4) (f_draftId, f_editId, f_firstStay, f_n, f_m, f_allVariables, f_nextStamp, f_live, f_liveCount, f_marked, f_draftOpen, f_enforced, f_execCount, f_walkKnown, f_peelCount, f_planCount, a_values, a_before, a_kinds, a_strengths, a_constants, a_termCounts, a_termVars, a_termSigns, a_termModes, a_variableMasks, a_outputMasks, a_stamps, a_users, a_makers, a_ranked, a_atStrength, a_execIds, a_outputs, a_feeders, a_determiner, a_upstream, a_walk, a_agenda, a_peelIds, a_peelVars, a_plan) (g_n, g_m, g_planLen, g_clock, b_cKind, b_cStrength, b_cK, b_cCount, b_tVar, b_tSign, b_tMode, b_born, b_here, b_marked, b_out, b_inSet, b_left, b_last, b_passed, b_was, b_member, b_val, b_old, b_known, b_plan) := zz_mk (by omega) h2 h3 h4 h5 h6
  obtain ⟨hn, hN2, hN, hm, hM2, hM, hall, gn, gm⟩ := h2
  unfold wpX_determinedBy wpY_determinedBy
  rcases pk_ix v1 (n := N) (by omega) with z | z | ⟨j, hj, rfl⟩
  · refine xs_var_f hn _ (Or.inl z) ?_
    refine br_t rfl ?_
    exact br_t z ⟨rfl, II⟩
  · refine xs_var_f hn _ (Or.inr z) ?_
    refine br_t rfl ?_
    refine br_c (fun _ => ⟨rfl, II⟩) (fun _ => br_f ?_ ⟨rfl, II⟩)
    rw [gn]; exact Int32.not_lt.mpr z
  · have ej : (nI j).toNatClampNeg = j := nI_clamp (by omega)
    have vj : vp_in (nI j) 10 := vp_in_nI (by omega) (by omega)
    obtain ⟨hc, _, _, ⟨p, ep, F⟩, ho, _⟩ := h4
    obtain ⟨c, hcE, hco⟩ := F.2.2.2.2.1 j hj
    obtain ⟨e1, e2⟩ := F.2.2.2.1 c hcE
    rw [hco] at e1 e2
    have c32 := hb_lt hcE
    have un : ∀ d, d < M → b_out d = nI j → d = c := by
      intro d hd e
      have hdE : Hb f_enforced d := Classical.byContradiction fun y => by
        rw [ho d (by omega), F.2.2.2.2.2.1 d (by omega) y] at e
        exact absurd (show nI j < 0 by rw [← e]; decide) (nI_pos (by omega))
      obtain ⟨e3, e4⟩ := F.2.2.2.1 d hdE
      rw [ho d (by omega)] at e
      rw [e, tn_nI (by omega)] at e4
      rw [e2, nI_eq (by omega) (by omega)] at e4
      exact e4.symm
    refine xs_var_t hn hN _ hj ?_
    refine br_f (by decide) (And.intro vj ?_)
    rw [ej, e2]
    refine pk_lt c 20 (fun hlt => And.intro vj (br_f (nI_pos (by omega)) (br_t (by rw [gn]; exact nI_lt hj (by omega)) (Exists.intro (M + 1) (yl_det gm hM _ (fun d hd e => ⟨by rw [un d hd e], II⟩) (fun h => absurd ((ho c c32).trans e1) (h c ?_)) M 0 (M + 1) (by omega) (by omega) fun c hc => by omega))))) (fun hge => br_f (nI_pos (by omega)) (br_t (by rw [gn]; exact nI_lt hj (by omega)) (Exists.intro (M + 1) (yl_det gm hM _ (fun d hd e => absurd (un d hd e) (by omega)) (fun h => ⟨rfl, II⟩) M 0 (M + 1) (by omega) (by omega) fun c hc => by omega)))) rfl rfl (by omega) (by omega)
    exact h3.2.1.1 c ((hc.1 c hcE).elim id fun y => absurd y.1 (by omega))
theorem i_vc_outputOf {k : Nat} {u : SX} {v : SY} (I : i_Rel k u v) (hk : k + 4 ≤ 2050) (v1 : Int32) : wpX_outputOf (fun r => wpY_outputOf (fun r' => r' = r ∧ i_Rel (k + 4) u v) v v1) u v1 := by
  refine zz_el (P := fun u v => wpX_outputOf (fun r => wpY_outputOf (fun r' => r' = r ∧ i_Rel (k + 4) u v) v v1) u v1) ?_ I
  intro f_draftId f_editId f_firstStay f_n f_m f_allVariables f_live f_liveCount f_marked f_draftOpen f_enforced f_execCount f_walkKnown f_peelCount f_planCount f_nextStamp a_values a_before a_kinds a_strengths a_constants a_termCounts a_termVars a_termSigns a_termModes a_variableMasks a_outputMasks a_users a_makers a_ranked a_atStrength a_execIds a_outputs a_feeders a_determiner a_upstream a_walk a_agenda a_peelIds a_peelVars a_plan a_stamps g_n g_m g_planLen g_clock b_cKind b_cStrength b_cK b_cCount b_tVar b_tSign b_tMode b_here b_marked b_out b_inSet b_left b_last b_passed b_was b_member b_val b_old b_known b_plan b_born N M L q h1 h2 h3 h4 h5 h6
  have II : i_Rel (k + 4) (f_draftId, f_editId, f_firstStay, f_n, f_m, f_allVariables, f_nextStamp, f_live, f_liveCount, f_marked, f_draftOpen, f_enforced, f_execCount, f_walkKnown, f_peelCount, f_planCount, a_values, a_before, a_kinds, a_strengths, a_constants, a_termCounts, a_termVars, a_termSigns, a_termModes, a_variableMasks, a_outputMasks, a_stamps, a_users, a_makers, a_ranked, a_atStrength, a_execIds, a_outputs, a_feeders, a_determiner, a_upstream, a_walk, a_agenda, a_peelIds, a_peelVars, a_plan) (g_n, g_m, g_planLen, g_clock, b_cKind, b_cStrength, b_cK, b_cCount, b_tVar, b_tSign, b_tMode, b_born, b_here, b_marked, b_out, b_inSet, b_left, b_last, b_passed, b_was, b_member, b_val, b_old, b_known, b_plan) := zz_mk (by omega) h2 h3 h4 h5 h6
  obtain ⟨hn, hN2, hN, hm, hM2, hM, hall, gn, gm⟩ := h2
  unfold wpX_outputOf wpY_outputOf
  rcases lv_case M hM f_live v1 with z | ⟨c, hc, rfl, hl⟩
  · refine xs_live_f hm hM _ z ?_
    refine br_t rfl ?_
    refine ys_live_f gm hM _ h3 z ?_
    exact br_t rfl ⟨rfl, II⟩
  · have vi : vp_in (nI c) 32 := vp_in_nI (by omega) (by omega)
    refine xs_live_t hm hM _ hc hl ?_
    refine br_f (by decide) ?_
    refine And.intro vi ?_
    refine ys_live_t gm hM _ hc (st_here h3 hM hc hl) ?_
    refine br_f (by decide) (And.intro vi ⟨?_, II⟩)
    rw [nI_clamp (by omega)]; exact h4.2.2.2.2.1 c (by omega)
theorem i_vc_satisfied {k : Nat} {u : SX} {v : SY} (I : i_Rel k u v) (hk : k + 4 ≤ 2050) (v1 : Int32) : wpX_satisfied (fun r => wpY_satisfied (fun r' => r' = r ∧ i_Rel (k + 4) u v) v v1) u v1 := by
  refine zz_el (P := fun u v => wpX_satisfied (fun r => wpY_satisfied (fun r' => r' = r ∧ i_Rel (k + 4) u v) v v1) u v1) ?_ I
  intro f_draftId f_editId f_firstStay f_n f_m f_allVariables f_live f_liveCount f_marked f_draftOpen f_enforced f_execCount f_walkKnown f_peelCount f_planCount f_nextStamp a_values a_before a_kinds a_strengths a_constants a_termCounts a_termVars a_termSigns a_termModes a_variableMasks a_outputMasks a_users a_makers a_ranked a_atStrength a_execIds a_outputs a_feeders a_determiner a_upstream a_walk a_agenda a_peelIds a_peelVars a_plan a_stamps g_n g_m g_planLen g_clock b_cKind b_cStrength b_cK b_cCount b_tVar b_tSign b_tMode b_here b_marked b_out b_inSet b_left b_last b_passed b_was b_member b_val b_old b_known b_plan b_born N M L q h1 h2 h3 h4 h5 h6
  have II : i_Rel (k + 4) (f_draftId, f_editId, f_firstStay, f_n, f_m, f_allVariables, f_nextStamp, f_live, f_liveCount, f_marked, f_draftOpen, f_enforced, f_execCount, f_walkKnown, f_peelCount, f_planCount, a_values, a_before, a_kinds, a_strengths, a_constants, a_termCounts, a_termVars, a_termSigns, a_termModes, a_variableMasks, a_outputMasks, a_stamps, a_users, a_makers, a_ranked, a_atStrength, a_execIds, a_outputs, a_feeders, a_determiner, a_upstream, a_walk, a_agenda, a_peelIds, a_peelVars, a_plan) (g_n, g_m, g_planLen, g_clock, b_cKind, b_cStrength, b_cK, b_cCount, b_tVar, b_tSign, b_tMode, b_born, b_here, b_marked, b_out, b_inSet, b_left, b_last, b_passed, b_was, b_member, b_val, b_old, b_known, b_plan) := zz_mk (by omega) h2 h3 h4 h5 h6
  obtain ⟨hn, hN2, hN, hm, hM2, hM, hall, gn, gm⟩ := h2
  unfold wpX_satisfied wpY_satisfied
  rcases lv_case M hM f_live v1 with z | ⟨c, hc, rfl, hl⟩
  · refine xs_live_f hm hM _ z ?_
    refine br_t rfl ?_
    refine ys_live_f gm hM _ h3 z ?_
    exact br_t rfl ⟨rfl, II⟩
  · have hV : Vd N f_live f_draftOpen c := Or.inl hl
    obtain ⟨o', hmk⟩ := h3.1.2.2.2.2.2 c hl
    obtain ⟨c32, _, t', ht', _⟩ := (rx_k hN h3.1.1).mp hmk
    obtain ⟨q0, hq, eq, hv, hd, _⟩ := h3.1.1 c c32
    have eqt : tn (a_termCounts c) = q0 := by rw [eq]; exact tn_nI (by omega)
    rw [eqt] at ht'
    obtain ⟨o, hoN, e0⟩ := hv 0 (by omega)
    rw [Nat.add_zero] at e0
    have hE : EvOK N a_kinds a_termCounts a_termVars c o := ⟨c32, hoN, (h3.1.2.1 c hV).2.1, q0, 0, hq, eq, by omega, by rw [Nat.add_zero]; exact e0, hv, fun t ht hne => by rw [← e0]; exact fun e => hd 0 t (by omega) ht (by rw [Nat.add_zero]; exact e.symm), fun _ => rfl⟩
    obtain ⟨_, _, _, e4, e5⟩ := (h3.1.2.1 c hV).1
    rw [eqt] at e5
    have y0 : b_tVar (4 * c) = nI o := by rw [← e0]; exact ((e5 0 (by omega)).1).symm
    have eqY : b_cCount c = nI q0 := by rw [← e4]; exact eq
    have ec4 : (nI (4 * c)).toNatClampNeg = 4 * c := nI_clamp (by omega)
    have eo : (nI o).toNatClampNeg = o := nI_clamp (by omega)
    have v4 : vp_in (nI (4 * c)) 128 := vp_in_nI (by omega) (by omega)
    have vo : vp_in (nI o) 10 := vp_in_nI (by omega) (by omega)
    have hEY := ev_Y h3 hN hV hE
    have eD := dm_XY h3 hN hV hE a_values b_val (fun w hw => h6 w hw.1)
    refine xs_live_t hm hM _ hc hl ?_
    refine br_f (by decide) ?_
    rw [ix_x0]
    refine And.intro v4 (nm_r (e' := nI o) (by rw [ec4]; exact e0) (xs_dem hN _ hE (And.intro vo ?_)))
    rw [eo]
    have ydm : ∀ post : Int32 → Prop, post (dmD a_kinds a_constants a_termCounts a_termVars a_termSigns c o a_values) → wpY_demand post (g_n, g_m, g_planLen, g_clock, b_cKind, b_cStrength, b_cK, b_cCount, b_tVar, b_tSign, b_tMode, b_born, b_here, b_marked, b_out, b_inSet, b_left, b_last, b_passed, b_was, b_member, b_val, b_old, b_known, b_plan) (nI c) 0 := by
      intro post H
      rw [eD, dm_q (N := N) (t0 := 0) hq eqY (by omega) (by rw [Nat.add_zero]; exact y0) (fun t ht hne => by rw [← (e5 t ht).1, ← e0]; exact fun e => hd 0 t (by omega) ht (by rw [Nat.add_zero]; exact e.symm))] at H
      exact ys_dem (t0 := 0) hN post c32 eqY hq (by omega) (fun t ht => by rw [← (e5 t ht).1]; exact hv t ht) H
    refine br_c (fun z => ?_) (fun z => ?_)
    · refine ys_live_t gm hM _ hc (st_here h3 hM hc hl) ?_
      refine br_f (by decide) ?_
      rw [ix_y0, ec4, y0, eo, ← h6 o hoN]
      exact And.intro v4 (And.intro vo (ydm _ (br_t z.symm ⟨rfl, II⟩)))
    · refine ys_live_t gm hM _ hc (st_here h3 hM hc hl) ?_
      refine br_f (by decide) ?_
      rw [ix_y0, ec4, y0, eo, ← h6 o hoN]
      exact And.intro v4 (And.intro vo (ydm _ (br_f (fun y => z y.symm) ⟨rfl, II⟩)))
theorem i_vc_planLength {k : Nat} {u : SX} {v : SY} (I : i_Rel k u v) (hk : k + 4 ≤ 2050) : wpX_planLength (fun r => wpY_planLength (fun r' => r' = r ∧ i_Rel (k + 4) u v) v) u := by
  refine zz_el (P := fun u v => wpX_planLength (fun r => wpY_planLength (fun r' => r' = r ∧ i_Rel (k + 4) u v) v) u) ?_ I
  intro f_draftId f_editId f_firstStay f_n f_m f_allVariables f_live f_liveCount f_marked f_draftOpen f_enforced f_execCount f_walkKnown f_peelCount f_planCount f_nextStamp a_values a_before a_kinds a_strengths a_constants a_termCounts a_termVars a_termSigns a_termModes a_variableMasks a_outputMasks a_users a_makers a_ranked a_atStrength a_execIds a_outputs a_feeders a_determiner a_upstream a_walk a_agenda a_peelIds a_peelVars a_plan a_stamps g_n g_m g_planLen g_clock b_cKind b_cStrength b_cK b_cCount b_tVar b_tSign b_tMode b_here b_marked b_out b_inSet b_left b_last b_passed b_was b_member b_val b_old b_known b_plan b_born N M L q h1 h2 h3 h4 h5 h6
  have II : i_Rel (k + 4) (f_draftId, f_editId, f_firstStay, f_n, f_m, f_allVariables, f_nextStamp, f_live, f_liveCount, f_marked, f_draftOpen, f_enforced, f_execCount, f_walkKnown, f_peelCount, f_planCount, a_values, a_before, a_kinds, a_strengths, a_constants, a_termCounts, a_termVars, a_termSigns, a_termModes, a_variableMasks, a_outputMasks, a_stamps, a_users, a_makers, a_ranked, a_atStrength, a_execIds, a_outputs, a_feeders, a_determiner, a_upstream, a_walk, a_agenda, a_peelIds, a_peelVars, a_plan) (g_n, g_m, g_planLen, g_clock, b_cKind, b_cStrength, b_cK, b_cCount, b_tVar, b_tSign, b_tMode, b_born, b_here, b_marked, b_out, b_inSet, b_left, b_last, b_passed, b_was, b_member, b_val, b_old, b_known, b_plan) := zz_mk (by omega) h2 h3 h4 h5 h6
  rcases h5 with ⟨e1, e2⟩ | ⟨p, hp, e1, e2, _⟩
  · refine br_f (by rw [e1]; decide) ?_
    exact And.intro e2 II
  · refine br_t (by rw [e1]; exact nI_pos' (by omega)) ?_
    exact And.intro (e2.trans e1.symm) II
theorem i_vc_planAt {k : Nat} {u : SX} {v : SY} (I : i_Rel k u v) (hk : k + 4 ≤ 2050) (v1 : Int32) : wpX_planAt (fun r => wpY_planAt (fun r' => r' = r ∧ i_Rel (k + 4) u v) v v1) u v1 := by
  refine zz_el (P := fun u v => wpX_planAt (fun r => wpY_planAt (fun r' => r' = r ∧ i_Rel (k + 4) u v) v v1) u v1) ?_ I
  intro f_draftId f_editId f_firstStay f_n f_m f_allVariables f_live f_liveCount f_marked f_draftOpen f_enforced f_execCount f_walkKnown f_peelCount f_planCount f_nextStamp a_values a_before a_kinds a_strengths a_constants a_termCounts a_termVars a_termSigns a_termModes a_variableMasks a_outputMasks a_users a_makers a_ranked a_atStrength a_execIds a_outputs a_feeders a_determiner a_upstream a_walk a_agenda a_peelIds a_peelVars a_plan a_stamps g_n g_m g_planLen g_clock b_cKind b_cStrength b_cK b_cCount b_tVar b_tSign b_tMode b_here b_marked b_out b_inSet b_left b_last b_passed b_was b_member b_val b_old b_known b_plan b_born N M L q h1 h2 h3 h4 h5 h6
  have II : i_Rel (k + 4) (f_draftId, f_editId, f_firstStay, f_n, f_m, f_allVariables, f_nextStamp, f_live, f_liveCount, f_marked, f_draftOpen, f_enforced, f_execCount, f_walkKnown, f_peelCount, f_planCount, a_values, a_before, a_kinds, a_strengths, a_constants, a_termCounts, a_termVars, a_termSigns, a_termModes, a_variableMasks, a_outputMasks, a_stamps, a_users, a_makers, a_ranked, a_atStrength, a_execIds, a_outputs, a_feeders, a_determiner, a_upstream, a_walk, a_agenda, a_peelIds, a_peelVars, a_plan) (g_n, g_m, g_planLen, g_clock, b_cKind, b_cStrength, b_cK, b_cCount, b_tVar, b_tSign, b_tMode, b_born, b_here, b_marked, b_out, b_inSet, b_left, b_last, b_passed, b_was, b_member, b_val, b_old, b_known, b_plan) := zz_mk (by omega) h2 h3 h4 h5 h6
  rcases h5 with ⟨e1, e2⟩ | ⟨p, hp, e1, e2, h⟩
  · exact br_f (by rw [e1]; decide) (br_f (by rw [e2]; decide) ⟨rfl, II⟩)
  · have a1 : 0 ≤ f_planCount := by rw [e1]; exact nI_pos' (by omega)
    have a2 : 0 ≤ g_planLen := by rw [e2]; exact nI_pos' (by omega)
    rcases pk_ix v1 (n := p) (by omega) with z | z | ⟨j, hj, rfl⟩
    · exact br_t a1 (br_t z (br_t a2 (br_t z ⟨rfl, II⟩)))
    · have n1 : ¬ v1 < f_planCount := by rw [e1]; exact Int32.not_lt.mpr z
      have n2 : ¬ v1 < g_planLen := by rw [e2]; exact Int32.not_lt.mpr z
      exact br_t a1 (br_c (fun y => br_t a2 (br_t y ⟨rfl, II⟩)) (fun y => br_f n1 (br_t a2 (br_f y (br_f n2 ⟨rfl, II⟩)))))
    · have b1 : nI j < f_planCount := by rw [e1]; exact nI_lt hj (by omega)
      have b2 : nI j < g_planLen := by rw [e2]; exact nI_lt hj (by omega)
      have n0 : ¬ nI j < 0 := nI_pos (by omega)
      have vj : vp_in (nI j) 20 := vp_in_nI (by omega) (by omega)
      obtain ⟨c, _, _, ea, eb⟩ := h j hj
      refine br_t a1 (br_f n0 (br_t b1 (And.intro vj (br_t a2 (br_f n0 (br_t b2 (And.intro vj ⟨?_, II⟩)))))))
      rw [nI_clamp (by omega), ea, eb]
end
end
section
/-! the draft, vary, mark -/
theorem i_gt {x : Int32} {a : Nat} (h : nI (a + 1) ≤ x) (ha : a < 1000) : nI a < x ∧ ¬ x ≤ nI a := by
  rw [Int32.le_iff_toInt_le, nI_toInt (by omega)] at h
  rw [Int32.le_iff_toInt_le, Int32.lt_iff_toInt_lt, nI_toInt (by omega)]
  omega
/-- the same record arrays off a -/
def SmR (a : Nat) (kd st K tc tv ts tm kd' st' K' tc' tv' ts' tm' : Nat → Int32) : Prop :=
  ∀ c, c ≠ a → kd' c = kd c ∧ st' c = st c ∧ K' c = K c ∧ tc' c = tc c ∧ ∀ t, t < 4 → tv' (4 * c + t) = tv (4 * c + t) ∧ ts' (4 * c + t) = ts (4 * c + t) ∧ tm' (4 * c + t) = tm (4 * c + t)
theorem rx_same {N : Nat} (hN : N ≤ 10) {tc tv tm vm om u k tc' tv' tm' vm' om' u' k' : Nat → Int32} (R : RX N tc tv tm vm om u k) (R' : RX N tc' tv' tm' vm' om' u' k') {c : Nat} (h1 : tc' c = tc c) (h2 : ∀ t, t < 4 → tv' (4 * c + t) = tv (4 * c + t) ∧ tm' (4 * c + t) = tm (4 * c + t)) (v : Nat) :
    (UX N u c v ↔ UX N u' c v) ∧ (UX N k c v ↔ UX N k' c v) := by
  rw [rx_u hN R, rx_u hN R', rx_k hN R, rx_k hN R', h1]
  have lt4 : c < 32 → ∀ t, t < tn (tc c) → t < 4 := fun hc t ht => by
    obtain ⟨q, hq, e, _⟩ := R c hc
    rw [e, tn_nI (by omega)] at ht
    omega
  constructor
  · constructor
    · rintro ⟨a, b, t, ht, e⟩
      exact ⟨a, b, t, ht, by rw [(h2 t (lt4 a t ht)).1]; exact e⟩
    · rintro ⟨a, b, t, ht, e⟩
      exact ⟨a, b, t, ht, by rw [← (h2 t (lt4 a t ht)).1]; exact e⟩
  · constructor
    · rintro ⟨a, b, t, ht, e, e2⟩
      exact ⟨a, b, t, ht, by rw [(h2 t (lt4 a t ht)).1]; exact e, by rw [(h2 t (lt4 a t ht)).2]; exact e2⟩
    · rintro ⟨a, b, t, ht, e, e2⟩
      exact ⟨a, b, t, ht, by rw [← (h2 t (lt4 a t ht)).1]; exact e, by rw [← (h2 t (lt4 a t ht)).2]; exact e2⟩
theorem ag_same {a : Nat} {kd st K tc tv ts tm kd' st' K' tc' tv' ts' tm' ck cs cK cC tV tS tM ck' cs' cK' cC' tV' tS' tM' : Nat → Int32} (hX : SmR a kd st K tc tv ts tm kd' st' K' tc' tv' ts' tm') (hY : SmR a ck cs cK cC tV tS tM ck' cs' cK' cC' tV' tS' tM') {c : Nat} (hc : c ≠ a) (h4 : tn (tc c) ≤ 4)
    (h : AgR kd st K tc tv ts tm ck cs cK cC tV tS tM c ∧ KdR kd tc tm c) : AgR kd' st' K' tc' tv' ts' tm' ck' cs' cK' cC' tV' tS' tM' c ∧ KdR kd' tc' tm' c := by
  obtain ⟨x1, x2, x3, x4, x5⟩ := hX c hc
  obtain ⟨y1, y2, y3, y4, y5⟩ := hY c hc
  obtain ⟨⟨a1, a2, a3, a4, a5⟩, k1, k2⟩ := h
  refine ⟨⟨by rw [x1, y1]; exact a1, by rw [x2, y2]; exact a2, by rw [x3, y3]; exact a3, by rw [x4, y4]; exact a4, fun t ht => ?_⟩, by rw [x1]; exact k1, fun h t ht e => ?_⟩
  · rw [x4] at ht
    have := x5 t (by omega)
    have := y5 t (by omega)
    have := a5 t ht
    simp_all
  · rw [x4] at ht
    rw [x1] at h
    exact k2 h t ht (by rw [← (x5 t (by omega)).2.2]; exact e)
section
variable {f_draftId f_editId f_firstStay f_n f_m f_allVariables f_live f_liveCount f_marked f_draftOpen f_enforced f_execCount f_walkKnown f_peelCount f_planCount : Int32} {f_nextStamp : Int64} {a_values a_before a_kinds a_strengths a_constants a_termCounts a_termVars a_termSigns a_termModes a_variableMasks a_outputMasks a_users a_makers a_ranked a_atStrength a_execIds a_outputs a_feeders a_determiner a_upstream a_walk a_agenda a_peelIds a_peelVars a_plan : Nat → Int32} {a_stamps : Nat → Int64}
variable {g_n g_m g_planLen : Int32} {g_clock : Int64} {b_cKind b_cStrength b_cK b_cCount b_tVar b_tSign b_tMode b_here b_marked b_out b_inSet b_left b_last b_passed b_was b_member b_val b_old b_known b_plan : Nat → Int32} {b_born : Nat → Int64}
variable {N M L q : Nat} {kd' st' K' tc' tv' ts' tm' vm' om' us' mk' ck' cs' cK' cC' tV' tS' tM' he' : Nat → Int32} {dO' : Int32}
theorem st_tc (S : STR N M L q f_live f_marked f_draftOpen f_liveCount f_nextStamp g_clock a_kinds a_strengths a_constants a_termCounts a_termVars a_termSigns a_termModes a_variableMasks a_outputMasks a_users a_makers a_ranked a_atStrength a_stamps b_cKind b_cStrength b_cK b_cCount b_tVar b_tSign b_tMode b_born b_here b_marked) {c : Nat} (hc : c < 32) : tn (a_termCounts c) ≤ 4 := by
  obtain ⟨q0, hq, e, _⟩ := S.1.1 c hc
  rw [e, tn_nI (by omega)]; exact hq
theorem s_draft (S : STR N M L q f_live f_marked f_draftOpen f_liveCount f_nextStamp g_clock a_kinds a_strengths a_constants a_termCounts a_termVars a_termSigns a_termModes a_variableMasks a_outputMasks a_users a_makers a_ranked a_atStrength a_stamps b_cKind b_cStrength b_cK b_cCount b_tVar b_tSign b_tMode b_born b_here b_marked) (hN : N ≤ 10) (hM : M ≤ 20) (R' : RX N tc' tv' tm' vm' om' us' mk') (hX : SmR 20 a_kinds a_strengths a_constants a_termCounts a_termVars a_termSigns a_termModes kd' st' K' tc' tv' ts' tm') (hY : SmR 20 b_cKind b_cStrength b_cK b_cCount b_tVar b_tSign b_tMode ck' cs' cK' cC' tV' tS' tM')
    (hA : AgR kd' st' K' tc' tv' ts' tm' ck' cs' cK' cC' tV' tS' tM' 20) (hK : KdR kd' tc' tm' 20) (hs : ∃ s, s < 7 ∧ st' 20 = nI s) (hC : ∃ q, q ≤ 4 ∧ cC' 20 = nI q) (hd : ¬ dO' = 0) (hh : ∀ c, c ≠ 20 → he' c = b_here c) (h20 : ¬ he' 20 = 0) :
    STR N M L q f_live f_marked dO' f_liveCount f_nextStamp g_clock kd' st' K' tc' tv' ts' tm' vm' om' us' mk' a_ranked a_atStrength a_stamps ck' cs' cK' cC' tV' tS' tM' b_born he' b_marked := by
  obtain ⟨⟨r1, r2, r3, r4, r5, r6⟩, ⟨l1, l2, l3, l4, l5, l6, l7⟩, ⟨k1, k2, k3, k4⟩, ⟨t1, t2⟩, t3⟩ := S
  have l20 : ∀ c, Hb f_live c → c ≠ 20 := fun c h => by have := l1 c h; omega
  have hkey : ∀ c, keyR st' a_stamps c = keyR a_strengths a_stamps c := fun c => key_congr (fun h => (hX c (by omega)).2.1) (fun _ => rfl)
  refine ⟨⟨R', fun c hc => ?_, fun v hv => ?_, fun c hc => ?_, fun c hc => ?_, fun c hc => ?_⟩, ⟨l1, l2, l3, fun c hc => by rw [hh c (by omega)]; exact l4 c hc, ⟨fun h => absurd h h20, fun h => absurd h hd⟩, by rw [hh 21 (by omega)]; exact l6, fun c h1 h2 => by rw [hh c (by omega)]; exact l7 c h1 h2⟩, ⟨k1, k2, k3, fun i j h1 h2 => by rw [hkey, hkey]; exact k4 i j h1 h2⟩, ⟨fun s hs c => ?_, t2⟩, t3⟩
  · rcases Classical.em (c = 20) with z | z
    · subst z; exact ⟨hA, hK⟩
    · have hV : Vd N f_live f_draftOpen c := hc.imp id fun y => y.elim (fun y => absurd y.1 z) Or.inr
      have h32 : c < 32 := by
        rcases hV with h | h | h
        · exact hb_lt h
        · omega
        · omega
      obtain ⟨q0, hq, e, _⟩ := r1 c h32
      exact ag_same hX hY z (by rw [e, tn_nI (by omega)]; exact hq) (r2 c hV)
  · obtain ⟨x1, x2, x3, x4, x5⟩ := hX (22 + v) (by omega)
    obtain ⟨a1, a2, a3, a4, a5⟩ := r3 v hv
    have x50 := x5 0 (by omega)
    rw [Nat.add_zero] at x50
    exact ⟨by rw [x2]; exact a1, by rw [x4]; exact a2, by rw [x50.1]; exact a3, by rw [x50.2.2]; exact a4, by rw [x1]; exact a5⟩
  · rcases Classical.em (c = 20) with z | z
    · subst z; exact hC
    · rw [(hY c z).2.2.2.1]; exact r4 c hc
  · rcases Classical.em (c = 20) with z | z
    · subst z; exact hs
    · rw [(hX c z).2.1]
      exact r5 c (hc.imp id fun y => absurd y.1 z)
  · obtain ⟨v, hv⟩ := r6 c hc
    obtain ⟨_, _, _, x4, x5⟩ := hX c (l20 c hc)
    exact ⟨v, ((rx_same hN r1 R' x4 (fun t ht => ⟨(x5 t ht).1, (x5 t ht).2.2⟩) v).2).mp hv⟩
  · rw [t1 s hs c]
    constructor
    · exact fun h => ⟨h.1, by rw [(hX c (l20 c h.1)).2.1]; exact h.2⟩
    · exact fun h => ⟨h.1, by rw [← (hX c (l20 c h.1)).2.1]; exact h.2⟩
theorem e_draft (S : STR N M L q f_live f_marked f_draftOpen f_liveCount f_nextStamp g_clock a_kinds a_strengths a_constants a_termCounts a_termVars a_termSigns a_termModes a_variableMasks a_outputMasks a_users a_makers a_ranked a_atStrength a_stamps b_cKind b_cStrength b_cK b_cCount b_tVar b_tSign b_tMode b_born b_here b_marked) (E : EPR N f_live f_enforced f_execCount f_walkKnown a_strengths a_stamps a_users a_makers a_execIds a_outputs a_feeders a_determiner a_upstream a_walk b_out) (hN : N ≤ 10) (hM : M ≤ 20) (R' : RX N tc' tv' tm' vm' om' us' mk') (hX : SmR 20 a_kinds a_strengths a_constants a_termCounts a_termVars a_termSigns a_termModes kd' st' K' tc' tv' ts' tm') : EPR N f_live f_enforced f_execCount f_walkKnown st' a_stamps us' mk' a_execIds a_outputs a_feeders a_determiner a_upstream a_walk b_out := by
  have l20 : ∀ c, Hb f_live c → c < 20 := fun c h => by have := S.2.1.1 c h; omega
  have d20 : ∀ c, DX N f_live c → c ≠ 20 := fun c h => h.elim (fun y => by have := l20 c y; omega) fun y => by omega
  have rs : ∀ c v, DX N f_live c → (UX N a_users c v ↔ UX N us' c v) ∧ (UX N a_makers c v ↔ UX N mk' c v) := fun c v hc => by
    obtain ⟨_, _, _, x4, x5⟩ := hX c (d20 c hc)
    exact rx_same hN S.1.1 R' x4 (fun t ht => ⟨(x5 t ht).1, (x5 t ht).2.2⟩) v
  exact ep_congr l20 E (fun c v hc => (rs c v hc).1) (fun c v hc => (rs c v hc).2) (fun c hc => (hX c (by have := l20 c hc; omega)).2.1) (fun _ _ => rfl)
theorem i_vc_begin {k : Nat} {u : SX} {v : SY} (I : i_Rel k u v) (hk : k + 4 ≤ 2050) (v1 : Int32) (v2 : Int32) : wpX_begin (fun r u' => wpY_begin (fun r' v' => r' = r ∧ i_Rel (k + 4) u' v') v v1 v2) u v1 v2 := by
  refine zz_el (P := fun u v => wpX_begin (fun r u' => wpY_begin (fun r' v' => r' = r ∧ i_Rel (k + 4) u' v') v v1 v2) u v1 v2) ?_ I
  intro f_draftId f_editId f_firstStay f_n f_m f_allVariables f_live f_liveCount f_marked f_draftOpen f_enforced f_execCount f_walkKnown f_peelCount f_planCount f_nextStamp a_values a_before a_kinds a_strengths a_constants a_termCounts a_termVars a_termSigns a_termModes a_variableMasks a_outputMasks a_users a_makers a_ranked a_atStrength a_execIds a_outputs a_feeders a_determiner a_upstream a_walk a_agenda a_peelIds a_peelVars a_plan a_stamps g_n g_m g_planLen g_clock b_cKind b_cStrength b_cK b_cCount b_tVar b_tSign b_tMode b_here b_marked b_out b_inSet b_left b_last b_passed b_was b_member b_val b_old b_known b_plan b_born N M L q h1 h2 h3 h4 h5 h6
  have II : i_Rel (k + 4) (f_draftId, f_editId, f_firstStay, f_n, f_m, f_allVariables, f_nextStamp, f_live, f_liveCount, f_marked, f_draftOpen, f_enforced, f_execCount, f_walkKnown, f_peelCount, f_planCount, a_values, a_before, a_kinds, a_strengths, a_constants, a_termCounts, a_termVars, a_termSigns, a_termModes, a_variableMasks, a_outputMasks, a_stamps, a_users, a_makers, a_ranked, a_atStrength, a_execIds, a_outputs, a_feeders, a_determiner, a_upstream, a_walk, a_agenda, a_peelIds, a_peelVars, a_plan) (g_n, g_m, g_planLen, g_clock, b_cKind, b_cStrength, b_cK, b_cCount, b_tVar, b_tSign, b_tMode, b_born, b_here, b_marked, b_out, b_inSet, b_left, b_last, b_passed, b_was, b_member, b_val, b_old, b_known, b_plan) := zz_mk (by omega) h2 h3 h4 h5 h6
  have DD := h2
  obtain ⟨hn, hN2, hN, hm, hM2, hM, hall, gn, gm⟩ := h2
  rcases pk_ix v1 (n := 5) (by omega) with z | z | ⟨a, ha, rfl⟩
  · exact br_t z (br_t z ⟨rfl, II⟩)
  · obtain ⟨z1, z2⟩ := i_gt z (by omega)
    refine br_c (fun y => br_t y ⟨rfl, II⟩) (fun y => br_f z2 (br_f y (br_t z1 ⟨rfl, II⟩)))
  · have n0 : ¬ nI a < 0 := nI_pos (by omega)
    have le4 : nI a ≤ 4 := nI_le (b := 4) (by omega) (by decide)
    have n4 : ¬ 4 < nI a := nI_nlt (a := 4) (by omega) (by decide)
    rcases pk_ix v2 (n := 7) (by omega) with z | z | ⟨s, hs, rfl⟩
    · refine br_f n0 (br_t le4 ?_)
      refine xs_str_f _ (Or.inl z) ?_
      exact br_t rfl (br_f n0 (br_f n4 (br_t z ⟨rfl, II⟩)))
    · obtain ⟨z1, z2⟩ := i_gt z (by omega)
      refine br_f n0 (br_t le4 ?_)
      refine xs_str_f _ (Or.inr z) ?_
      exact br_t rfl (br_f n0 (br_f n4 (br_c (fun y => ⟨rfl, II⟩) (fun y => br_f z2 ⟨rfl, II⟩))))
    · refine br_f n0 (br_t le4 ?_)
      refine xs_str_t _ hs ?_
      refine br_f (by decide) ?_
      refine xs_open (c := 20) hn hN _ (by omega) _ _ _ fun us' mk' hu hm' => ?_
      have R' := rx_clear h3.1.1 hu hm'
      have hX : SmR 20 a_kinds a_strengths a_constants a_termCounts a_termVars a_termSigns a_termModes (upd a_kinds 20 (nI a)) (upd a_strengths 20 (nI s)) (upd a_constants 20 0) (upd a_termCounts 20 0) a_termVars a_termSigns a_termModes := fun c hc => ⟨pk_un hc, pk_un hc, pk_un hc, pk_un hc, fun t _ => ⟨rfl, rfl, rfl⟩⟩
      have hY : SmR 20 b_cKind b_cStrength b_cK b_cCount b_tVar b_tSign b_tMode (upd b_cKind 20 (nI a)) (upd b_cStrength 20 (nI s)) (upd b_cK 20 0) (upd b_cCount 20 0) b_tVar b_tSign b_tMode := fun c hc => ⟨pk_un hc, pk_un hc, pk_un hc, pk_un hc, fun t _ => ⟨rfl, rfl, rfl⟩⟩
      have t0 : tn (upd a_termCounts 20 0 20) = 0 := by rw [pk_us]; rfl
      have hkd : nI a = 0 ∨ nI a = 1 ∨ nI a = 2 ∨ nI a = 3 ∨ nI a = 4 := by
        have : a = 0 ∨ a = 1 ∨ a = 2 ∨ a = 3 ∨ a = 4 := by omega
        rcases this with e | e | e | e | e <;> subst e
        · exact Or.inl rfl
        · exact Or.inr (Or.inl rfl)
        · exact Or.inr (Or.inr (Or.inl rfl))
        · exact Or.inr (Or.inr (Or.inr (Or.inl rfl)))
        · exact Or.inr (Or.inr (Or.inr (Or.inr rfl)))
      have S' := s_draft (dO' := 1) (he' := upd b_here 20 1) h3 hN hM R' hX hY ⟨by rw [pk_us, pk_us], by rw [pk_us, pk_us], by rw [pk_us, pk_us], by rw [pk_us, pk_us], fun t ht => by rw [t0] at ht; omega⟩ ⟨by rw [pk_us]; exact hkd, fun _ t ht => by rw [t0] at ht; omega⟩ ⟨s, hs, pk_us⟩ ⟨0, by omega, pk_us⟩ (by decide) (fun c hc => pk_un hc) (by rw [pk_us]; decide)
      have E' := e_draft h3 h4 hN hM R' hX
      refine br_f n0 (br_f n4 (br_f (nI_pos (by omega)) (br_t (nI_le (b := 6) (by omega) (by decide)) (nm_e (nm_e (nm_e (nm_e (nm_r (e' := upd b_here 20 1) (by rw [vb1]) ⟨rfl, ?_⟩))))))))
      exact zz_mk (by omega) DD S' E' h5 h6
theorem i_vc_constant {k : Nat} {u : SX} {v : SY} (I : i_Rel k u v) (hk : k + 4 ≤ 2050) (v1 : Int32) : wpX_constant (fun r u' => wpY_constant (fun r' v' => r' = r ∧ i_Rel (k + 4) u' v') v v1) u v1 := by
  refine zz_el (P := fun u v => wpX_constant (fun r u' => wpY_constant (fun r' v' => r' = r ∧ i_Rel (k + 4) u' v') v v1) u v1) ?_ I
  intro f_draftId f_editId f_firstStay f_n f_m f_allVariables f_live f_liveCount f_marked f_draftOpen f_enforced f_execCount f_walkKnown f_peelCount f_planCount f_nextStamp a_values a_before a_kinds a_strengths a_constants a_termCounts a_termVars a_termSigns a_termModes a_variableMasks a_outputMasks a_users a_makers a_ranked a_atStrength a_execIds a_outputs a_feeders a_determiner a_upstream a_walk a_agenda a_peelIds a_peelVars a_plan a_stamps g_n g_m g_planLen g_clock b_cKind b_cStrength b_cK b_cCount b_tVar b_tSign b_tMode b_here b_marked b_out b_inSet b_left b_last b_passed b_was b_member b_val b_old b_known b_plan b_born N M L q h1 h2 h3 h4 h5 h6
  have II : i_Rel (k + 4) (f_draftId, f_editId, f_firstStay, f_n, f_m, f_allVariables, f_nextStamp, f_live, f_liveCount, f_marked, f_draftOpen, f_enforced, f_execCount, f_walkKnown, f_peelCount, f_planCount, a_values, a_before, a_kinds, a_strengths, a_constants, a_termCounts, a_termVars, a_termSigns, a_termModes, a_variableMasks, a_outputMasks, a_stamps, a_users, a_makers, a_ranked, a_atStrength, a_execIds, a_outputs, a_feeders, a_determiner, a_upstream, a_walk, a_agenda, a_peelIds, a_peelVars, a_plan) (g_n, g_m, g_planLen, g_clock, b_cKind, b_cStrength, b_cK, b_cCount, b_tVar, b_tSign, b_tMode, b_born, b_here, b_marked, b_out, b_inSet, b_left, b_last, b_passed, b_was, b_member, b_val, b_old, b_known, b_plan) := zz_mk (by omega) h2 h3 h4 h5 h6
  have DD := h2
  obtain ⟨hn, hN2, hN, hm, hM2, hM, hall, gn, gm⟩ := h2
  have hh := h3.2.1.2.2.2.2.1
  refine br_c (fun z => br_t (hh.mpr z) ⟨rfl, II⟩) (fun z => ?_)
  have hV : Vd N f_live f_draftOpen 20 := Or.inr (Or.inl ⟨rfl, z⟩)
  obtain ⟨⟨e1, e2, e3, e4, e5⟩, hK⟩ := h3.1.2.1 20 hV
  have zy : ¬ b_here 20 = 0 := fun y => z (hh.mp y)
  refine br_c (fun y => br_f zy (br_t (by rw [← e1]; exact y) ⟨rfl, II⟩)) (fun y => nm_e (br_f zy (br_f (by rw [← e1]; exact y) (nm_e ⟨rfl, ?_⟩))))
  have hX : SmR 20 a_kinds a_strengths a_constants a_termCounts a_termVars a_termSigns a_termModes a_kinds a_strengths (upd a_constants 20 v1) a_termCounts a_termVars a_termSigns a_termModes := fun c hc => ⟨rfl, rfl, pk_un hc, rfl, fun t _ => ⟨rfl, rfl, rfl⟩⟩
  have hY : SmR 20 b_cKind b_cStrength b_cK b_cCount b_tVar b_tSign b_tMode b_cKind b_cStrength (upd b_cK 20 v1) b_cCount b_tVar b_tSign b_tMode := fun c hc => ⟨rfl, rfl, pk_un hc, rfl, fun t _ => ⟨rfl, rfl, rfl⟩⟩
  have S' := s_draft (dO' := f_draftOpen) (he' := b_here) h3 hN hM h3.1.1 hX hY ⟨e1, e2, by rw [pk_us, pk_us], e4, e5⟩ hK (h3.1.2.2.2.2.1 20 (Or.inr ⟨rfl, z⟩)) (h3.1.2.2.2.1 20 (by omega)) z (fun _ _ => rfl) zy
  exact zz_mk (by omega) DD S' h4 h5 h6
theorem i_vc_vary {k : Nat} {u : SX} {v : SY} (I : i_Rel k u v) (hk : k + 4 ≤ 2050) (v1 : Int32) (v2 : Int32) : wpX_vary (fun r u' => wpY_vary (fun r' v' => r' = r ∧ i_Rel (k + 4) u' v') v v1 v2) u v1 v2 := by
  refine zz_el (P := fun u v => wpX_vary (fun r u' => wpY_vary (fun r' v' => r' = r ∧ i_Rel (k + 4) u' v') v v1 v2) u v1 v2) ?_ I
  intro f_draftId f_editId f_firstStay f_n f_m f_allVariables f_live f_liveCount f_marked f_draftOpen f_enforced f_execCount f_walkKnown f_peelCount f_planCount f_nextStamp a_values a_before a_kinds a_strengths a_constants a_termCounts a_termVars a_termSigns a_termModes a_variableMasks a_outputMasks a_users a_makers a_ranked a_atStrength a_execIds a_outputs a_feeders a_determiner a_upstream a_walk a_agenda a_peelIds a_peelVars a_plan a_stamps g_n g_m g_planLen g_clock b_cKind b_cStrength b_cK b_cCount b_tVar b_tSign b_tMode b_here b_marked b_out b_inSet b_left b_last b_passed b_was b_member b_val b_old b_known b_plan b_born N M L q h1 h2 h3 h4 h5 h6
  have II : i_Rel (k + 4) (f_draftId, f_editId, f_firstStay, f_n, f_m, f_allVariables, f_nextStamp, f_live, f_liveCount, f_marked, f_draftOpen, f_enforced, f_execCount, f_walkKnown, f_peelCount, f_planCount, a_values, a_before, a_kinds, a_strengths, a_constants, a_termCounts, a_termVars, a_termSigns, a_termModes, a_variableMasks, a_outputMasks, a_stamps, a_users, a_makers, a_ranked, a_atStrength, a_execIds, a_outputs, a_feeders, a_determiner, a_upstream, a_walk, a_agenda, a_peelIds, a_peelVars, a_plan) (g_n, g_m, g_planLen, g_clock, b_cKind, b_cStrength, b_cK, b_cCount, b_tVar, b_tSign, b_tMode, b_born, b_here, b_marked, b_out, b_inSet, b_left, b_last, b_passed, b_was, b_member, b_val, b_old, b_known, b_plan) := zz_mk (by omega) h2 h3 h4 h5 h6
  have DD := h2
  obtain ⟨hn, hN2, hN, hm, hM2, hM, hall, gn, gm⟩ := h2
  unfold wpX_vary wpY_vary
  rcases lv_case M hM f_live v1 with z | ⟨c, hc, rfl, hl⟩
  · refine xs_live_f hm hM _ z ?_
    refine br_t rfl ?_
    refine ys_live_f gm hM _ h3 z ?_
    exact br_t rfl ⟨rfl, II⟩
  · have vi : vp_in (nI c) 32 := vp_in_nI (by omega) (by omega)
    have ec : (nI c).toNatClampNeg = c := nI_clamp (by omega)
    have he := st_here h3 hM hc hl
    obtain ⟨⟨e1, e2, e3, e4, e5⟩, hK⟩ := h3.1.2.1 c (Or.inl hl)
    refine xs_live_t hm hM _ hc hl ?_
    refine br_f (by decide) ?_
    refine And.intro vi ?_
    rw [ec]
    refine br_c (fun y => ?_) (fun y => ?_)
    · refine ys_live_t gm hM _ hc he ?_
      refine br_f (by decide) ?_
      refine And.intro vi ?_
      exact br_t (by rw [← e1]; exact y) ⟨rfl, II⟩
    · refine And.intro vi ?_
      refine nm_e ?_
      refine ys_live_t gm hM _ hc he ?_
      refine br_f (by decide) ?_
      refine And.intro vi ?_
      refine br_f (by rw [← e1]; exact y) (And.intro vi (nm_e ⟨rfl, ?_⟩))
      have S' : STR N M L q f_live f_marked f_draftOpen f_liveCount f_nextStamp g_clock a_kinds a_strengths (upd a_constants c v2) a_termCounts a_termVars a_termSigns a_termModes a_variableMasks a_outputMasks a_users a_makers a_ranked a_atStrength a_stamps b_cKind b_cStrength (upd b_cK c v2) b_cCount b_tVar b_tSign b_tMode b_born b_here b_marked := by
        obtain ⟨⟨r1, r2, r3⟩, r4⟩ := h3
        refine ⟨⟨r1, fun d hd => ?_, r3⟩, r4⟩
        obtain ⟨⟨a1, a2, a3, a4, a5⟩, a6⟩ := r2 d hd
        refine ⟨⟨a1, a2, ?_, a4, a5⟩, a6⟩
        rcases Classical.em (d = c) with z | z
        · subst z; rw [pk_us, pk_us]
        · rw [pk_un z, pk_un z]; exact a3
      exact zz_mk (by omega) DD S' h4 h5 h6
end
end
section
/-! term, mark -/
def BadT (kd q sg md : Int32) : Prop := (¬ kd = 1 ∧ sg = -1) ∨ (kd = 0 ∧ md = 0) ∨ ((kd = 3 ∨ kd = 4) ∧ ((q = 0 ∧ md = 0) ∨ (¬ q = 0 ∧ md = 1)))
theorem le0 {q : Nat} (hq : q ≤ 4) : nI q ≤ 0 ↔ nI q = 0 := by
  constructor
  · intro h
    rcases Nat.eq_zero_or_pos q with z | z
    · subst z; rfl
    · exact absurd h (nI_nle z (by omega))
  · intro h; rw [h]; exact Int32.le_refl _
theorem br_or {c d A B : Prop} (h : c ∨ d) (a : A) : (c → A) ∧ (¬ c → (d → A) ∧ (¬ d → B)) := ⟨fun _ => a, fun z => ⟨fun _ => a, fun y => absurd h (fun h => h.elim z y)⟩⟩
theorem br_nor {c d A B : Prop} (h : ¬ (c ∨ d)) (b : B) : (c → A) ∧ (¬ c → (d → A) ∧ (¬ d → B)) := ⟨fun z => absurd (Or.inl z) h, fun _ => ⟨fun y => absurd (Or.inr y) h, fun _ => b⟩⟩
section
variable {f_draftId f_editId f_firstStay f_n f_m f_allVariables f_live f_liveCount f_marked f_draftOpen f_enforced f_execCount f_walkKnown f_peelCount f_planCount : Int32} {f_nextStamp : Int64} {a_values a_before a_kinds a_strengths a_constants a_termCounts a_termVars a_termSigns a_termModes a_variableMasks a_outputMasks a_users a_makers a_ranked a_atStrength a_execIds a_outputs a_feeders a_determiner a_upstream a_walk a_agenda a_peelIds a_peelVars a_plan : Nat → Int32} {a_stamps : Nat → Int64}
variable {g_n g_m g_planLen : Int32} {g_clock : Int64} {b_cKind b_cStrength b_cK b_cCount b_tVar b_tSign b_tMode b_here b_marked b_out b_inSet b_left b_last b_passed b_was b_member b_val b_old b_known b_plan : Nat → Int32} {b_born : Nat → Int64}
variable {N M L q q0 : Nat}
theorem xt_46 (post : Int32 → SX → Prop) {x1 x2 x3 : Int32} (hq : q0 ≤ 4) (e : a_termCounts 20 = nI q0) (HB : BadT (a_kinds 20) (nI q0) x2 x3 → post (-2) (f_draftId, f_editId, f_firstStay, f_n, f_m, f_allVariables, f_nextStamp, f_live, f_liveCount, f_marked, f_draftOpen, f_enforced, f_execCount, f_walkKnown, f_peelCount, f_planCount, a_values, a_before, a_kinds, a_strengths, a_constants, a_termCounts, a_termVars, a_termSigns, a_termModes, a_variableMasks, a_outputMasks, a_stamps, a_users, a_makers, a_ranked, a_atStrength, a_execIds, a_outputs, a_feeders, a_determiner, a_upstream, a_walk, a_agenda, a_peelIds, a_peelVars, a_plan)) (HG : ¬ BadT (a_kinds 20) (nI q0) x2 x3 → wX_term_127 post x1 x2 x3 (a_kinds 20) (nI q0) f_draftId f_editId f_firstStay f_n f_m f_allVariables f_nextStamp f_live f_liveCount f_marked f_draftOpen f_enforced f_execCount f_walkKnown f_peelCount f_planCount a_values a_before a_kinds a_strengths a_constants a_termCounts a_termVars a_termSigns a_termModes a_variableMasks a_outputMasks a_stamps a_users a_makers a_ranked a_atStrength a_execIds a_outputs a_feeders a_determiner a_upstream a_walk a_agenda a_peelIds a_peelVars a_plan) : wX_term_46 post x1 x2 x3 f_draftId f_editId f_firstStay f_n f_m f_allVariables f_nextStamp f_live f_liveCount f_marked f_draftOpen f_enforced f_execCount f_walkKnown f_peelCount f_planCount a_values a_before a_kinds a_strengths a_constants a_termCounts a_termVars a_termSigns a_termModes a_variableMasks a_outputMasks a_stamps a_users a_makers a_ranked a_atStrength a_execIds a_outputs a_feeders a_determiner a_upstream a_walk a_agenda a_peelIds a_peelVars a_plan := by
  refine nm_e (nm_r e ?_)
  have h90 : ¬ (¬ a_kinds 20 = 1 ∧ x2 = -1) → ¬ (a_kinds 20 = 0 ∧ x3 = 0) → wX_term_90 post x1 x2 x3 (a_kinds 20) (nI q0) f_draftId f_editId f_firstStay f_n f_m f_allVariables f_nextStamp f_live f_liveCount f_marked f_draftOpen f_enforced f_execCount f_walkKnown f_peelCount f_planCount a_values a_before a_kinds a_strengths a_constants a_termCounts a_termVars a_termSigns a_termModes a_variableMasks a_outputMasks a_stamps a_users a_makers a_ranked a_atStrength a_execIds a_outputs a_feeders a_determiner a_upstream a_walk a_agenda a_peelIds a_peelVars a_plan := by
    intro n1 n2
    have h102 : (a_kinds 20 = 3 ∨ a_kinds 20 = 4) → wX_term_102 post x1 x2 x3 (a_kinds 20) (nI q0) f_draftId f_editId f_firstStay f_n f_m f_allVariables f_nextStamp f_live f_liveCount f_marked f_draftOpen f_enforced f_execCount f_walkKnown f_peelCount f_planCount a_values a_before a_kinds a_strengths a_constants a_termCounts a_termVars a_termSigns a_termModes a_variableMasks a_outputMasks a_stamps a_users a_makers a_ranked a_atStrength a_execIds a_outputs a_feeders a_determiner a_upstream a_walk a_agenda a_peelIds a_peelVars a_plan := by
      intro h34
      have h114 : ¬ (nI q0 = 0 ∧ x3 = 0) → wX_term_114 post x1 x2 x3 (a_kinds 20) (nI q0) f_draftId f_editId f_firstStay f_n f_m f_allVariables f_nextStamp f_live f_liveCount f_marked f_draftOpen f_enforced f_execCount f_walkKnown f_peelCount f_planCount a_values a_before a_kinds a_strengths a_constants a_termCounts a_termVars a_termSigns a_termModes a_variableMasks a_outputMasks a_stamps a_users a_makers a_ranked a_atStrength a_execIds a_outputs a_feeders a_determiner a_upstream a_walk a_agenda a_peelIds a_peelVars a_plan := by
        intro n3
        refine br_c (fun z => HG fun h => ?_) (fun z => br_c (fun y => HB (Or.inr (Or.inr ⟨h34, Or.inr ⟨fun q => z ((le0 hq).mpr q), y⟩⟩))) (fun y => HG fun h => ?_))
        · rcases h with h | h | ⟨_, h | h⟩
          · exact n1 h
          · exact n2 h
          · exact n3 h
          · exact h.1 ((le0 hq).mp z)
        · rcases h with h | h | ⟨_, h | h⟩
          · exact n1 h
          · exact n2 h
          · exact n3 h
          · exact y h.2
      exact br_c (fun z => br_c (fun y => HB (Or.inr (Or.inr ⟨h34, Or.inl ⟨z, y⟩⟩))) (fun y => h114 fun h => y h.2)) (fun z => h114 fun h => z h.1)
    refine br_c (fun z => h102 (Or.inl z)) (fun z => br_c (fun y => h102 (Or.inr y)) (fun y => HG fun h => ?_))
    rcases h with h | h | ⟨h | h, _⟩
    · exact n1 h
    · exact n2 h
    · exact z h
    · exact y h
  have h78 : ¬ (¬ a_kinds 20 = 1 ∧ x2 = -1) → wX_term_78 post x1 x2 x3 (a_kinds 20) (nI q0) f_draftId f_editId f_firstStay f_n f_m f_allVariables f_nextStamp f_live f_liveCount f_marked f_draftOpen f_enforced f_execCount f_walkKnown f_peelCount f_planCount a_values a_before a_kinds a_strengths a_constants a_termCounts a_termVars a_termSigns a_termModes a_variableMasks a_outputMasks a_stamps a_users a_makers a_ranked a_atStrength a_execIds a_outputs a_feeders a_determiner a_upstream a_walk a_agenda a_peelIds a_peelVars a_plan := fun n1 =>
    br_c (fun z => br_c (fun y => HB (Or.inr (Or.inl ⟨z, y⟩))) (fun y => h90 n1 fun h => y h.2)) (fun z => h90 n1 fun h => z h.1)
  exact br_c (fun z => h78 fun h => h.1 z) (fun z => br_c (fun y => HB (Or.inl ⟨z, y⟩)) (fun y => h78 fun h => y h.2))
theorem yt_65 (post : Int32 → SY → Prop) {x1 x2 x3 x4 : Int32} (hq : q0 ≤ 4) (HB : BadT x4 (nI q0) x2 x3 → post (-2) (g_n, g_m, g_planLen, g_clock, b_cKind, b_cStrength, b_cK, b_cCount, b_tVar, b_tSign, b_tMode, b_born, b_here, b_marked, b_out, b_inSet, b_left, b_last, b_passed, b_was, b_member, b_val, b_old, b_known, b_plan)) (HG : ¬ BadT x4 (nI q0) x2 x3 → wY_term_120 post x1 x2 x3 x4 (nI q0) g_n g_m g_planLen g_clock b_cKind b_cStrength b_cK b_cCount b_tVar b_tSign b_tMode b_born b_here b_marked b_out b_inSet b_left b_last b_passed b_was b_member b_val b_old b_known b_plan) : wY_term_65 post x1 x2 x3 x4 (nI q0) g_n g_m g_planLen g_clock b_cKind b_cStrength b_cK b_cCount b_tVar b_tSign b_tMode b_born b_here b_marked b_out b_inSet b_left b_last b_passed b_was b_member b_val b_old b_known b_plan := by
  have h88 : ¬ (¬ x4 = 1 ∧ x2 = -1) → ¬ (x4 = 0 ∧ x3 = 0) → wY_term_88 post x1 x2 x3 x4 (nI q0) g_n g_m g_planLen g_clock b_cKind b_cStrength b_cK b_cCount b_tVar b_tSign b_tMode b_born b_here b_marked b_out b_inSet b_left b_last b_passed b_was b_member b_val b_old b_known b_plan := by
    intro n1 n2
    have h100 : (x4 = 3 ∨ x4 = 4) → wY_term_100 post x1 x2 x3 x4 (nI q0) g_n g_m g_planLen g_clock b_cKind b_cStrength b_cK b_cCount b_tVar b_tSign b_tMode b_born b_here b_marked b_out b_inSet b_left b_last b_passed b_was b_member b_val b_old b_known b_plan := by
      intro h34
      refine br_c (fun z => br_c (fun y => HB (Or.inr (Or.inr ⟨h34, Or.inl ⟨z, y⟩⟩))) (fun y => HG fun h => ?_)) (fun z => br_c (fun y => HB (Or.inr (Or.inr ⟨h34, Or.inr ⟨z, y⟩⟩))) (fun y => HG fun h => ?_))
      · rcases h with h | h | ⟨_, h | h⟩
        · exact n1 h
        · exact n2 h
        · exact y h.2
        · exact h.1 z
      · rcases h with h | h | ⟨_, h | h⟩
        · exact n1 h
        · exact n2 h
        · exact z h.1
        · exact y h.2
    refine br_c (fun z => h100 (Or.inl z)) (fun z => br_c (fun y => h100 (Or.inr y)) (fun y => HG fun h => ?_))
    rcases h with h | h | ⟨h | h, _⟩
    · exact n1 h
    · exact n2 h
    · exact z h
    · exact y h
  have h76 : ¬ (¬ x4 = 1 ∧ x2 = -1) → wY_term_76 post x1 x2 x3 x4 (nI q0) g_n g_m g_planLen g_clock b_cKind b_cStrength b_cK b_cCount b_tVar b_tSign b_tMode b_born b_here b_marked b_out b_inSet b_left b_last b_passed b_was b_member b_val b_old b_known b_plan := fun n1 =>
    br_c (fun z => br_c (fun y => HB (Or.inr (Or.inl ⟨z, y⟩))) (fun y => h88 n1 fun h => y h.2)) (fun z => h88 n1 fun h => z h.1)
  exact br_c (fun z => h76 fun h => h.1 z) (fun z => br_c (fun y => HB (Or.inl ⟨z, y⟩)) (fun y => h76 fun h => y h.2))
theorem i_vc_term {k : Nat} {u : SX} {v : SY} (I : i_Rel k u v) (hk : k + 4 ≤ 2050) (v1 : Int32) (v2 : Int32) (v3 : Int32) : wpX_term (fun r u' => wpY_term (fun r' v' => r' = r ∧ i_Rel (k + 4) u' v') v v1 v2 v3) u v1 v2 v3 := by
  refine zz_el (P := fun u v => wpX_term (fun r u' => wpY_term (fun r' v' => r' = r ∧ i_Rel (k + 4) u' v') v v1 v2 v3) u v1 v2 v3) ?_ I
  intro f_draftId f_editId f_firstStay f_n f_m f_allVariables f_live f_liveCount f_marked f_draftOpen f_enforced f_execCount f_walkKnown f_peelCount f_planCount f_nextStamp a_values a_before a_kinds a_strengths a_constants a_termCounts a_termVars a_termSigns a_termModes a_variableMasks a_outputMasks a_users a_makers a_ranked a_atStrength a_execIds a_outputs a_feeders a_determiner a_upstream a_walk a_agenda a_peelIds a_peelVars a_plan a_stamps g_n g_m g_planLen g_clock b_cKind b_cStrength b_cK b_cCount b_tVar b_tSign b_tMode b_here b_marked b_out b_inSet b_left b_last b_passed b_was b_member b_val b_old b_known b_plan b_born N M L q h1 h2 h3 h4 h5 h6
  have II : i_Rel (k + 4) (f_draftId, f_editId, f_firstStay, f_n, f_m, f_allVariables, f_nextStamp, f_live, f_liveCount, f_marked, f_draftOpen, f_enforced, f_execCount, f_walkKnown, f_peelCount, f_planCount, a_values, a_before, a_kinds, a_strengths, a_constants, a_termCounts, a_termVars, a_termSigns, a_termModes, a_variableMasks, a_outputMasks, a_stamps, a_users, a_makers, a_ranked, a_atStrength, a_execIds, a_outputs, a_feeders, a_determiner, a_upstream, a_walk, a_agenda, a_peelIds, a_peelVars, a_plan) (g_n, g_m, g_planLen, g_clock, b_cKind, b_cStrength, b_cK, b_cCount, b_tVar, b_tSign, b_tMode, b_born, b_here, b_marked, b_out, b_inSet, b_left, b_last, b_passed, b_was, b_member, b_val, b_old, b_known, b_plan) := zz_mk (by omega) h2 h3 h4 h5 h6
  have DD := h2
  obtain ⟨hn, hN2, hN, hm, hM2, hM, hall, gn, gm⟩ := h2
  have hh := h3.2.1.2.2.2.2.1
  unfold wpX_term
  refine br_c (fun z => br_t (hh.mpr z) ⟨rfl, II⟩) (fun z => ?_)
  have zy : ¬ b_here 20 = 0 := fun y => z (hh.mp y)
  have hV : Vd N f_live f_draftOpen 20 := Or.inr (Or.inl ⟨rfl, z⟩)
  obtain ⟨⟨e1, e2, e3, e4, e5⟩, hK⟩ := h3.1.2.1 20 hV
  obtain ⟨q0, hq0, eq0, hv0, hd0, _, _, hvm, _⟩ := h3.1.1 20 (by omega)
  have eqt : tn (a_termCounts 20) = q0 := by rw [eq0]; exact tn_nI (by omega)
  rw [eqt] at e5
  have eY : b_cCount 20 = nI q0 := by rw [← e4]; exact eq0
  rcases pk_ix v1 (n := N) (by omega) with y | y | ⟨w, hw, rfl⟩
  · refine xs_var_f hn _ (Or.inl y) ?_
    refine br_t rfl ?_
    exact br_f zy (nm_e (nm_e (br_t y ⟨rfl, II⟩)))
  · refine xs_var_f hn _ (Or.inr y) ?_
    refine br_t rfl ?_
    exact br_f zy (nm_e (nm_e (br_c (fun _ => ⟨rfl, II⟩) (fun _ => br_t (by rw [gn]; exact y) ⟨rfl, II⟩))))
  have w0 : ¬ nI w < 0 := nI_pos (by omega)
  have wN : ¬ g_n ≤ nI w := by rw [gn]; exact nI_ge hw (by omega)
  refine xs_var_t hn hN _ hw ?_
  refine br_f (by decide) ?_
  rcases Classical.em (v2 = 1 ∨ v2 = -1) with s | s
  case inr => exact br_nor s (br_f zy (nm_e (nm_e (br_f w0 (br_f wN (br_nor s ⟨rfl, II⟩))))))
  refine br_or s ?_
  rcases Classical.em (v3 = 0 ∨ v3 = 1) with m | m
  case inr => exact br_nor m (br_f zy (nm_e (nm_e (br_f w0 (br_f wN (br_or s (br_nor m ⟨rfl, II⟩)))))))
  refine br_or m ?_
  have y65 : ∀ post', wY_term_65 post' (nI w) v2 v3 (a_kinds 20) (nI q0) g_n g_m g_planLen g_clock b_cKind b_cStrength b_cK b_cCount b_tVar b_tSign b_tMode b_born b_here b_marked b_out b_inSet b_left b_last b_passed b_was b_member b_val b_old b_known b_plan → wpY_term post' (g_n, g_m, g_planLen, g_clock, b_cKind, b_cStrength, b_cK, b_cCount, b_tVar, b_tSign, b_tMode, b_born, b_here, b_marked, b_out, b_inSet, b_left, b_last, b_passed, b_was, b_member, b_val, b_old, b_known, b_plan) (nI w) v2 v3 := fun post' H =>
    br_f zy (nm_r (e' := a_kinds 20) e1.symm (nm_r eY (br_f w0 (br_f wN (br_or s (br_or m H))))))
  refine xt_46 _ hq0 eq0 (fun hb => y65 _ (yt_65 _ hq0 (fun _ => ⟨rfl, II⟩) (fun hg => absurd hb hg))) (fun hg => ?_)
  have y120 : ∀ post', wY_term_120 post' (nI w) v2 v3 (a_kinds 20) (nI q0) g_n g_m g_planLen g_clock b_cKind b_cStrength b_cK b_cCount b_tVar b_tSign b_tMode b_born b_here b_marked b_out b_inSet b_left b_last b_passed b_was b_member b_val b_old b_known b_plan → wpY_term post' (g_n, g_m, g_planLen, g_clock, b_cKind, b_cStrength, b_cK, b_cCount, b_tVar, b_tSign, b_tMode, b_born, b_here, b_marked, b_out, b_inSet, b_left, b_last, b_passed, b_was, b_member, b_val, b_old, b_known, b_plan) (nI w) v2 v3 := fun post' H => y65 _ (yt_65 _ hq0 (fun hb => absurd hb hg) (fun _ => H))
  refine br_c (fun d => ?_) (fun d => ?_)
  case refine_2 =>
    rw [hb_t (by omega), Classical.not_not] at d
    obtain ⟨_, t, ht, et⟩ := (hvm w).mp d
    refine y120 _ ?_
    refine ys_termOf (c := 20) _ (by omega) eY hq0 (fun t' ht' _ _ => ?_) (fun h => absurd ((e5 t ht).1.symm.trans et) (h t ht))
    exact br_f (nI_pos (by omega)) ⟨rfl, II⟩
  rw [hb_t (by omega)] at d
  have hnew : ∀ t, t < q0 → a_termVars (4 * 20 + t) ≠ nI w := fun t ht e => d ((hvm w).mpr ⟨hw, t, ht, e⟩)
  have go : ∀ lim : Nat, lim ≤ 4 → (∀ post', wY_term_145 post' (nI w) v2 v3 (nI q0) (nI lim) (nI q0) g_n g_m g_planLen g_clock b_cKind b_cStrength b_cK b_cCount b_tVar b_tSign b_tMode b_born b_here b_marked b_out b_inSet b_left b_last b_passed b_was b_member b_val b_old b_known b_plan → wY_term_120 post' (nI w) v2 v3 (a_kinds 20) (nI q0) g_n g_m g_planLen g_clock b_cKind b_cStrength b_cK b_cCount b_tVar b_tSign b_tMode b_born b_here b_marked b_out b_inSet b_left b_last b_passed b_was b_member b_val b_old b_known b_plan) →
      wX_term_155 (fun r u' => wpY_term (fun r' v' => r' = r ∧ i_Rel (k + 4) u' v') (g_n, g_m, g_planLen, g_clock, b_cKind, b_cStrength, b_cK, b_cCount, b_tVar, b_tSign, b_tMode, b_born, b_here, b_marked, b_out, b_inSet, b_left, b_last, b_passed, b_was, b_member, b_val, b_old, b_known, b_plan) (nI w) v2 v3) (nI w) v2 v3 (nI q0) (nI lim) f_draftId f_editId f_firstStay f_n f_m f_allVariables f_nextStamp f_live f_liveCount f_marked f_draftOpen f_enforced f_execCount f_walkKnown f_peelCount f_planCount a_values a_before a_kinds a_strengths a_constants a_termCounts a_termVars a_termSigns a_termModes a_variableMasks a_outputMasks a_stamps a_users a_makers a_ranked a_atStrength a_execIds a_outputs a_feeders a_determiner a_upstream a_walk a_agenda a_peelIds a_peelVars a_plan := by
    intro lim hlim y145
    refine pk_lt q0 lim (fun hlt => ?_) (fun hge => ?_) rfl rfl (by omega) (by omega)
    · have hq4 : q0 < 4 := by omega
      refine xs_add (c := 20) hN _ (by omega) hq4 eq0 hw v2 v3 fun us' mk' vm' om' hu hk' hvm' hom' => ?_
      have R' := rx_add h3.1.1 (by omega) hq4 hN eq0 hw hnew hu hk' hvm' hom'
      have e8 : 80 + nI q0 = nI (80 + q0) := nI_add 80 q0
      have c8 : (nI (80 + q0)).toNatClampNeg = 80 + q0 := nI_clamp (by omega)
      have v8 : vp_in (nI (80 + q0)) 128 := vp_in_nI (by omega) (by omega)
      have hX : SmR 20 a_kinds a_strengths a_constants a_termCounts a_termVars a_termSigns a_termModes a_kinds a_strengths a_constants (upd a_termCounts 20 (nI (q0 + 1))) (upd a_termVars (4 * 20 + q0) (nI w)) (upd a_termSigns (4 * 20 + q0) v2) (upd a_termModes (4 * 20 + q0) v3) := fun c hc => ⟨rfl, rfl, rfl, pk_un hc, fun t ht => ⟨pk_un (by omega), pk_un (by omega), pk_un (by omega)⟩⟩
      have hY : SmR 20 b_cKind b_cStrength b_cK b_cCount b_tVar b_tSign b_tMode b_cKind b_cStrength b_cK (upd b_cCount 20 (nI (q0 + 1))) (upd b_tVar (80 + q0) (nI w)) (upd b_tSign (80 + q0) v2) (upd b_tMode (80 + q0) v3) := fun c hc => ⟨rfl, rfl, rfl, pk_un hc, fun t ht => ⟨pk_un (by omega), pk_un (by omega), pk_un (by omega)⟩⟩
      have eq1 : tn (upd a_termCounts 20 (nI (q0 + 1)) 20) = q0 + 1 := by rw [pk_us]; exact tn_nI (by omega)
      have S' := s_draft (dO' := f_draftOpen) (he' := b_here) h3 hN hM R' hX hY ⟨e1, e2, e3, by rw [pk_us, pk_us], fun t ht => ?_⟩ ⟨hK.1, fun h34 t ht et => ?_⟩ (h3.1.2.2.2.2.1 20 (Or.inr ⟨rfl, z⟩)) ⟨q0 + 1, by omega, pk_us⟩ z (fun _ _ => rfl) zy
      · have E' := e_draft h3 h4 hN hM R' hX
        refine y120 _ (y145 _ (br_t (nI_lt hlt (by omega)) ?_))
        rw [e8]
        refine And.intro v8 (nm_r (e' := upd b_tVar (80 + q0) (nI w)) (by rw [c8]) (And.intro v8 (nm_r (e' := upd b_tSign (80 + q0) v2) (by rw [c8]) (And.intro v8 (nm_r (e' := upd b_tMode (80 + q0) v3) (by rw [c8]) (nm_r (e' := upd b_cCount 20 (nI (q0 + 1))) (by rw [nI_1]) ⟨?_, ?_⟩))))))
        · rw [pk_us, nI_1]
        · exact zz_mk (by omega) DD S' E' h5 h6
      · rw [eq1] at ht
        rcases Nat.lt_or_ge t q0 with y | y
        · rw [pk_un (by omega), pk_un (by omega), pk_un (by omega), pk_un (by omega), pk_un (by omega), pk_un (by omega)]
          exact e5 t y
        · have : t = q0 := by omega
          subst this
          exact ⟨pk_us.trans pk_us.symm, pk_us.trans pk_us.symm, pk_us.trans pk_us.symm⟩
      · rw [eq1] at ht
        rcases Nat.lt_or_ge t q0 with y | y
        · rw [pk_un (by omega)] at et
          exact hK.2 h34 t (by rw [eqt]; exact y) et
        · have : t = q0 := by omega
          subst this
          rw [pk_us] at et
          refine Classical.byContradiction fun hne => hg (Or.inr (Or.inr ⟨h34, Or.inr ⟨nI_ne0 (by omega) (by omega), et⟩⟩))
    · refine y120 _ (y145 _ (br_f (nI_nlt hge (by omega)) ⟨rfl, II⟩))
  have tail : ∀ lim : Nat, (∀ post', wY_term_145 post' (nI w) v2 v3 (nI q0) (nI lim) (nI q0) g_n g_m g_planLen g_clock b_cKind b_cStrength b_cK b_cCount b_tVar b_tSign b_tMode b_born b_here b_marked b_out b_inSet b_left b_last b_passed b_was b_member b_val b_old b_known b_plan → (a_kinds 20 = 0 → wY_term_145 post' (nI w) v2 v3 (nI q0) 1 (nI q0) g_n g_m g_planLen g_clock b_cKind b_cStrength b_cK b_cCount b_tVar b_tSign b_tMode b_born b_here b_marked b_out b_inSet b_left b_last b_passed b_was b_member b_val b_old b_known b_plan) ∧ (¬ a_kinds 20 = 0 → wY_term_145 post' (nI w) v2 v3 (nI q0) 4 (nI q0) g_n g_m g_planLen g_clock b_cKind b_cStrength b_cK b_cCount b_tVar b_tSign b_tMode b_born b_here b_marked b_out b_inSet b_left b_last b_passed b_was b_member b_val b_old b_known b_plan)) → ∀ post', wY_term_145 post' (nI w) v2 v3 (nI q0) (nI lim) (nI q0) g_n g_m g_planLen g_clock b_cKind b_cStrength b_cK b_cCount b_tVar b_tSign b_tMode b_born b_here b_marked b_out b_inSet b_left b_last b_passed b_was b_member b_val b_old b_known b_plan → wY_term_120 post' (nI w) v2 v3 (a_kinds 20) (nI q0) g_n g_m g_planLen g_clock b_cKind b_cStrength b_cK b_cCount b_tVar b_tSign b_tMode b_born b_here b_marked b_out b_inSet b_left b_last b_passed b_was b_member b_val b_old b_known b_plan := by
    intro lim hl post' H
    refine ys_termOf (c := 20) _ (by omega) eY hq0 (fun t ht et _ => absurd ((e5 t ht).1.trans et) (hnew t ht)) (fun h => ?_)
    exact br_t (by decide) (hl post' H)
  exact br_c (fun k0 => go 1 (by omega) (tail 1 fun post' H => br_t k0 H)) (fun k0 => go 4 (by omega) (tail 4 fun post' H => br_f k0 H))
end
end
section
/-! mark, field -/
section
variable {f_draftId f_editId f_firstStay f_n f_m f_allVariables f_live f_liveCount f_marked f_draftOpen f_enforced f_execCount f_walkKnown f_peelCount f_planCount : Int32} {f_nextStamp : Int64} {a_values a_before a_kinds a_strengths a_constants a_termCounts a_termVars a_termSigns a_termModes a_variableMasks a_outputMasks a_users a_makers a_ranked a_atStrength a_execIds a_outputs a_feeders a_determiner a_upstream a_walk a_agenda a_peelIds a_peelVars a_plan : Nat → Int32} {a_stamps : Nat → Int64}
variable {g_n g_m g_planLen : Int32} {g_clock : Int64} {b_cKind b_cStrength b_cK b_cCount b_tVar b_tSign b_tMode b_here b_marked b_out b_inSet b_left b_last b_passed b_was b_member b_val b_old b_known b_plan : Nat → Int32} {b_born : Nat → Int64}
variable {N M L q : Nat}
theorem yl_mark (gm : g_m = nI M) (hM : M ≤ 20) (post : Int32 → SY → Prop) (H : post (nI (cn (fun d => ¬ b_here d = 0 ∧ ¬ b_marked d = 0) M)) (g_n, g_m, g_planLen, g_clock, b_cKind, b_cStrength, b_cK, b_cCount, b_tVar, b_tSign, b_tMode, b_born, b_here, b_marked, b_out, b_inSet, b_left, b_last, b_passed, b_was, b_member, b_val, b_old, b_known, b_plan)) :
    ∀ d i fuel, i + d = M → d < fuel → wY_mark_31 post g_n g_m g_planLen g_clock b_cKind b_cStrength b_cK b_cCount b_tVar b_tSign b_tMode b_born b_here b_marked b_out b_inSet b_left b_last b_passed b_was b_member b_val b_old b_known b_plan fuel (nI (cn (fun d => ¬ b_here d = 0 ∧ ¬ b_marked d = 0) i)) (nI i) := by
  intro d
  induction d with
  | zero =>
    intro i fuel hi hf
    have e : i = M := by omega
    subst e
    cases fuel with
    | zero => omega
    | succ fuel => exact br_t (by rw [gm]; exact Int32.le_refl _) H
  | succ d ih =>
    intro i fuel hi hf
    cases fuel with
    | zero => omega
    | succ fuel =>
      have nx := ih (i + 1) fuel (by omega) (by omega)
      rw [cn_s] at nx
      have vi : vp_in (nI i) 32 := vp_in_nI (by omega) (by omega)
      have ei : (nI i).toNatClampNeg = i := nI_clamp (by omega)
      refine pk_le M i (fun h => absurd h (by omega)) (fun _ => And.intro vi (br_c (fun z => nm_r (nI_1 i) ?_) (fun z => And.intro vi (br_c (fun y => nm_r (nI_1 i) ?_) (fun y => nm_r (nI_1 _) (nm_r (nI_1 i) ?_)))))) gm rfl (by omega) (by omega)
      · rw [ei] at z
        rw [b01_f (fun h => h.1 z)] at nx; exact nx
      · rw [ei] at y
        rw [b01_f (fun h => h.2 y)] at nx; exact nx
      · rw [ei] at z y
        rw [b01_t ⟨z, y⟩] at nx; exact nx
theorem i_vc_mark {k : Nat} {u : SX} {v : SY} (I : i_Rel k u v) (hk : k + 4 ≤ 2050) (v1 : Int32) (v2 : Int32) : wpX_mark (fun r u' => wpY_mark (fun r' v' => r' = r ∧ i_Rel (k + 4) u' v') v v1 v2) u v1 v2 := by
  refine zz_el (P := fun u v => wpX_mark (fun r u' => wpY_mark (fun r' v' => r' = r ∧ i_Rel (k + 4) u' v') v v1 v2) u v1 v2) ?_ I
  intro f_draftId f_editId f_firstStay f_n f_m f_allVariables f_live f_liveCount f_marked f_draftOpen f_enforced f_execCount f_walkKnown f_peelCount f_planCount f_nextStamp a_values a_before a_kinds a_strengths a_constants a_termCounts a_termVars a_termSigns a_termModes a_variableMasks a_outputMasks a_users a_makers a_ranked a_atStrength a_execIds a_outputs a_feeders a_determiner a_upstream a_walk a_agenda a_peelIds a_peelVars a_plan a_stamps g_n g_m g_planLen g_clock b_cKind b_cStrength b_cK b_cCount b_tVar b_tSign b_tMode b_here b_marked b_out b_inSet b_left b_last b_passed b_was b_member b_val b_old b_known b_plan b_born N M L q h1 h2 h3 h4 h5 h6
  have II : i_Rel (k + 4) (f_draftId, f_editId, f_firstStay, f_n, f_m, f_allVariables, f_nextStamp, f_live, f_liveCount, f_marked, f_draftOpen, f_enforced, f_execCount, f_walkKnown, f_peelCount, f_planCount, a_values, a_before, a_kinds, a_strengths, a_constants, a_termCounts, a_termVars, a_termSigns, a_termModes, a_variableMasks, a_outputMasks, a_stamps, a_users, a_makers, a_ranked, a_atStrength, a_execIds, a_outputs, a_feeders, a_determiner, a_upstream, a_walk, a_agenda, a_peelIds, a_peelVars, a_plan) (g_n, g_m, g_planLen, g_clock, b_cKind, b_cStrength, b_cK, b_cCount, b_tVar, b_tSign, b_tMode, b_born, b_here, b_marked, b_out, b_inSet, b_left, b_last, b_passed, b_was, b_member, b_val, b_old, b_known, b_plan) := zz_mk (by omega) h2 h3 h4 h5 h6
  have DD := h2
  obtain ⟨hn, hN2, hN, hm, hM2, hM, hall, gn, gm⟩ := h2
  unfold wpX_mark wpY_mark
  rcases lv_case M hM f_live v1 with z | ⟨c, hc, rfl, hl⟩
  · refine xs_live_f hm hM _ z ?_
    refine br_t rfl ?_
    refine ys_live_f gm hM _ h3 z ?_
    exact br_t rfl ⟨rfl, II⟩
  have vi : vp_in (nI c) 32 := vp_in_nI (by omega) (by omega)
  have ec : (nI c).toNatClampNeg = c := nI_clamp (by omega)
  have he := st_here h3 hM hc hl
  -- the state with c marked as asked
  have fin : ∀ (mk' : Int32) (y : Int32), (∀ d, Hb mk' d ↔ (d ≠ c ∧ Hb f_marked d) ∨ (d = c ∧ ¬ y = 0)) → nI (cn (fun d => ¬ b_here d = 0 ∧ ¬ upd b_marked c y d = 0) M) = nI (pcn mk') ∧ i_Rel (k + 4) (f_draftId, f_editId, f_firstStay, f_n, f_m, f_allVariables, f_nextStamp, f_live, f_liveCount, mk', f_draftOpen, f_enforced, f_execCount, f_walkKnown, f_peelCount, f_planCount, a_values, a_before, a_kinds, a_strengths, a_constants, a_termCounts, a_termVars, a_termSigns, a_termModes, a_variableMasks, a_outputMasks, a_stamps, a_users, a_makers, a_ranked, a_atStrength, a_execIds, a_outputs, a_feeders, a_determiner, a_upstream, a_walk, a_agenda, a_peelIds, a_peelVars, a_plan) (g_n, g_m, g_planLen, g_clock, b_cKind, b_cStrength, b_cK, b_cCount, b_tVar, b_tSign, b_tMode, b_born, b_here, upd b_marked c y, b_out, b_inSet, b_left, b_last, b_passed, b_was, b_member, b_val, b_old, b_known, b_plan) := by
    intro mk' y hmk
    obtain ⟨r, ⟨l1, l2, l3, l4, l5⟩, r3⟩ := h3
    have l2' : ∀ d, Hb mk' d → Hb f_live d := fun d hd => ((hmk d).mp hd).elim (fun z => l2 d z.2) fun z => z.1 ▸ hl
    have l3' : ∀ d, Hb f_live d → (Hb mk' d ↔ ¬ upd b_marked c y d = 0) := fun d hd => by
      rw [hmk d]
      rcases Classical.em (d = c) with z | z
      · subst z
        rw [pk_us]
        exact ⟨fun h => h.elim (fun h => absurd rfl h.1) fun h => h.2, fun h => Or.inr ⟨rfl, h⟩⟩
      · rw [pk_un z, ← l3 d hd]
        exact ⟨fun h => h.elim (fun h => h.2) fun h => absurd h.1 z, fun h => Or.inl ⟨z, h⟩⟩
    refine ⟨?_, zz_mk (by omega) DD ⟨r, ⟨l1, l2', l3', l4, l5⟩, r3⟩ h4 h5 h6⟩
    have : pcn mk' = cn (Hb mk') M := cn_ext (by omega) fun d h1 _ h => by have := l1 d (l2' d h); omega
    rw [this]
    apply congrArg nI
    apply cn_eq
    intro d hd
    rw [l4 d (by omega)]
    exact ⟨fun h => (l3' d h.1).mpr h.2, fun h => ⟨l2' d h, (l3' d (l2' d h)).mp h⟩⟩
  refine xs_live_t hm hM _ hc hl ?_
  refine br_f (by decide) ?_
  refine br_c (fun z => nm_e ?_) (fun z => nm_e ?_)
  · refine xs_size _ _ ?_
    refine ys_live_t gm hM _ hc he ?_
    refine br_f (by decide) ?_
    refine br_t z ?_
    refine And.intro vi ?_
    refine nm_r (e' := upd b_marked c 0) (by rw [ec, vb0]) ?_
    refine Exists.intro (M + 1) ?_
    refine yl_mark gm hM _ ?_ M 0 (M + 1) (by omega) (by omega)
    refine fin _ 0 fun d => ?_
    rw [hb_andn, hb_one (by omega)]
    exact ⟨fun h => Or.inl ⟨h.2, h.1⟩, fun h => h.elim (fun h => ⟨h.2, h.1⟩) fun h => absurd rfl h.2⟩
  · refine xs_size _ _ ?_
    refine ys_live_t gm hM _ hc he ?_
    refine br_f (by decide) ?_
    refine br_f z ?_
    refine And.intro vi ?_
    refine nm_r (e' := upd b_marked c 1) (by rw [ec, vb1]) ?_
    refine Exists.intro (M + 1) ?_
    refine yl_mark gm hM _ ?_ M 0 (M + 1) (by omega) (by omega)
    refine fin _ 1 fun d => ?_
    rw [hb_or, hb_one (by omega)]
    constructor
    · rintro (h | h)
      · rcases Classical.em (d = c) with y | y
        · exact Or.inr ⟨y, by decide⟩
        · exact Or.inl ⟨y, h⟩
      · exact Or.inr ⟨h, by decide⟩
    · rintro (h | h)
      · exact Or.inl h.2
      · exact Or.inr h.1
theorem xl_older (hL : f_liveCount = nI L) (hL20 : L ≤ 20) {rk sN : Nat → Nat} {c : Nat} (hc : c < 32) (hrk : ∀ j, j < L → rk j < 32 ∧ a_ranked j = nI (rk j)) (hs : ∀ j, j < L → sN (rk j) < 65536 ∧ a_stamps (rk j) = lN (sN (rk j))) (hsc : sN c < 65536 ∧ a_stamps c = lN (sN c))
    (post : Int32 → Prop) (H : post (nI (cn (fun i => sN (rk i) < sN c) L))) : ∀ d i fuel, i + d = L → d < fuel → wX_countOlder_4 post (nI c) f_draftId f_editId f_firstStay f_n f_m f_allVariables f_nextStamp f_live f_liveCount f_marked f_draftOpen f_enforced f_execCount f_walkKnown f_peelCount f_planCount a_values a_before a_kinds a_strengths a_constants a_termCounts a_termVars a_termSigns a_termModes a_variableMasks a_outputMasks a_stamps a_users a_makers a_ranked a_atStrength a_execIds a_outputs a_feeders a_determiner a_upstream a_walk a_agenda a_peelIds a_peelVars a_plan fuel (nI (cn (fun i => sN (rk i) < sN c) i)) (nI i) := by
  have ec : (nI c).toNatClampNeg = c := nI_clamp (by omega)
  intro d
  induction d with
  | zero =>
    intro i fuel hi hf
    have e : i = L := by omega
    subst e
    cases fuel with
    | zero => omega
    | succ fuel => exact br_t (by rw [hL]; exact Int32.le_refl _) H
  | succ d ih =>
    intro i fuel hi hf
    cases fuel with
    | zero => omega
    | succ fuel =>
      have nx := ih (i + 1) fuel (by omega) (by omega)
      rw [cn_s] at nx
      obtain ⟨h32, er⟩ := hrk i (by omega)
      obtain ⟨hb, eb⟩ := hs i (by omega)
      refine pk_le L i (fun h => absurd h (by omega)) (fun _ => And.intro (vp_in_nI (by omega) (by omega)) ?_) hL rfl (by omega) (by omega)
      rw [nI_clamp (n := i) (by omega), er]
      refine And.intro (vp_in_nI h32 (by omega)) (And.intro (vp_in_nI hc (by omega)) ?_)
      rw [ec, nI_clamp (n := rk i) (by omega), eb, hsc.2]
      refine br_c (fun z => nm_r (nI_1 i) ?_) (fun z => nm_r (nI_1 _) (nm_r (nI_1 i) ?_))
      · rw [pk_lLE (by omega) (by omega)] at z
        rw [b01_f (by omega)] at nx; exact nx
      · rw [pk_lLE (by omega) (by omega)] at z
        rw [b01_t (by omega)] at nx; exact nx
theorem yl_older (gm : g_m = nI M) (hM : M ≤ 20) {sN : Nat → Nat} {c : Nat} (hc : c < 32) (hs : ∀ d, d < M → ¬ b_here d = 0 → sN d < 65536 ∧ b_born d = lN (sN d)) (hsc : sN c < 65536 ∧ b_born c = lN (sN c))
    (post : Int32 → Prop) (H : post (nI (cn (fun d => ¬ b_here d = 0 ∧ sN d < sN c) M))) : ∀ d i fuel, i + d = M → d < fuel → wY_field_147 post (nI c) g_n g_m g_planLen g_clock b_cKind b_cStrength b_cK b_cCount b_tVar b_tSign b_tMode b_born b_here b_marked b_out b_inSet b_left b_last b_passed b_was b_member b_val b_old b_known b_plan fuel (nI (cn (fun d => ¬ b_here d = 0 ∧ sN d < sN c) i)) (nI i) := by
  have ec : (nI c).toNatClampNeg = c := nI_clamp (by omega)
  intro d
  induction d with
  | zero =>
    intro i fuel hi hf
    have e : i = M := by omega
    subst e
    cases fuel with
    | zero => omega
    | succ fuel => exact br_t (by rw [gm]; exact Int32.le_refl _) H
  | succ d ih =>
    intro i fuel hi hf
    cases fuel with
    | zero => omega
    | succ fuel =>
      have nx := ih (i + 1) fuel (by omega) (by omega)
      rw [cn_s] at nx
      have vi : vp_in (nI i) 32 := vp_in_nI (by omega) (by omega)
      have ei : (nI i).toNatClampNeg = i := nI_clamp (by omega)
      refine pk_le M i (fun h => absurd h (by omega)) (fun _ => And.intro vi (br_c (fun z => nm_r (nI_1 i) ?_) (fun z => And.intro vi (And.intro (vp_in_nI hc (by omega)) ?_)))) gm rfl (by omega) (by omega)
      · rw [ei] at z
        rw [b01_f (fun h => h.1 z)] at nx; exact nx
      · rw [ei] at z
        obtain ⟨hb, eb⟩ := hs i (by omega) z
        rw [ei, ec, eb, hsc.2]
        refine br_c (fun y => nm_r (nI_1 i) ?_) (fun y => nm_r (nI_1 _) (nm_r (nI_1 i) ?_))
        · rw [pk_lLE (by omega) (by omega)] at y
          rw [b01_f (fun h => by have := h.2; omega)] at nx; exact nx
        · rw [pk_lLE (by omega) (by omega)] at y
          rw [b01_t ⟨z, by omega⟩] at nx; exact nx
theorem st_L (S : STR N M L q f_live f_marked f_draftOpen f_liveCount f_nextStamp g_clock a_kinds a_strengths a_constants a_termCounts a_termVars a_termSigns a_termModes a_variableMasks a_outputMasks a_users a_makers a_ranked a_atStrength a_stamps b_cKind b_cStrength b_cK b_cCount b_tVar b_tSign b_tMode b_born b_here b_marked) (hM : M ≤ 20) : L ≤ M := by
  obtain ⟨_, k2, _, k4⟩ := S.2.2.1
  refine pg_in (f := fun i => tn (a_ranked i)) (fun i hi => S.2.1.1 _ (k2 i hi).1) (fun i j hij hj e => ?_)
  have e' : tn (a_ranked i) = tn (a_ranked j) := e
  have := k4 i j hij hj
  rw [e'] at this
  omega
theorem field_r (S : STR N M L q f_live f_marked f_draftOpen f_liveCount f_nextStamp g_clock a_kinds a_strengths a_constants a_termCounts a_termVars a_termSigns a_termModes a_variableMasks a_outputMasks a_users a_makers a_ranked a_atStrength a_stamps b_cKind b_cStrength b_cK b_cCount b_tVar b_tSign b_tMode b_born b_here b_marked) (hN : N ≤ 10) (hM : M ≤ 20) (hq : q ≤ 2050) (gm : g_m = nI M) {c w : Nat} (hc : Vd N f_live f_draftOpen c) (hw : w < 18) (h16 : 16 ≤ w → Hb f_live c) :
    ∃ r : Int32, (∀ post : Int32 → Prop, post r → wX_field_68 post (nI w) (nI c) f_draftId f_editId f_firstStay f_n f_m f_allVariables f_nextStamp f_live f_liveCount f_marked f_draftOpen f_enforced f_execCount f_walkKnown f_peelCount f_planCount a_values a_before a_kinds a_strengths a_constants a_termCounts a_termVars a_termSigns a_termModes a_variableMasks a_outputMasks a_stamps a_users a_makers a_ranked a_atStrength a_execIds a_outputs a_feeders a_determiner a_upstream a_walk a_agenda a_peelIds a_peelVars a_plan) ∧ (∀ post : Int32 → Prop, post r → wY_field_66 post (nI w) (nI c) g_n g_m g_planLen g_clock b_cKind b_cStrength b_cK b_cCount b_tVar b_tSign b_tMode b_born b_here b_marked b_out b_inSet b_left b_last b_passed b_was b_member b_val b_old b_known b_plan) := by
  have c32 := vd_32 S hN hc
  obtain ⟨e1, e2, e3, e4, e5⟩ := (S.1.2.1 c hc).1
  have vi : vp_in (nI c) 32 := vp_in_nI c32 (by omega)
  have ec : (nI c).toNatClampNeg = c := nI_clamp (by omega)
  have ne : ∀ a, a < 18 → w ≠ a → ¬ nI w = nI a := fun a ha h e => h ((nI_eq (by omega) (by omega)).mp e)
  rcases Classical.em (w = 0) with z0 | z0
  · subst z0
    exact ⟨a_kinds c, fun post H => br_t rfl (And.intro vi (by rw [ec]; exact H)), fun post H => br_t rfl (And.intro vi (by rw [ec, ← e1]; exact H))⟩
  rcases Classical.em (w = 1) with z1 | z1
  · subst z1
    exact ⟨a_strengths c, fun post H => br_f (by decide) (br_t rfl (And.intro vi (by rw [ec]; exact H))), fun post H => br_f (by decide) (br_t rfl (And.intro vi (by rw [ec, ← e2]; exact H)))⟩
  rcases Classical.em (w = 2) with z2 | z2
  · subst z2
    exact ⟨a_constants c, fun post H => br_f (by decide) (br_f (by decide) (br_t rfl (And.intro vi (by rw [ec]; exact H)))), fun post H => br_f (by decide) (br_f (by decide) (br_t rfl (And.intro vi (by rw [ec, ← e3]; exact H))))⟩
  rcases Classical.em (w = 3) with z3 | z3
  · subst z3
    exact ⟨a_termCounts c, fun post H => br_f (by decide) (br_f (by decide) (br_f (by decide) (br_t rfl (And.intro vi (by rw [ec]; exact H))))), fun post H => br_f (by decide) (br_f (by decide) (br_f (by decide) (br_t rfl (And.intro vi (by rw [ec, ← e4]; exact H)))))⟩
  rcases Classical.em (w = 16) with z16 | z16
  · subst z16
    have hl := h16 (by omega)
    have hmk := S.2.1.2.2.1 c hl
    have b0 : Hb ((f_marked.toUInt32 >>> ((nI c).toUInt32 &&& Int32.toUInt32 31)).toInt32) 0 ↔ Hb f_marked c := by
      unfold Hb; rw [b_ushr c c32, Nat.add_zero]
    rcases hb_one1 ((f_marked.toUInt32 >>> ((nI c).toUInt32 &&& Int32.toUInt32 31)).toInt32) with ⟨y1, y2⟩ | ⟨y1, y2⟩
    · refine ⟨0, fun post H => br_f (by decide) (br_f (by decide) (br_f (by decide) (br_f (by decide) (br_t rfl (by rw [y1]; exact H))))), fun post H => br_f (by decide) (br_f (by decide) (br_f (by decide) (br_f (by decide) (br_t rfl (And.intro vi (br_t ?_ H))))))⟩
      rw [ec]
      exact Classical.byContradiction fun y => y2 (b0.mpr (hmk.mpr y))
    · refine ⟨1, fun post H => br_f (by decide) (br_f (by decide) (br_f (by decide) (br_f (by decide) (br_t rfl (by rw [y1]; exact H))))), fun post H => br_f (by decide) (br_f (by decide) (br_f (by decide) (br_f (by decide) (br_t rfl (And.intro vi (br_f ?_ H))))))⟩
      rw [ec]
      exact hmk.mp (b0.mp y2)
  rcases Classical.em (w = 17) with z17 | z17
  · subst z17
    have hl := h16 (by omega)
    have hLM := st_L S hM
    obtain ⟨k1, k2, k3, k4⟩ := S.2.2.1
    have sm := S.2.2.2.2.2.2.1
    have hsX : ∀ d, Hb f_live d → ln (a_stamps d) < 65536 ∧ a_stamps d = lN (ln (a_stamps d)) ∧ b_born d = lN (ln (a_stamps d)) := fun d hd => by
      obtain ⟨b, hb, eb, eb'⟩ := sm d hd
      rw [eb, ln_lN (by omega)]
      exact ⟨by omega, rfl, eb'⟩
    have hcn : cn (fun i => ln (a_stamps (tn (a_ranked i))) < ln (a_stamps c)) L = cn (fun d => ¬ b_here d = 0 ∧ ln (a_stamps d) < ln (a_stamps c)) M := by
      rw [cn_bij (rk := fun i => tn (a_ranked i)) (M := M) (P := fun d => ln (a_stamps d) < ln (a_stamps c)) L (fun i hi => S.2.1.1 _ (k2 i hi).1) (fun i j hij hj e => by have e' : tn (a_ranked i) = tn (a_ranked j) := e; have := k4 i j hij hj; rw [e'] at this; omega)]
      apply cn_eq
      intro d hd
      rw [S.2.1.2.2.2.1 d (by omega)]
      constructor
      · rintro ⟨⟨i, hi, e⟩, h⟩
        have e' : tn (a_ranked i) = d := e
        exact ⟨e' ▸ (k2 i hi).1, h⟩
      · rintro ⟨h, h'⟩
        exact ⟨k3 d h, h'⟩
    refine ⟨nI (cn (fun i => ln (a_stamps (tn (a_ranked i))) < ln (a_stamps c)) L), fun post H => ?_, fun post H => ?_⟩
    · refine br_f (by decide) (br_f (by decide) (br_f (by decide) (br_f (by decide) (br_f (by decide) (br_t rfl ?_)))))
      exact Exists.intro (L + 1) (xl_older (sN := fun d => ln (a_stamps d)) (rk := fun i => tn (a_ranked i)) k1 (by omega) c32 (fun j hj => ⟨hb_lt (k2 j hj).1, (k2 j hj).2⟩) (fun j hj => ⟨(hsX _ (k2 j hj).1).1, (hsX _ (k2 j hj).1).2.1⟩) ⟨(hsX c hl).1, (hsX c hl).2.1⟩ _ H L 0 (L + 1) (by omega) (by omega))
    · rw [hcn] at H
      refine br_f (by decide) (br_f (by decide) (br_f (by decide) (br_f (by decide) (br_f (by decide) (br_t rfl ?_)))))
      exact Exists.intro (M + 1) (yl_older (sN := fun d => ln (a_stamps d)) gm hM c32 (fun d hd h => ⟨(hsX d ((S.2.1.2.2.2.1 d (by omega)).mp h)).1, (hsX d ((S.2.1.2.2.2.1 d (by omega)).mp h)).2.2⟩) ⟨(hsX c hl).1, (hsX c hl).2.2⟩ _ H M 0 (M + 1) (by omega) (by omega))
  -- a term's part
  obtain ⟨q0, hq0, eq0, _⟩ := S.1.1 c c32
  have eqt : tn (a_termCounts c) = q0 := by rw [eq0]; exact tn_nI (by omega)
  rw [eqt] at e5
  have eY : b_cCount c = nI q0 := by rw [← e4]; exact eq0
  have es : nI w - 4 = nI (w - 4) := pk_sub (b := 4) (by omega)
  have ed : nI (w - 4) / 3 = nI ((w - 4) / 3) := pk_div (d := 3) (by omega) (by omega) (by omega)
  have er : nI (w - 4) - nI (w - 4) / 3 * 3 = nI ((w - 4) % 3) := pk_rem (d := 3) (by omega) (by omega) (by omega)
  have n30 : ¬ (3 : Int32) = 0 := by decide
  have hX : ∀ post : Int32 → Prop, wpX_termField post (f_draftId, f_editId, f_firstStay, f_n, f_m, f_allVariables, f_nextStamp, f_live, f_liveCount, f_marked, f_draftOpen, f_enforced, f_execCount, f_walkKnown, f_peelCount, f_planCount, a_values, a_before, a_kinds, a_strengths, a_constants, a_termCounts, a_termVars, a_termSigns, a_termModes, a_variableMasks, a_outputMasks, a_stamps, a_users, a_makers, a_ranked, a_atStrength, a_execIds, a_outputs, a_feeders, a_determiner, a_upstream, a_walk, a_agenda, a_peelIds, a_peelVars, a_plan) (nI c) (nI (w - 4)) → wX_field_68 post (nI w) (nI c) f_draftId f_editId f_firstStay f_n f_m f_allVariables f_nextStamp f_live f_liveCount f_marked f_draftOpen f_enforced f_execCount f_walkKnown f_peelCount f_planCount a_values a_before a_kinds a_strengths a_constants a_termCounts a_termVars a_termSigns a_termModes a_variableMasks a_outputMasks a_stamps a_users a_makers a_ranked a_atStrength a_execIds a_outputs a_feeders a_determiner a_upstream a_walk a_agenda a_peelIds a_peelVars a_plan := fun post H => by
    refine br_f (ne 0 (by omega) z0) (br_f (ne 1 (by omega) z1) (br_f (ne 2 (by omega) z2) (br_f (ne 3 (by omega) z3) (br_f (ne 16 (by omega) z16) (br_f (ne 17 (by omega) z17) ?_)))))
    rw [es]; exact H
  rcases Nat.lt_or_ge ((w - 4) / 3) q0 with y | y
  · have i4 : (nI (4 * c + (w - 4) / 3)).toNatClampNeg = 4 * c + (w - 4) / 3 := nI_clamp (by omega)
    have v4 : vp_in (nI (4 * c + (w - 4) / 3)) 128 := vp_in_nI (by omega) (by omega)
    have hlt : nI ((w - 4) / 3) < nI q0 := nI_lt y (by omega)
    obtain ⟨t1, t2, t3⟩ := e5 _ y
    refine ⟨if (w - 4) % 3 = 0 then a_termVars (4 * c + (w - 4) / 3) else if (w - 4) % 3 = 1 then a_termSigns (4 * c + (w - 4) / 3) else a_termModes (4 * c + (w - 4) / 3), fun post H => hX post ?_, fun post H => ?_⟩
    · refine And.intro n30 (nm_r ed (And.intro n30 (nm_r er (And.intro vi (br_t (by rw [ec, eq0]; exact hlt) (nm_r (ix_x c _) (pk_eq ((w - 4) % 3) 0 (fun p => And.intro v4 ?_) (fun p => pk_eq ((w - 4) % 3) 1 (fun p1 => And.intro v4 ?_) (fun p1 => And.intro v4 ?_) rfl rfl (by omega) (by omega)) rfl rfl (by omega) (by omega))))))))
      · rw [if_pos p] at H; rw [i4]; exact H
      · rw [if_neg p, if_pos p1] at H; rw [i4]; exact H
      · rw [if_neg p, if_neg p1] at H; rw [i4]; exact H
    · refine br_f (ne 0 (by omega) z0) (br_f (ne 1 (by omega) z1) (br_f (ne 2 (by omega) z2) (br_f (ne 3 (by omega) z3) (br_f (ne 16 (by omega) z16) (br_f (ne 17 (by omega) z17) ?_)))))
      rw [es]
      refine And.intro n30 (nm_r ed (And.intro n30 (nm_r er (And.intro vi (br_t (by rw [ec, eY]; exact hlt) ?_)))))
      rw [ix_y, i4]
      refine pk_eq ((w - 4) % 3) 0 (fun p => And.intro v4 ?_) (fun p => pk_eq ((w - 4) % 3) 1 (fun p1 => And.intro v4 ?_) (fun p1 => And.intro v4 ?_) rfl rfl (by omega) (by omega)) rfl rfl (by omega) (by omega)
      · rw [if_pos p] at H; rw [← t1]; exact H
      · rw [if_neg p, if_pos p1] at H; rw [← t2]; exact H
      · rw [if_neg p, if_neg p1] at H; rw [← t3]; exact H
  · have hge : ¬ nI ((w - 4) / 3) < nI q0 := nI_nlt y (by omega)
    refine ⟨-2, fun post H => hX post ?_, fun post H => ?_⟩
    · exact And.intro n30 (nm_r ed (And.intro n30 (nm_r er (And.intro vi (br_f (by rw [ec, eq0]; exact hge) H)))))
    · refine br_f (ne 0 (by omega) z0) (br_f (ne 1 (by omega) z1) (br_f (ne 2 (by omega) z2) (br_f (ne 3 (by omega) z3) (br_f (ne 16 (by omega) z16) (br_f (ne 17 (by omega) z17) ?_)))))
      rw [es]
      exact And.intro n30 (nm_r ed (And.intro n30 (nm_r er (And.intro vi (br_f (by rw [ec, eY]; exact hge) H)))))
theorem i_vc_field {k : Nat} {u : SX} {v : SY} (I : i_Rel k u v) (hk : k + 4 ≤ 2050) (v1 : Int32) (v2 : Int32) : wpX_field (fun r => wpY_field (fun r' => r' = r ∧ i_Rel (k + 4) u v) v v1 v2) u v1 v2 := by
  refine zz_el (P := fun u v => wpX_field (fun r => wpY_field (fun r' => r' = r ∧ i_Rel (k + 4) u v) v v1 v2) u v1 v2) ?_ I
  intro f_draftId f_editId f_firstStay f_n f_m f_allVariables f_live f_liveCount f_marked f_draftOpen f_enforced f_execCount f_walkKnown f_peelCount f_planCount f_nextStamp a_values a_before a_kinds a_strengths a_constants a_termCounts a_termVars a_termSigns a_termModes a_variableMasks a_outputMasks a_users a_makers a_ranked a_atStrength a_execIds a_outputs a_feeders a_determiner a_upstream a_walk a_agenda a_peelIds a_peelVars a_plan a_stamps g_n g_m g_planLen g_clock b_cKind b_cStrength b_cK b_cCount b_tVar b_tSign b_tMode b_here b_marked b_out b_inSet b_left b_last b_passed b_was b_member b_val b_old b_known b_plan b_born N M L q h1 h2 h3 h4 h5 h6
  have II : i_Rel (k + 4) (f_draftId, f_editId, f_firstStay, f_n, f_m, f_allVariables, f_nextStamp, f_live, f_liveCount, f_marked, f_draftOpen, f_enforced, f_execCount, f_walkKnown, f_peelCount, f_planCount, a_values, a_before, a_kinds, a_strengths, a_constants, a_termCounts, a_termVars, a_termSigns, a_termModes, a_variableMasks, a_outputMasks, a_stamps, a_users, a_makers, a_ranked, a_atStrength, a_execIds, a_outputs, a_feeders, a_determiner, a_upstream, a_walk, a_agenda, a_peelIds, a_peelVars, a_plan) (g_n, g_m, g_planLen, g_clock, b_cKind, b_cStrength, b_cK, b_cCount, b_tVar, b_tSign, b_tMode, b_born, b_here, b_marked, b_out, b_inSet, b_left, b_last, b_passed, b_was, b_member, b_val, b_old, b_known, b_plan) := zz_mk (by omega) h2 h3 h4 h5 h6
  obtain ⟨hn, hN2, hN, hm, hM2, hM, hall, gn, gm⟩ := h2
  have hh := h3.2.1.2.2.2.2.1
  rcases Classical.em (v1 = -1) with m1 | m1
  · subst m1
    refine br_t rfl (br_c (fun z => br_t rfl (br_t (hh.mpr z) ⟨rfl, II⟩)) (fun z => ?_))
    have zy : ¬ b_here 20 = 0 := fun y => z (hh.mp y)
    have hV : Vd N f_live f_draftOpen 20 := Or.inr (Or.inl ⟨rfl, z⟩)
    rcases pk_ix v2 (n := 16) (by omega) with y | y | ⟨w, hw, rfl⟩
    · exact br_t rfl (br_t y (br_t rfl (br_f zy (br_t rfl (br_t y ⟨rfl, II⟩)))))
    · obtain ⟨g1, g2⟩ := i_gt y (by omega)
      have nlt : ¬ v2 < 16 := Int32.not_lt.mpr y
      refine br_t rfl (br_c (fun a => br_t rfl (br_f zy (br_t rfl (br_t a ⟨rfl, II⟩)))) (fun a => br_c (fun b => br_t rfl (br_f nlt ?_)) (fun b => ?_)))
      · exact br_t rfl (br_f zy (br_t rfl (br_f a (br_c (fun _ => ⟨rfl, II⟩) (fun _ => br_t rfl (br_f nlt ⟨rfl, II⟩))))))
      · exact br_t rfl (br_f zy (br_t rfl (br_f a (br_c (fun _ => ⟨rfl, II⟩) (fun _ => br_t rfl (br_f nlt ⟨rfl, II⟩))))))
    · obtain ⟨r, hX, hY⟩ := field_r h3 hN hM (by omega) gm hV (w := w) (by omega) (fun h => by omega)
      have n0 : ¬ nI w < 0 := nI_pos (by omega)
      refine br_t rfl (br_f n0 (br_t (nI_le (b := 17) (by omega) (by decide)) (br_t rfl (br_t (nI_lt (b := 16) hw (by decide)) (br_t rfl (hX _ ?_))))))
      exact br_t rfl (br_f zy (br_t rfl (br_f n0 (br_f (nI_nlt (a := 17) (by omega) (by decide)) (br_t rfl (br_t (nI_lt (b := 16) hw (by decide)) (br_t rfl (hY _ ⟨rfl, II⟩))))))))
  · rcases lv_case M hM f_live v1 with z | ⟨c, hc, rfl, hl⟩
    · refine br_f m1 (br_f m1 ?_)
      refine xs_live_f hm hM _ z ?_
      refine br_t rfl (br_f m1 (br_f m1 ?_))
      refine ys_live_f gm hM _ h3 z ?_
      exact br_t rfl ⟨rfl, II⟩
    · have he := st_here h3 hM hc hl
      refine br_f m1 (br_f m1 ?_)
      refine xs_live_t hm hM _ hc hl ?_
      refine br_f (by decide) ?_
      have yw : ∀ post' : Int32 → Prop, wY_field_31 post' (nI c) v2 g_n g_m g_planLen g_clock b_cKind b_cStrength b_cK b_cCount b_tVar b_tSign b_tMode b_born b_here b_marked b_out b_inSet b_left b_last b_passed b_was b_member b_val b_old b_known b_plan → wpY_field post' (g_n, g_m, g_planLen, g_clock, b_cKind, b_cStrength, b_cK, b_cCount, b_tVar, b_tSign, b_tMode, b_born, b_here, b_marked, b_out, b_inSet, b_left, b_last, b_passed, b_was, b_member, b_val, b_old, b_known, b_plan) (nI c) v2 := fun post' H => by
        refine br_f m1 (br_f m1 ?_)
        refine ys_live_t gm hM _ hc he ?_
        exact br_f (by decide) H
      rcases pk_ix v2 (n := 18) (by omega) with y | y | ⟨w, hw, rfl⟩
      · exact br_t y (yw _ (br_t y ⟨rfl, II⟩))
      · obtain ⟨g1, g2⟩ := i_gt y (by omega)
        exact br_c (fun a => yw _ (br_t a ⟨rfl, II⟩)) (fun a => br_f g2 (yw _ (br_f a (br_t g1 ⟨rfl, II⟩))))
      · obtain ⟨r, hX, hY⟩ := field_r h3 hN hM (by omega) gm (Or.inl hl) (w := w) (by omega) (fun h => hl)
        have n0 : ¬ nI w < 0 := nI_pos (by omega)
        refine br_f n0 (br_t (nI_le (b := 17) (by omega) (by decide)) (br_f m1 (br_f m1 (hX _ (yw _ ?_)))))
        exact br_f n0 (br_f (nI_nlt (a := 17) (by omega) (by decide)) (br_f m1 (br_f m1 (hY _ ⟨rfl, II⟩))))
end
end
section
/-! update under the relation; refresh, execute -/
section
variable {f_draftId f_editId f_firstStay f_n f_m f_allVariables f_live f_liveCount f_marked f_draftOpen f_enforced f_execCount f_walkKnown f_peelCount f_planCount : Int32} {f_nextStamp : Int64} {a_values a_before a_kinds a_strengths a_constants a_termCounts a_termVars a_termSigns a_termModes a_variableMasks a_outputMasks a_users a_makers a_ranked a_atStrength a_execIds a_outputs a_feeders a_determiner a_upstream a_walk a_agenda a_peelIds a_peelVars a_plan : Nat → Int32} {a_stamps : Nat → Int64}
variable {g_n g_m g_planLen : Int32} {g_clock : Int64} {b_cKind b_cStrength b_cK b_cCount b_tVar b_tSign b_tMode b_here b_marked b_out b_inSet b_left b_last b_passed b_was b_member b_val b_old b_known b_plan : Nat → Int32} {b_born : Nat → Int64}
variable {N M L q p : Nat}
theorem xr_update (D : DIM N M f_n f_m f_allVariables g_n g_m) (S : STR N M L q f_live f_marked f_draftOpen f_liveCount f_nextStamp g_clock a_kinds a_strengths a_constants a_termCounts a_termVars a_termSigns a_termModes a_variableMasks a_outputMasks a_users a_makers a_ranked a_atStrength a_stamps b_cKind b_cStrength b_cK b_cCount b_tVar b_tSign b_tMode b_born b_here b_marked) (hE : ∀ c, Hb f_enforced c → DX N f_live c) (ep : f_execCount = nI p) (F : FX N (UX N a_users) (UX N a_makers) f_enforced p a_execIds a_outputs a_feeders a_determiner a_upstream) (post : SX → Prop)
    (H : ∀ val, Evl p (fun i => tn (a_execIds i)) (fun i => tn (a_outputs (tn (a_execIds i)))) (dmD a_kinds a_constants a_termCounts a_termVars a_termSigns) a_values val → post (f_draftId, f_editId, f_firstStay, f_n, f_m, f_allVariables, f_nextStamp, f_live, f_liveCount, f_marked, f_draftOpen, f_enforced, f_execCount, f_walkKnown, f_peelCount, f_planCount, val, a_before, a_kinds, a_strengths, a_constants, a_termCounts, a_termVars, a_termSigns, a_termModes, a_variableMasks, a_outputMasks, a_stamps, a_users, a_makers, a_ranked, a_atStrength, a_execIds, a_outputs, a_feeders, a_determiner, a_upstream, a_walk, a_agenda, a_peelIds, a_peelVars, a_plan)) : wpX_update post (f_draftId, f_editId, f_firstStay, f_n, f_m, f_allVariables, f_nextStamp, f_live, f_liveCount, f_marked, f_draftOpen, f_enforced, f_execCount, f_walkKnown, f_peelCount, f_planCount, a_values, a_before, a_kinds, a_strengths, a_constants, a_termCounts, a_termVars, a_termSigns, a_termModes, a_variableMasks, a_outputMasks, a_stamps, a_users, a_makers, a_ranked, a_atStrength, a_execIds, a_outputs, a_feeders, a_determiner, a_upstream, a_walk, a_agenda, a_peelIds, a_peelVars, a_plan) := by
  obtain ⟨hn, hN2, hN, _⟩ := D
  obtain ⟨f1, f2, f3, f4, f5, _⟩ := F
  refine xs_update hn hN S.1.1 post f1 f2 (fun v hv => ?_) ep (fun i hi => ⟨f3 i hi, (f4 _ (f2.1 i hi).1).1⟩) (fun i hi => ev_X S hN (dx_vd (hE _ (f2.1 i hi).1)) (f2.1 i hi).2) H
  obtain ⟨c, hc, e⟩ := f5 v hv
  obtain ⟨i, hi, ei⟩ := f2.2.1 c hc
  exact ⟨i, hi, by show tn (a_outputs (tn (a_execIds i))) = v; rw [show tn (a_execIds i) = c from ei]; exact e⟩
theorem yr_update (D : DIM N M f_n f_m f_allVariables g_n g_m) (S : STR N M L q f_live f_marked f_draftOpen f_liveCount f_nextStamp g_clock a_kinds a_strengths a_constants a_termCounts a_termVars a_termSigns a_termModes a_variableMasks a_outputMasks a_users a_makers a_ranked a_atStrength a_stamps b_cKind b_cStrength b_cK b_cCount b_tVar b_tSign b_tMode b_born b_here b_marked) (hE : ∀ c, Hb f_enforced c → DX N f_live c) (F : FX N (UX N a_users) (UX N a_makers) f_enforced p a_execIds a_outputs a_feeders a_determiner a_upstream) (ho : ∀ c, c < 32 → b_out c = a_outputs c) (post : SY → Prop)
    (H : ∀ val kn, Evl p (fun i => tn (a_execIds i)) (fun i => tn (a_outputs (tn (a_execIds i)))) (dmD b_cKind b_cK b_cCount b_tVar b_tSign) b_val val → post (g_n, g_m, g_planLen, g_clock, b_cKind, b_cStrength, b_cK, b_cCount, b_tVar, b_tSign, b_tMode, b_born, b_here, b_marked, b_out, b_inSet, b_left, b_last, b_passed, b_was, b_member, val, b_old, kn, b_plan)) : wpY_update post (g_n, g_m, g_planLen, g_clock, b_cKind, b_cStrength, b_cK, b_cCount, b_tVar, b_tSign, b_tMode, b_born, b_here, b_marked, b_out, b_inSet, b_left, b_last, b_passed, b_was, b_member, b_val, b_old, b_known, b_plan) := by
  obtain ⟨hn, hN2, hN, _, _, _, _, gn, _⟩ := D
  obtain ⟨f1, f2, f3, f4, f5, f6, _⟩ := F
  have hV : ∀ c, Hb f_enforced c → Vd N f_live f_draftOpen c := fun c hc => dx_vd (hE c hc)
  refine ys_update (S := Hb f_enforced) gn hN post f1 (fp_congr f2 (fun _ => Iff.rfl) (fun c v hc => st_u S hN (hV c hc)) (fun c v hc => st_m S hN (hV c hc))) (fun v hv => ?_) (fun i hi => ?_) (fun c hc hn => by rw [ho c hc]; exact f6 c hc hn) (fun i hi => ev_Y S hN (hV _ (f2.1 i hi).1) (ev_X S hN (hV _ (f2.1 i hi).1) (f2.1 i hi).2)) H
  · obtain ⟨c, hc, e⟩ := f5 v hv
    obtain ⟨i, hi, ei⟩ := f2.2.1 c hc
    exact ⟨i, hi, by show tn (a_outputs (tn (a_execIds i))) = v; rw [show tn (a_execIds i) = c from ei]; exact e⟩
  · have hc := (f2.1 i hi).1
    rw [ho _ (hb_lt hc)]
    exact (f4 _ hc).1
theorem ev_eq (S : STR N M L q f_live f_marked f_draftOpen f_liveCount f_nextStamp g_clock a_kinds a_strengths a_constants a_termCounts a_termVars a_termSigns a_termModes a_variableMasks a_outputMasks a_users a_makers a_ranked a_atStrength a_stamps b_cKind b_cStrength b_cK b_cCount b_tVar b_tSign b_tMode b_born b_here b_marked) (hN : N ≤ 10) (hE : ∀ c, Hb f_enforced c → DX N f_live c) (F : FX N (UX N a_users) (UX N a_makers) f_enforced p a_execIds a_outputs a_feeders a_determiner a_upstream) {v0 v0' val val' : Nat → Int32} (h0 : ∀ v, v < N → v0 v = v0' v)
    (hx : Evl p (fun i => tn (a_execIds i)) (fun i => tn (a_outputs (tn (a_execIds i)))) (dmD a_kinds a_constants a_termCounts a_termVars a_termSigns) v0 val)
    (hy : Evl p (fun i => tn (a_execIds i)) (fun i => tn (a_outputs (tn (a_execIds i)))) (dmD b_cKind b_cK b_cCount b_tVar b_tSign) v0' val') : ∀ v, v < N → val v = val' v := by
  obtain ⟨f1, f2, f3, f4, f5, f6, _⟩ := F
  refine ev_uniq f2 (fun c v h => h.1) (fun v hv => ?_) (fun i hi f g hf => dm_XY S hN (dx_vd (hE _ (f2.1 i hi).1)) (ev_X S hN (dx_vd (hE _ (f2.1 i hi).1)) (f2.1 i hi).2) f g hf) h0 hx hy
  obtain ⟨c, hc, e⟩ := f5 v hv
  obtain ⟨i, hi, ei⟩ := f2.2.1 c hc
  exact ⟨i, hi, by show tn (a_outputs (tn (a_execIds i))) = v; rw [show tn (a_execIds i) = c from ei]; exact e⟩
theorem xl_remember (hn : f_n = nI N) (hN : N ≤ 10) (post : SX → Prop) (H : ∀ be, (∀ v, v < N → be v = a_values v) → post (f_draftId, f_editId, f_firstStay, f_n, f_m, f_allVariables, f_nextStamp, f_live, f_liveCount, f_marked, f_draftOpen, f_enforced, f_execCount, f_walkKnown, f_peelCount, f_planCount, a_values, be, a_kinds, a_strengths, a_constants, a_termCounts, a_termVars, a_termSigns, a_termModes, a_variableMasks, a_outputMasks, a_stamps, a_users, a_makers, a_ranked, a_atStrength, a_execIds, a_outputs, a_feeders, a_determiner, a_upstream, a_walk, a_agenda, a_peelIds, a_peelVars, a_plan)) : ∀ d i be fuel, i + d = N → d < fuel → (∀ v, v < i → be v = a_values v) → wX_remember_2 post f_draftId f_editId f_firstStay f_n f_m f_allVariables f_nextStamp f_live f_liveCount f_marked f_draftOpen f_enforced f_execCount f_walkKnown f_peelCount f_planCount fuel (nI i) a_values be a_kinds a_strengths a_constants a_termCounts a_termVars a_termSigns a_termModes a_variableMasks a_outputMasks a_stamps a_users a_makers a_ranked a_atStrength a_execIds a_outputs a_feeders a_determiner a_upstream a_walk a_agenda a_peelIds a_peelVars a_plan := by
  intro d
  induction d with
  | zero =>
    intro i be fuel hi hf h
    have e : i = N := by omega
    subst e
    cases fuel with
    | zero => omega
    | succ fuel => exact br_t (by rw [hn]; exact Int32.le_refl _) (H be h)
  | succ d ih =>
    intro i be fuel hi hf h
    cases fuel with
    | zero => omega
    | succ fuel =>
      have vi : vp_in (nI i) 10 := vp_in_nI (by omega) (by omega)
      have ei : (nI i).toNatClampNeg = i := nI_clamp (by omega)
      refine pk_le N i (fun h => absurd h (by omega)) (fun _ => And.intro vi (And.intro vi (nm_r (e' := upd be i (a_values i)) (by rw [ei]) (nm_r (nI_1 i) (ih (i + 1) _ fuel (by omega) (by omega) fun v hv => ?_))))) hn rfl (by omega) (by omega)
      rcases Nat.lt_or_ge v i with y | y
      · rw [pk_un (by omega)]; exact h v y
      · have : v = i := by omega
        subst this
        exact pk_us
theorem xs_remember (hn : f_n = nI N) (hN : N ≤ 10) (post : SX → Prop) (H : ∀ be, (∀ v, v < N → be v = a_values v) → post (f_draftId, f_editId, f_firstStay, f_n, f_m, f_allVariables, f_nextStamp, f_live, f_liveCount, f_marked, f_draftOpen, f_enforced, f_execCount, f_walkKnown, f_peelCount, f_planCount, a_values, be, a_kinds, a_strengths, a_constants, a_termCounts, a_termVars, a_termSigns, a_termModes, a_variableMasks, a_outputMasks, a_stamps, a_users, a_makers, a_ranked, a_atStrength, a_execIds, a_outputs, a_feeders, a_determiner, a_upstream, a_walk, a_agenda, a_peelIds, a_peelVars, a_plan)) : wpX_remember post (f_draftId, f_editId, f_firstStay, f_n, f_m, f_allVariables, f_nextStamp, f_live, f_liveCount, f_marked, f_draftOpen, f_enforced, f_execCount, f_walkKnown, f_peelCount, f_planCount, a_values, a_before, a_kinds, a_strengths, a_constants, a_termCounts, a_termVars, a_termSigns, a_termModes, a_variableMasks, a_outputMasks, a_stamps, a_users, a_makers, a_ranked, a_atStrength, a_execIds, a_outputs, a_feeders, a_determiner, a_upstream, a_walk, a_agenda, a_peelIds, a_peelVars, a_plan) :=
  Exists.intro (N + 1) (xl_remember hn hN post H N 0 a_before (N + 1) (by omega) (by omega) fun v hv => by omega)
theorem yl_save (hn : g_n = nI N) (hN : N ≤ 10) (post : SY → Prop) (H : ∀ be, (∀ v, v < N → be v = b_val v) → post (g_n, g_m, g_planLen, g_clock, b_cKind, b_cStrength, b_cK, b_cCount, b_tVar, b_tSign, b_tMode, b_born, b_here, b_marked, b_out, b_inSet, b_left, b_last, b_passed, b_was, b_member, b_val, be, b_known, b_plan)) : ∀ d i be fuel, i + d = N → d < fuel → (∀ v, v < i → be v = b_val v) → wY_save_2 post g_n g_m g_planLen g_clock fuel (nI i) b_cKind b_cStrength b_cK b_cCount b_tVar b_tSign b_tMode b_born b_here b_marked b_out b_inSet b_left b_last b_passed b_was b_member b_val be b_known b_plan := by
  intro d
  induction d with
  | zero =>
    intro i be fuel hi hf h
    have e : i = N := by omega
    subst e
    cases fuel with
    | zero => omega
    | succ fuel => exact br_t (by rw [hn]; exact Int32.le_refl _) (H be h)
  | succ d ih =>
    intro i be fuel hi hf h
    cases fuel with
    | zero => omega
    | succ fuel =>
      have vi : vp_in (nI i) 10 := vp_in_nI (by omega) (by omega)
      have ei : (nI i).toNatClampNeg = i := nI_clamp (by omega)
      refine pk_le N i (fun h => absurd h (by omega)) (fun _ => And.intro vi (And.intro vi (nm_r (e' := upd be i (b_val i)) (by rw [ei]) (nm_r (nI_1 i) (ih (i + 1) _ fuel (by omega) (by omega) fun v hv => ?_))))) hn rfl (by omega) (by omega)
      rcases Nat.lt_or_ge v i with y | y
      · rw [pk_un (by omega)]; exact h v y
      · have : v = i := by omega
        subst this
        exact pk_us
theorem ys_save (hn : g_n = nI N) (hN : N ≤ 10) (post : SY → Prop) (H : ∀ be, (∀ v, v < N → be v = b_val v) → post (g_n, g_m, g_planLen, g_clock, b_cKind, b_cStrength, b_cK, b_cCount, b_tVar, b_tSign, b_tMode, b_born, b_here, b_marked, b_out, b_inSet, b_left, b_last, b_passed, b_was, b_member, b_val, be, b_known, b_plan)) : wpY_save post (g_n, g_m, g_planLen, g_clock, b_cKind, b_cStrength, b_cK, b_cCount, b_tVar, b_tSign, b_tMode, b_born, b_here, b_marked, b_out, b_inSet, b_left, b_last, b_passed, b_was, b_member, b_val, b_old, b_known, b_plan) :=
  Exists.intro (N + 1) (yl_save hn hN post H N 0 b_old (N + 1) (by omega) (by omega) fun v hv => by omega)
theorem xl_changed (hn : f_n = nI N) (hN : N ≤ 10) (post : Int32 → Prop) (H : post (nI (cn (fun v => ¬ a_before v = a_values v) N))) : ∀ d i fuel, i + d = N → d < fuel → wX_countChanged_4 post f_draftId f_editId f_firstStay f_n f_m f_allVariables f_nextStamp f_live f_liveCount f_marked f_draftOpen f_enforced f_execCount f_walkKnown f_peelCount f_planCount a_values a_before a_kinds a_strengths a_constants a_termCounts a_termVars a_termSigns a_termModes a_variableMasks a_outputMasks a_stamps a_users a_makers a_ranked a_atStrength a_execIds a_outputs a_feeders a_determiner a_upstream a_walk a_agenda a_peelIds a_peelVars a_plan fuel (nI (cn (fun v => ¬ a_before v = a_values v) i)) (nI i) := by
  intro d
  induction d with
  | zero =>
    intro i fuel hi hf
    have e : i = N := by omega
    subst e
    cases fuel with
    | zero => omega
    | succ fuel => exact br_t (by rw [hn]; exact Int32.le_refl _) H
  | succ d ih =>
    intro i fuel hi hf
    cases fuel with
    | zero => omega
    | succ fuel =>
      have nx := ih (i + 1) fuel (by omega) (by omega)
      rw [cn_s] at nx
      have vi : vp_in (nI i) 10 := vp_in_nI (by omega) (by omega)
      have ei : (nI i).toNatClampNeg = i := nI_clamp (by omega)
      refine pk_le N i (fun h => absurd h (by omega)) (fun _ => And.intro vi (And.intro vi (br_c (fun z => nm_r (nI_1 i) ?_) (fun z => nm_r (nI_1 _) (nm_r (nI_1 i) ?_))))) hn rfl (by omega) (by omega)
      · rw [ei] at z
        rw [b01_f (fun h => h z)] at nx; exact nx
      · rw [ei] at z
        rw [b01_t z] at nx; exact nx
theorem xs_changed (hn : f_n = nI N) (hN : N ≤ 10) (post : Int32 → Prop) (H : post (nI (cn (fun v => ¬ a_before v = a_values v) N))) : wpX_countChanged post (f_draftId, f_editId, f_firstStay, f_n, f_m, f_allVariables, f_nextStamp, f_live, f_liveCount, f_marked, f_draftOpen, f_enforced, f_execCount, f_walkKnown, f_peelCount, f_planCount, a_values, a_before, a_kinds, a_strengths, a_constants, a_termCounts, a_termVars, a_termSigns, a_termModes, a_variableMasks, a_outputMasks, a_stamps, a_users, a_makers, a_ranked, a_atStrength, a_execIds, a_outputs, a_feeders, a_determiner, a_upstream, a_walk, a_agenda, a_peelIds, a_peelVars, a_plan) :=
  Exists.intro (N + 1) (xl_changed hn hN post H N 0 (N + 1) (by omega) (by omega))
theorem yl_changed (hn : g_n = nI N) (hN : N ≤ 10) (post : Int32 → Prop) (H : post (nI (cn (fun v => ¬ b_old v = b_val v) N))) : ∀ d i fuel, i + d = N → d < fuel → wY_changed_4 post g_n g_m g_planLen g_clock b_cKind b_cStrength b_cK b_cCount b_tVar b_tSign b_tMode b_born b_here b_marked b_out b_inSet b_left b_last b_passed b_was b_member b_val b_old b_known b_plan fuel (nI (cn (fun v => ¬ b_old v = b_val v) i)) (nI i) := by
  intro d
  induction d with
  | zero =>
    intro i fuel hi hf
    have e : i = N := by omega
    subst e
    cases fuel with
    | zero => omega
    | succ fuel => exact br_t (by rw [hn]; exact Int32.le_refl _) H
  | succ d ih =>
    intro i fuel hi hf
    cases fuel with
    | zero => omega
    | succ fuel =>
      have nx := ih (i + 1) fuel (by omega) (by omega)
      rw [cn_s] at nx
      have vi : vp_in (nI i) 10 := vp_in_nI (by omega) (by omega)
      have ei : (nI i).toNatClampNeg = i := nI_clamp (by omega)
      refine pk_le N i (fun h => absurd h (by omega)) (fun _ => And.intro vi (And.intro vi (br_c (fun z => nm_r (nI_1 i) ?_) (fun z => nm_r (nI_1 _) (nm_r (nI_1 i) ?_))))) hn rfl (by omega) (by omega)
      · rw [ei] at z
        rw [b01_f (fun h => h z)] at nx; exact nx
      · rw [ei] at z
        rw [b01_t z] at nx; exact nx
theorem ys_changed (hn : g_n = nI N) (hN : N ≤ 10) (post : Int32 → Prop) (H : post (nI (cn (fun v => ¬ b_old v = b_val v) N))) : wpY_changed post (g_n, g_m, g_planLen, g_clock, b_cKind, b_cStrength, b_cK, b_cCount, b_tVar, b_tSign, b_tMode, b_born, b_here, b_marked, b_out, b_inSet, b_left, b_last, b_passed, b_was, b_member, b_val, b_old, b_known, b_plan) :=
  Exists.intro (N + 1) (yl_changed hn hN post H N 0 (N + 1) (by omega) (by omega))
theorem i_vc_refresh {k : Nat} {u : SX} {v : SY} (I : i_Rel k u v) (hk : k + 4 ≤ 2050) : wpX_refresh (fun r u' => wpY_refresh (fun r' v' => r' = r ∧ i_Rel (k + 4) u' v') v) u := by
  refine zz_el (P := fun u v => wpX_refresh (fun r u' => wpY_refresh (fun r' v' => r' = r ∧ i_Rel (k + 4) u' v') v) u) ?_ I
  intro f_draftId f_editId f_firstStay f_n f_m f_allVariables f_live f_liveCount f_marked f_draftOpen f_enforced f_execCount f_walkKnown f_peelCount f_planCount f_nextStamp a_values a_before a_kinds a_strengths a_constants a_termCounts a_termVars a_termSigns a_termModes a_variableMasks a_outputMasks a_users a_makers a_ranked a_atStrength a_execIds a_outputs a_feeders a_determiner a_upstream a_walk a_agenda a_peelIds a_peelVars a_plan a_stamps g_n g_m g_planLen g_clock b_cKind b_cStrength b_cK b_cCount b_tVar b_tSign b_tMode b_here b_marked b_out b_inSet b_left b_last b_passed b_was b_member b_val b_old b_known b_plan b_born N M L q h1 h2 h3 h4 h5 h6
  have DD := h2
  obtain ⟨hn, hN2, hN, hm, hM2, hM, hall, gn, gm⟩ := h2
  obtain ⟨p, ep, F⟩ := h4.2.2.2.1
  have hE := h4.1.1
  unfold wpX_refresh wpY_refresh
  refine xs_remember hn hN _ fun be hbe => ?_
  refine xr_update DD h3 hE ep F _ fun val hval => ?_
  refine xs_changed hn hN _ ?_
  refine ys_save gn hN _ fun be' hbe' => ?_
  refine yr_update DD h3 hE F h4.2.2.2.2.1 _ fun val' kn hval' => ?_
  refine ys_changed gn hN _ ?_
  have ev := ev_eq h3 hN hE F h6 hval hval'
  refine ⟨congrArg nI (cn_eq fun v hv => ?_), zz_mk (by omega) DD h3 h4 h5 ev⟩
  rw [hbe v hv, hbe' v hv, h6 v hv, ev v hv]
theorem ex_loop (D : DIM N M f_n f_m f_allVariables g_n g_m) (S : STR N M L q f_live f_marked f_draftOpen f_liveCount f_nextStamp g_clock a_kinds a_strengths a_constants a_termCounts a_termVars a_termSigns a_termModes a_variableMasks a_outputMasks a_users a_makers a_ranked a_atStrength a_stamps b_cKind b_cStrength b_cK b_cCount b_tVar b_tSign b_tMode b_born b_here b_marked) (E : EPR N f_live f_enforced f_execCount f_walkKnown a_strengths a_stamps a_users a_makers a_execIds a_outputs a_feeders a_determiner a_upstream a_walk b_out) {pn : Nat} (hp20 : pn ≤ 20) (epX : f_planCount = nI pn) (epY : g_planLen = nI pn) (hpl : ∀ i, i < pn → ∃ c, c < 20 ∧ Hb f_enforced c ∧ a_plan i = nI c ∧ b_plan i = nI c) :
    ∀ d i xv yv, i + d = pn → (∀ v, v < N → xv v = yv v) → ∃ xv' yv', (∀ v, v < N → xv' v = yv' v) ∧
      (∀ (be : Nat → Int32) (post : Int32 → SX → Prop) fuel, d < fuel → post (nI (cn (fun v => ¬ be v = xv' v) N)) (f_draftId, f_editId, f_firstStay, f_n, f_m, f_allVariables, f_nextStamp, f_live, f_liveCount, f_marked, f_draftOpen, f_enforced, f_execCount, f_walkKnown, f_peelCount, f_planCount, xv', be, a_kinds, a_strengths, a_constants, a_termCounts, a_termVars, a_termSigns, a_termModes, a_variableMasks, a_outputMasks, a_stamps, a_users, a_makers, a_ranked, a_atStrength, a_execIds, a_outputs, a_feeders, a_determiner, a_upstream, a_walk, a_agenda, a_peelIds, a_peelVars, a_plan) → wX_execute_16 post fuel (nI i) f_draftId f_editId f_firstStay f_n f_m f_allVariables f_nextStamp f_live f_liveCount f_marked f_draftOpen f_enforced f_execCount f_walkKnown f_peelCount f_planCount xv be a_kinds a_strengths a_constants a_termCounts a_termVars a_termSigns a_termModes a_variableMasks a_outputMasks a_stamps a_users a_makers a_ranked a_atStrength a_execIds a_outputs a_feeders a_determiner a_upstream a_walk a_agenda a_peelIds a_peelVars a_plan) ∧
      (∀ (be : Nat → Int32) (post : Int32 → SY → Prop) fuel, d < fuel → post (nI (cn (fun v => ¬ be v = yv' v) N)) (g_n, g_m, g_planLen, g_clock, b_cKind, b_cStrength, b_cK, b_cCount, b_tVar, b_tSign, b_tMode, b_born, b_here, b_marked, b_out, b_inSet, b_left, b_last, b_passed, b_was, b_member, yv', be, b_known, b_plan) → wY_execute_16 post fuel (nI i) g_n g_m g_planLen g_clock b_cKind b_cStrength b_cK b_cCount b_tVar b_tSign b_tMode b_born b_here b_marked b_out b_inSet b_left b_last b_passed b_was b_member yv be b_known b_plan) := by
  obtain ⟨hn, hN2, hN, hm, hM2, hM, hall, gn, gm⟩ := D
  obtain ⟨p, ep, F⟩ := E.2.2.2.1
  have hE := E.1.1
  intro d
  induction d with
  | zero =>
    intro i xv yv hi hv
    have e : i = pn := by omega
    subst e
    refine ⟨xv, yv, hv, fun be post fuel hf H => ?_, fun be post fuel hf H => ?_⟩
    · cases fuel with
      | zero => omega
      | succ fuel => exact br_t (by rw [epX]; exact Int32.le_refl _) (xs_changed hn hN _ H)
    · cases fuel with
      | zero => omega
      | succ fuel => exact br_t (by rw [epY]; exact Int32.le_refl _) (ys_changed gn hN _ H)
  | succ d ih =>
    intro i xv yv hi hv
    obtain ⟨c, hc20, hcE, ea, eb⟩ := hpl i (by omega)
    have hV : Vd N f_live f_draftOpen c := dx_vd (hE c hcE)
    obtain ⟨f1, f2, f3, f4, f5, f6, _⟩ := F
    obtain ⟨j, hj, ej⟩ := f2.2.1 c hcE
    have hmk : UX N a_makers c (tn (a_outputs c)) := by
      have this : UX N a_makers (tn (a_execIds j)) (tn (a_outputs (tn (a_execIds j)))) := (f2.1 j hj).2
      have ej' : tn (a_execIds j) = c := ej
      rw [ej'] at this
      exact this
    have hev := ev_X S hN hV hmk
    have hevY := ev_Y S hN hV hev
    have eo := (f4 c hcE).1
    have ei : (nI i).toNatClampNeg = i := nI_clamp (by omega)
    have ec : (nI c).toNatClampNeg = c := nI_clamp (by omega)
    obtain ⟨xv', yv', h1, h2, h3⟩ := ih (i + 1) (upd xv (tn (a_outputs c)) (dmD a_kinds a_constants a_termCounts a_termVars a_termSigns c (tn (a_outputs c)) xv)) (upd yv (tn (a_outputs c)) (dmD b_cKind b_cK b_cCount b_tVar b_tSign c (tn (a_outputs c)) yv)) (by omega) (fun v hvN => by
      rcases Classical.em (v = tn (a_outputs c)) with z | z
      · rw [z, pk_us, pk_us]
        exact dm_XY S hN hV hev xv yv fun w hw => hv w hw.1
      · rw [pk_un z, pk_un z]; exact hv v hvN)
    refine ⟨xv', yv', h1, fun be post fuel hf H => ?_, fun be post fuel hf H => ?_⟩
    · cases fuel with
      | zero => omega
      | succ fuel =>
        refine pk_le pn i (fun h => absurd h (by omega)) (fun _ => And.intro (vp_in_nI (by omega) (by omega)) (nm_r (e' := nI c) (by rw [ei]; exact ea) (And.intro (vp_in_nI (by omega) (by omega)) ?_))) epX rfl (by omega) (by omega)
        rw [ec, eo]
        refine xs_run hn hN _ hev ?_
        exact nm_r (nI_1 i) (h2 be post fuel (by omega) H)
    · cases fuel with
      | zero => omega
      | succ fuel =>
        refine pk_le pn i (fun h => absurd h (by omega)) (fun _ => And.intro (vp_in_nI (by omega) (by omega)) ?_) epY rfl (by omega) (by omega)
        rw [ei, eb]
        refine ys_run hN _ hevY (by rw [E.2.2.2.2.1 c (by omega)]; exact eo) ?_
        exact nm_r (nI_1 i) (h3 be post fuel (by omega) H)
theorem i_vc_execute {k : Nat} {u : SX} {v : SY} (I : i_Rel k u v) (hk : k + 4 ≤ 2050) : wpX_execute (fun r u' => wpY_execute (fun r' v' => r' = r ∧ i_Rel (k + 4) u' v') v) u := by
  refine zz_el (P := fun u v => wpX_execute (fun r u' => wpY_execute (fun r' v' => r' = r ∧ i_Rel (k + 4) u' v') v) u) ?_ I
  intro f_draftId f_editId f_firstStay f_n f_m f_allVariables f_live f_liveCount f_marked f_draftOpen f_enforced f_execCount f_walkKnown f_peelCount f_planCount f_nextStamp a_values a_before a_kinds a_strengths a_constants a_termCounts a_termVars a_termSigns a_termModes a_variableMasks a_outputMasks a_users a_makers a_ranked a_atStrength a_execIds a_outputs a_feeders a_determiner a_upstream a_walk a_agenda a_peelIds a_peelVars a_plan a_stamps g_n g_m g_planLen g_clock b_cKind b_cStrength b_cK b_cCount b_tVar b_tSign b_tMode b_here b_marked b_out b_inSet b_left b_last b_passed b_was b_member b_val b_old b_known b_plan b_born N M L q h1 h2 h3 h4 h5 h6
  have II : i_Rel (k + 4) (f_draftId, f_editId, f_firstStay, f_n, f_m, f_allVariables, f_nextStamp, f_live, f_liveCount, f_marked, f_draftOpen, f_enforced, f_execCount, f_walkKnown, f_peelCount, f_planCount, a_values, a_before, a_kinds, a_strengths, a_constants, a_termCounts, a_termVars, a_termSigns, a_termModes, a_variableMasks, a_outputMasks, a_stamps, a_users, a_makers, a_ranked, a_atStrength, a_execIds, a_outputs, a_feeders, a_determiner, a_upstream, a_walk, a_agenda, a_peelIds, a_peelVars, a_plan) (g_n, g_m, g_planLen, g_clock, b_cKind, b_cStrength, b_cK, b_cCount, b_tVar, b_tSign, b_tMode, b_born, b_here, b_marked, b_out, b_inSet, b_left, b_last, b_passed, b_was, b_member, b_val, b_old, b_known, b_plan) := zz_mk (by omega) h2 h3 h4 h5 h6
  have DD := h2
  obtain ⟨hn, hN2, hN, hm, hM2, hM, hall, gn, gm⟩ := h2
  rcases h5 with ⟨e1, e2⟩ | ⟨pn, hp, e1, e2, hpl⟩
  · exact br_f (by rw [e1]; decide) (br_f (by rw [e2]; decide) ⟨rfl, II⟩)
  · refine br_t (by rw [e1]; exact nI_pos' (by omega)) ?_
    refine xs_remember hn hN _ fun be hbe => ?_
    refine Exists.intro (pn + 1) ?_
    obtain ⟨xv', yv', g1, g2, g3⟩ := ex_loop (f_draftId := f_draftId) (f_editId := f_editId) (f_firstStay := f_firstStay) (f_n := f_n) (f_m := f_m) (f_allVariables := f_allVariables) (f_nextStamp := f_nextStamp) (f_live := f_live) (f_liveCount := f_liveCount) (f_marked := f_marked) (f_draftOpen := f_draftOpen) (f_enforced := f_enforced) (f_execCount := f_execCount) (f_walkKnown := f_walkKnown) (f_peelCount := f_peelCount) (f_planCount := f_planCount) (a_kinds := a_kinds) (a_strengths := a_strengths) (a_constants := a_constants) (a_termCounts := a_termCounts) (a_termVars := a_termVars) (a_termSigns := a_termSigns) (a_termModes := a_termModes) (a_variableMasks := a_variableMasks) (a_outputMasks := a_outputMasks) (a_stamps := a_stamps) (a_users := a_users) (a_makers := a_makers) (a_ranked := a_ranked) (a_atStrength := a_atStrength) (a_execIds := a_execIds) (a_outputs := a_outputs) (a_feeders := a_feeders) (a_determiner := a_determiner) (a_upstream := a_upstream) (a_walk := a_walk) (a_agenda := a_agenda) (a_peelIds := a_peelIds) (a_peelVars := a_peelVars) (a_plan := a_plan) (g_n := g_n) (g_m := g_m) (g_planLen := g_planLen) (g_clock := g_clock) (b_cKind := b_cKind) (b_cStrength := b_cStrength) (b_cK := b_cK) (b_cCount := b_cCount) (b_tVar := b_tVar) (b_tSign := b_tSign) (b_tMode := b_tMode) (b_born := b_born) (b_here := b_here) (b_marked := b_marked) (b_out := b_out) (b_inSet := b_inSet) (b_left := b_left) (b_last := b_last) (b_passed := b_passed) (b_was := b_was) (b_member := b_member) (b_known := b_known) (b_plan := b_plan) DD h3 h4 hp e1 e2 hpl pn 0 a_values b_val (by omega) h6
    refine g2 be _ (pn + 1) (by omega) ?_
    refine br_t (by rw [e2]; exact nI_pos' (by omega)) ?_
    refine ys_save gn hN _ fun be' hbe' => ?_
    refine Exists.intro (pn + 1) ?_
    refine g3 be' _ (pn + 1) (by omega) ?_
    refine ⟨congrArg nI (cn_eq fun v hv => ?_), zz_mk (by omega) DD h3 h4 (Or.inr ⟨pn, hp, e1, e2, hpl⟩) g1⟩
    rw [hbe v hv, hbe' v hv, h6 v hv, g1 v hv]
end
end
section
/-! dependsOn -/
/-- what the reference's known array holds on its way: w and some of the variables above which w stands -/
def DpI (N w : Nat) (Up : Nat → Prop) (kn : Nat → Int32) : Prop := (∀ v, v < N → kn v = 0 ∨ kn v = 1) ∧ ¬ kn w = 0 ∧ ∀ x, x < N → ¬ kn x = 0 → x = w ∨ Up x
theorem dp_up {N w o : Nat} {Up : Nat → Prop} {kn : Nat → Int32} (h : DpI N w Up kn) (ho : o = w ∨ Up o) : DpI N w Up (upd kn o 1) := by
  refine ⟨fun v hv => ?_, ?_, fun x hx hk => ?_⟩
  · rcases Classical.em (v = o) with z | z
    · subst z; rw [pk_us]; exact Or.inr rfl
    · rw [pk_un z]; exact h.1 v hv
  · rcases Classical.em (w = o) with z | z
    · subst z; rw [pk_us]; decide
    · rw [pk_un z]; exact h.2.1
  · rcases Classical.em (x = o) with z | z
    · subst z; exact ho
    · rw [pk_un z] at hk; exact h.2.2 x hx hk
section
variable {f_draftId f_editId f_firstStay f_n f_m f_allVariables f_live f_liveCount f_marked f_draftOpen f_enforced f_execCount f_walkKnown f_peelCount f_planCount : Int32} {f_nextStamp : Int64} {a_values a_before a_kinds a_strengths a_constants a_termCounts a_termVars a_termSigns a_termModes a_variableMasks a_outputMasks a_users a_makers a_ranked a_atStrength a_execIds a_outputs a_feeders a_determiner a_upstream a_walk a_agenda a_peelIds a_peelVars a_plan : Nat → Int32} {a_stamps : Nat → Int64}
variable {g_n g_m g_planLen : Int32} {g_clock : Int64} {b_cKind b_cStrength b_cK b_cCount b_tVar b_tSign b_tMode b_here b_marked b_out b_inSet b_left b_last b_passed b_was b_member b_val b_old b_known b_plan : Nat → Int32} {b_born : Nat → Int64}
variable {N M L q p w : Nat} {Up : Nat → Prop}
theorem yl_d86n (hN : N ≤ 10) (post : Int32 → SY → Prop) (J65 : Int32 → (Nat → Int32) → (Nat → Int32) → (Nat → Int32) → (Nat → Int32) → (Nat → Int32) → (Nat → Int32) → (Nat → Int32) → (Nat → Int64) → (Nat → Int32) → (Nat → Int32) → (Nat → Int32) → (Nat → Int32) → (Nat → Int32) → (Nat → Int32) → (Nat → Int32) → (Nat → Int32) → (Nat → Int32) → (Nat → Int32) → (Nat → Int32) → (Nat → Int32) → (Nat → Int32) → Prop)
    (J76 : Int32 → (Nat → Int32) → (Nat → Int32) → (Nat → Int32) → (Nat → Int32) → (Nat → Int32) → (Nat → Int32) → (Nat → Int32) → (Nat → Int64) → (Nat → Int32) → (Nat → Int32) → (Nat → Int32) → (Nat → Int32) → (Nat → Int32) → (Nat → Int32) → (Nat → Int32) → (Nat → Int32) → (Nat → Int32) → (Nat → Int32) → (Nat → Int32) → (Nat → Int32) → (Nat → Int32) → Prop)
    (x1 x3 : Int32) {c q0 : Nat} (hc : c < 32) (hq : q0 ≤ 4) (eq : b_cCount c = nI q0) (ho : b_out c < 0) (HJ : J76 (nI (c + 1)) b_cKind b_cStrength b_cK b_cCount b_tVar b_tSign b_tMode b_born b_here b_marked b_out b_inSet b_left b_last b_passed b_was b_member b_val b_old b_known b_plan) :
    ∀ d i fuel, i + d = q0 → d < fuel → wY_dependsOn_86 post J65 J76 x1 x3 (nI c) g_n g_m g_planLen g_clock fuel (nI i) b_cKind b_cStrength b_cK b_cCount b_tVar b_tSign b_tMode b_born b_here b_marked b_out b_inSet b_left b_last b_passed b_was b_member b_val b_old b_known b_plan := by
  have ec : (nI c).toNatClampNeg = c := nI_clamp (by omega)
  have vc : vp_in (nI c) 32 := vp_in_nI hc (by omega)
  intro d
  induction d with
  | zero =>
    intro i fuel hi hf
    have e : i = q0 := by omega
    subst e
    cases fuel with
    | zero => omega
    | succ fuel => exact And.intro vc (br_t (by rw [ec, eq]; exact Int32.le_refl _) (nm_r (nI_1 c) HJ))
  | succ d ih =>
    intro i fuel hi hf
    cases fuel with
    | zero => omega
    | succ fuel => exact And.intro vc (br_f (by rw [ec, eq]; exact nI_ge (by omega) (by omega)) (And.intro vc (br_t (by rw [ec]; exact ho) (nm_r (nI_1 i) (ih (i + 1) fuel (by omega) (by omega))))))
theorem yl_d86 (hN : N ≤ 10) (post : Int32 → SY → Prop) (J65 : Int32 → (Nat → Int32) → (Nat → Int32) → (Nat → Int32) → (Nat → Int32) → (Nat → Int32) → (Nat → Int32) → (Nat → Int32) → (Nat → Int64) → (Nat → Int32) → (Nat → Int32) → (Nat → Int32) → (Nat → Int32) → (Nat → Int32) → (Nat → Int32) → (Nat → Int32) → (Nat → Int32) → (Nat → Int32) → (Nat → Int32) → (Nat → Int32) → (Nat → Int32) → (Nat → Int32) → Prop)
    (J76 : Int32 → (Nat → Int32) → (Nat → Int32) → (Nat → Int32) → (Nat → Int32) → (Nat → Int32) → (Nat → Int32) → (Nat → Int32) → (Nat → Int64) → (Nat → Int32) → (Nat → Int32) → (Nat → Int32) → (Nat → Int32) → (Nat → Int32) → (Nat → Int32) → (Nat → Int32) → (Nat → Int32) → (Nat → Int32) → (Nat → Int32) → (Nat → Int32) → (Nat → Int32) → (Nat → Int32) → Prop)
    (x1 x3 : Int32) {c q0 o : Nat} (hc : c < 32) (hq : q0 ≤ 4) (eq : b_cCount c = nI q0) (hoN : o < N) (ho : b_out c = nI o) (hv : ∀ t, t < q0 → ∃ v, v < N ∧ b_tVar (4 * c + t) = nI v)
    (hcl : ∀ t v, t < q0 → v < N → b_tVar (4 * c + t) = nI v → (v = w ∨ Up v) → (o = w ∨ Up o)) {kn0 : Nat → Int32}
    (HJ : ∀ kn', DpI N w Up kn' → (∀ v, ¬ kn0 v = 0 → ¬ kn' v = 0) → (∀ t v, t < q0 → v < N → b_tVar (4 * c + t) = nI v → ¬ kn0 v = 0 → ¬ kn' o = 0) → J76 (nI (c + 1)) b_cKind b_cStrength b_cK b_cCount b_tVar b_tSign b_tMode b_born b_here b_marked b_out b_inSet b_left b_last b_passed b_was b_member b_val b_old kn' b_plan) :
    ∀ d i kn' fuel, i + d = q0 → d < fuel → DpI N w Up kn' → (∀ v, ¬ kn0 v = 0 → ¬ kn' v = 0) → (∀ t v, t < i → v < N → b_tVar (4 * c + t) = nI v → ¬ kn0 v = 0 → ¬ kn' o = 0) → wY_dependsOn_86 post J65 J76 x1 x3 (nI c) g_n g_m g_planLen g_clock fuel (nI i) b_cKind b_cStrength b_cK b_cCount b_tVar b_tSign b_tMode b_born b_here b_marked b_out b_inSet b_left b_last b_passed b_was b_member b_val b_old kn' b_plan := by
  have ec : (nI c).toNatClampNeg = c := nI_clamp (by omega)
  have eo : (nI o).toNatClampNeg = o := nI_clamp (by omega)
  have vc : vp_in (nI c) 32 := vp_in_nI hc (by omega)
  intro d
  induction d with
  | zero =>
    intro i kn' fuel hi hf h1 h2 h3
    have e : i = q0 := by omega
    subst e
    cases fuel with
    | zero => omega
    | succ fuel => exact And.intro vc (br_t (by rw [ec, eq]; exact Int32.le_refl _) (nm_r (nI_1 c) (HJ kn' h1 h2 h3)))
  | succ d ih =>
    intro i kn' fuel hi hf h1 h2 h3
    cases fuel with
    | zero => omega
    | succ fuel =>
      obtain ⟨v, hvN, ev⟩ := hv i (by omega)
      have e4 : (4 * nI c + nI i).toNatClampNeg = 4 * c + i := by rw [ix_y]; exact nI_clamp (by omega)
      have i4 : vp_in (4 * nI c + nI i) 128 := by rw [ix_y]; exact vp_in_nI (by omega) (by omega)
      have evv : (nI v).toNatClampNeg = v := nI_clamp (by omega)
      refine And.intro vc (br_f (by rw [ec, eq]; exact nI_ge (by omega) (by omega)) (And.intro vc (br_f (by rw [ec, ho]; exact nI_pos (by omega)) (And.intro i4 ?_))))
      rw [e4, ev]
      refine And.intro (vp_in_nI (by omega) (by omega)) ?_
      rw [evv]
      refine br_c (fun z => nm_r (nI_1 i) (ih (i + 1) kn' fuel (by omega) (by omega) h1 h2 fun t x ht hx ex hk => ?_)) (fun z => And.intro vc ?_)
      · rcases Nat.lt_or_ge t i with y | y
        · exact h3 t x y hx ex hk
        · have : t = i := by omega
          subst this
          rw [ev, nI_eq (by omega) (by omega)] at ex
          subst ex
          exact absurd z (h2 v hk)
      · rw [ec, ho]
        refine And.intro (vp_in_nI (by omega) (by omega)) (nm_r (e' := upd kn' o 1) (by rw [eo, vb1]) (nm_r (nI_1 i) (ih (i + 1) _ fuel (by omega) (by omega) (dp_up h1 (hcl i v (by omega) hvN ev (h1.2.2 v hvN z))) (fun x hx => ?_) fun t x ht hx ex hk => ?_)))
        · rcases Classical.em (x = o) with y | y
          · rw [y, pk_us]; decide
          · rw [pk_un y]; exact h2 x hx
        · rw [pk_us]; decide
theorem yl_d76 (hN : N ≤ 10) (hC : ∀ c, c < 32 → ∃ q, q ≤ 4 ∧ b_cCount c = nI q) (post : Int32 → SY → Prop) (J65 : Int32 → (Nat → Int32) → (Nat → Int32) → (Nat → Int32) → (Nat → Int32) → (Nat → Int32) → (Nat → Int32) → (Nat → Int32) → (Nat → Int64) → (Nat → Int32) → (Nat → Int32) → (Nat → Int32) → (Nat → Int32) → (Nat → Int32) → (Nat → Int32) → (Nat → Int32) → (Nat → Int32) → (Nat → Int32) → (Nat → Int32) → (Nat → Int32) → (Nat → Int32) → (Nat → Int32) → Prop)
    (x1 : Int32) {rd : Nat} {S : Nat → Prop} {xs os : Nat → Nat} (F : Fps (UY N b_cCount b_tVar) (MY N b_cCount b_tVar b_tMode) S p xs os) (hS : ∀ c, S c → RY N b_cCount b_tVar c) (hout : ∀ i, i < p → b_out (xs i) = nI (os i)) (hno : ∀ c, c < 32 → ¬ S c → b_out c = -1)
    (hcl : ∀ i v, i < p → UY N b_cCount b_tVar (xs i) v → (v = w ∨ Up v) → (os i = w ∨ Up (os i)))
    (hpr : ∀ i, i < p → Up (os i) → ∃ j, j < i ∧ UY N b_cCount b_tVar (xs i) (os j) ∧ (os j = w ∨ Up (os j)))
    (HJ : ∀ kn, DpI N w Up kn → (∀ j, j < p → j < rd + 1 → Up (os j) → ¬ kn (os j) = 0) → J65 (nI (rd + 1)) b_cKind b_cStrength b_cK b_cCount b_tVar b_tSign b_tMode b_born b_here b_marked b_out b_inSet b_left b_last b_passed b_was b_member b_val b_old kn b_plan) :
    ∀ d i kn fuel, i + d = 32 → d < fuel → DpI N w Up kn → (∀ j, j < p → (j < rd ∨ (j = rd ∧ xs j < i)) → Up (os j) → ¬ kn (os j) = 0) → wY_dependsOn_76 post J65 x1 (nI rd) g_n g_m g_planLen g_clock fuel (nI i) b_cKind b_cStrength b_cK b_cCount b_tVar b_tSign b_tMode b_born b_here b_marked b_out b_inSet b_left b_last b_passed b_was b_member b_val b_old kn b_plan := by
  have hmu : ∀ c v, MY N b_cCount b_tVar b_tMode c v → UY N b_cCount b_tVar c v := fun _ _ => ky_uy
  intro d
  induction d with
  | zero =>
    intro i kn fuel hi hf h1 h2
    have e : i = 32 := by omega
    subst e
    cases fuel with
    | zero => omega
    | succ fuel =>
      refine br_t (by decide) (nm_r (nI_1 rd) (HJ kn h1 fun j hj hlt => h2 j hj ?_))
      rcases Nat.lt_or_ge j rd with y | y
      · exact Or.inl y
      · exact Or.inr ⟨by omega, (hS _ (F.1 j hj).1).1⟩
  | succ d ih =>
    intro i kn fuel hi hf h1 h2
    cases fuel with
    | zero => omega
    | succ fuel =>
      obtain ⟨q0, hq, eq⟩ := hC i (by omega)
      have eqt : tn (b_cCount i) = q0 := by rw [eq]; exact tn_nI (by omega)
      refine pk_le 32 i (fun h => absurd h (by omega)) (fun _ => Exists.intro (q0 + 1) ?_) rfl rfl (by omega) (by omega)
      rcases Classical.em (S i) with hSi | hSi
      · obtain ⟨j, hj, ej⟩ := F.2.1 i hSi
        have R := hS i hSi
        rw [← ej] at eqt
        refine yl_d86 (w := w) (Up := Up) (o := os j) hN post J65 _ x1 (nI rd) (by omega) hq eq (F.1 j hj).2.1 (by rw [← ej]; exact hout j hj) (fun t ht => R.2.2.2 t (by rw [← ej, eqt]; exact ht)) (fun t v ht hv et => hcl j v hj ⟨hv, t, by rw [eqt]; exact ht, by rw [ej]; exact et⟩) (kn0 := kn) (fun kn' g1 g2 g3 => ih (i + 1) kn' fuel (by omega) (by omega) g1 fun l hl hlt hu => ?_) q0 0 kn (q0 + 1) (by omega) (by omega) h1 (fun _ h => h) fun t v ht => by omega
        rcases hlt with y | ⟨y1, y2⟩
        · exact g2 _ (h2 l hl (Or.inl y) hu)
        · subst y1
          rcases Nat.lt_or_ge (xs l) i with y | y
          · exact g2 _ (h2 l hl (Or.inr ⟨rfl, y⟩) hu)
          · have : l = j := fp_xs F hmu hl hj (by omega)
            subst this
            obtain ⟨m, hm, ⟨hmN, t, ht, et⟩, hwu⟩ := hpr l hl hu
            refine g3 t (os m) (by rw [eqt] at ht; exact ht) hmN (by rw [← ej]; exact et) ?_
            rcases hwu with z | z
            · rw [z]; exact h1.2.1
            · exact h2 m (by omega) (Or.inl hm) z
      · refine yl_d86n hN post J65 _ x1 (nI rd) (by omega) hq eq (by rw [hno i (by omega) hSi]; decide) (ih (i + 1) kn fuel (by omega) (by omega) h1 fun l hl hlt hu => ?_) q0 0 (q0 + 1) (by omega) (by omega)
        rcases hlt with y | ⟨y1, y2⟩
        · exact h2 l hl (Or.inl y) hu
        · refine h2 l hl (Or.inr ⟨y1, ?_⟩) hu
          rcases Nat.lt_or_ge (xs l) i with y | y
          · exact y
          · exact absurd (show S i by rw [show i = xs l by omega]; exact (F.1 l hl).1) hSi
theorem yl_d65 (hn : g_n = nI N) (hN : N ≤ 10) (hC : ∀ c, c < 32 → ∃ q, q ≤ 4 ∧ b_cCount c = nI q) (post : Int32 → SY → Prop) {v : Nat} (hv : v < N) (hp : p ≤ N)
    {S : Nat → Prop} {xs os : Nat → Nat} (F : Fps (UY N b_cCount b_tVar) (MY N b_cCount b_tVar b_tMode) S p xs os) (hS : ∀ c, S c → RY N b_cCount b_tVar c) (hout : ∀ i, i < p → b_out (xs i) = nI (os i)) (hno : ∀ c, c < 32 → ¬ S c → b_out c = -1)
    (hcl : ∀ i v, i < p → UY N b_cCount b_tVar (xs i) v → (v = w ∨ Up v) → (os i = w ∨ Up (os i)))
    (hpr : ∀ i, i < p → Up (os i) → ∃ j, j < i ∧ UY N b_cCount b_tVar (xs i) (os j) ∧ (os j = w ∨ Up (os j)))
    (H : ∀ kn, DpI N w Up kn → (∀ j, j < p → Up (os j) → ¬ kn (os j) = 0) → post (kn v) (g_n, g_m, g_planLen, g_clock, b_cKind, b_cStrength, b_cK, b_cCount, b_tVar, b_tSign, b_tMode, b_born, b_here, b_marked, b_out, b_inSet, b_left, b_last, b_passed, b_was, b_member, b_val, b_old, kn, b_plan)) :
    ∀ d rd kn fuel, rd + d = N → d < fuel → DpI N w Up kn → (∀ j, j < p → j < rd → Up (os j) → ¬ kn (os j) = 0) → wY_dependsOn_65 post (nI v) g_n g_m g_planLen g_clock fuel (nI rd) b_cKind b_cStrength b_cK b_cCount b_tVar b_tSign b_tMode b_born b_here b_marked b_out b_inSet b_left b_last b_passed b_was b_member b_val b_old kn b_plan := by
  have ev : (nI v).toNatClampNeg = v := nI_clamp (by omega)
  intro d
  induction d with
  | zero =>
    intro rd kn fuel hi hf h1 h2
    have e : rd = N := by omega
    subst e
    cases fuel with
    | zero => omega
    | succ fuel =>
      refine br_t (by rw [hn]; exact Int32.le_refl _) (And.intro (vp_in_nI (by omega) (by omega)) ?_)
      rw [ev]
      refine And.intro ?_ (H kn h1 fun j hj => h2 j hj (by omega))
      rcases h1.1 v hv with z | z
      · rw [z]; rfl
      · rw [z]; rfl
  | succ d ih =>
    intro rd kn fuel hi hf h1 h2
    cases fuel with
    | zero => omega
    | succ fuel =>
      refine pk_le N rd (fun h => absurd h (by omega)) (fun _ => Exists.intro 33 (yl_d76 hN hC post _ (nI v) F hS hout hno hcl hpr (fun kn' g1 g2 => ih (rd + 1) kn' fuel (by omega) (by omega) g1 g2) 32 0 kn 33 (by omega) (by omega) h1 fun j hj h hu => ?_)) hn rfl (by omega) (by omega)
      rcases h with h | ⟨_, h⟩
      · exact h2 j hj h hu
      · omega
theorem yl_d33 (hn : g_n = nI N) (hN : N ≤ 10) (post : Int32 → SY → Prop) {x1 : Int32} (hw : w < N) (H : ∀ kn, (∀ v, v < N → (v = w → kn v = 1) ∧ (v ≠ w → kn v = 0)) → ∃ n65, wY_dependsOn_65 post x1 g_n g_m g_planLen g_clock n65 0 b_cKind b_cStrength b_cK b_cCount b_tVar b_tSign b_tMode b_born b_here b_marked b_out b_inSet b_left b_last b_passed b_was b_member b_val b_old kn b_plan) :
    ∀ d i kn fuel, i + d = N → d < fuel → (∀ v, v < i → (v = w → kn v = 1) ∧ (v ≠ w → kn v = 0)) → wY_dependsOn_33 post x1 (nI w) g_n g_m g_planLen g_clock fuel (nI i) b_cKind b_cStrength b_cK b_cCount b_tVar b_tSign b_tMode b_born b_here b_marked b_out b_inSet b_left b_last b_passed b_was b_member b_val b_old kn b_plan := by
  intro d
  induction d with
  | zero =>
    intro i kn fuel hi hf h
    have e : i = N := by omega
    subst e
    cases fuel with
    | zero => omega
    | succ fuel => exact br_t (by rw [hn]; exact Int32.le_refl _) (H kn h)
  | succ d ih =>
    intro i kn fuel hi hf h
    cases fuel with
    | zero => omega
    | succ fuel =>
      have vi : vp_in (nI i) 10 := vp_in_nI (by omega) (by omega)
      have ei : (nI i).toNatClampNeg = i := nI_clamp (by omega)
      have nx : ∀ y : Int32, (i = w → y = 1) → (i ≠ w → y = 0) → ∀ v, v < i + 1 → (v = w → upd kn i y v = 1) ∧ (v ≠ w → upd kn i y v = 0) := fun y g1 g2 v hv => by
        rcases Nat.lt_or_ge v i with z | z
        · rw [pk_un (by omega)]; exact h v z
        · have : v = i := by omega
          subst this
          rw [pk_us]; exact ⟨g1, g2⟩
      exact pk_le N i (fun h => absurd h (by omega)) (fun _ => pk_eq i w (fun z => And.intro vi (nm_r (e' := upd kn i 1) (by rw [ei, vb1]) (nm_r (nI_1 i) (ih (i + 1) _ fuel (by omega) (by omega) (nx 1 (fun _ => rfl) fun q => absurd z q))))) (fun z => And.intro vi (nm_r (e' := upd kn i 0) (by rw [ei, vb0]) (nm_r (nI_1 i) (ih (i + 1) _ fuel (by omega) (by omega) (nx 0 (fun q => absurd q z) fun _ => rfl))))) rfl rfl (by omega) (by omega)) hn rfl (by omega) (by omega)
theorem fx_up (F : FX N (UX N a_users) (UX N a_makers) f_enforced p a_execIds a_outputs a_feeders a_determiner a_upstream) {w : Nat} : ∀ i, i < p → Hb (a_upstream (tn (a_outputs (tn (a_execIds i))))) w → ∃ j, j < i ∧ UX N a_users (tn (a_execIds i)) (tn (a_outputs (tn (a_execIds j)))) ∧ (tn (a_outputs (tn (a_execIds j))) = w ∨ Hb (a_upstream (tn (a_outputs (tn (a_execIds j))))) w) := by
  obtain ⟨f1, f2, f3, f4, f5, f6, f7, f8⟩ := F
  intro i hi hu
  obtain ⟨d, hd, hne, hus, hw⟩ := (f8 _ (f2.1 i hi).1 w).mp hu
  obtain ⟨j, hj, ej⟩ := f2.2.1 d hd
  have ej' : tn (a_execIds j) = d := ej
  subst ej'
  exact ⟨j, f2.2.2 j i hj hi hus fun e => hne (by rw [e]), hus, hw.imp Eq.symm id⟩
theorem i_vc_dependsOn {k : Nat} {u : SX} {v : SY} (I : i_Rel k u v) (hk : k + 4 ≤ 2050) (v1 : Int32) (v2 : Int32) : wpX_dependsOn (fun r => wpY_dependsOn (fun r' v' => r' = r ∧ i_Rel (k + 4) u v') v v1 v2) u v1 v2 := by
  refine zz_el (P := fun u v => wpX_dependsOn (fun r => wpY_dependsOn (fun r' v' => r' = r ∧ i_Rel (k + 4) u v') v v1 v2) u v1 v2) ?_ I
  intro f_draftId f_editId f_firstStay f_n f_m f_allVariables f_live f_liveCount f_marked f_draftOpen f_enforced f_execCount f_walkKnown f_peelCount f_planCount f_nextStamp a_values a_before a_kinds a_strengths a_constants a_termCounts a_termVars a_termSigns a_termModes a_variableMasks a_outputMasks a_users a_makers a_ranked a_atStrength a_execIds a_outputs a_feeders a_determiner a_upstream a_walk a_agenda a_peelIds a_peelVars a_plan a_stamps g_n g_m g_planLen g_clock b_cKind b_cStrength b_cK b_cCount b_tVar b_tSign b_tMode b_here b_marked b_out b_inSet b_left b_last b_passed b_was b_member b_val b_old b_known b_plan b_born N M L q h1 h2 h3 h4 h5 h6
  have II : i_Rel (k + 4) (f_draftId, f_editId, f_firstStay, f_n, f_m, f_allVariables, f_nextStamp, f_live, f_liveCount, f_marked, f_draftOpen, f_enforced, f_execCount, f_walkKnown, f_peelCount, f_planCount, a_values, a_before, a_kinds, a_strengths, a_constants, a_termCounts, a_termVars, a_termSigns, a_termModes, a_variableMasks, a_outputMasks, a_stamps, a_users, a_makers, a_ranked, a_atStrength, a_execIds, a_outputs, a_feeders, a_determiner, a_upstream, a_walk, a_agenda, a_peelIds, a_peelVars, a_plan) (g_n, g_m, g_planLen, g_clock, b_cKind, b_cStrength, b_cK, b_cCount, b_tVar, b_tSign, b_tMode, b_born, b_here, b_marked, b_out, b_inSet, b_left, b_last, b_passed, b_was, b_member, b_val, b_old, b_known, b_plan) := zz_mk (by omega) h2 h3 h4 h5 h6
  have DD := h2
  obtain ⟨hn, hN2, hN, hm, hM2, hM, hall, gn, gm⟩ := h2
  unfold wpX_dependsOn
  rcases pk_ix v1 (n := N) (by omega) with z | z | ⟨v, hv, rfl⟩
  · refine xs_var_f hn _ (Or.inl z) ?_
    refine br_t rfl ?_
    exact br_t z ⟨rfl, II⟩
  · refine xs_var_f hn _ (Or.inr z) ?_
    refine br_t rfl ?_
    exact br_c (fun _ => ⟨rfl, II⟩) (fun _ => br_t (by rw [gn]; exact z) ⟨rfl, II⟩)
  have v0 : ¬ nI v < 0 := nI_pos (by omega)
  have vN : ¬ g_n ≤ nI v := by rw [gn]; exact nI_ge hv (by omega)
  refine xs_var_t hn hN _ hv ?_
  refine br_f (by decide) ?_
  rcases pk_ix v2 (n := N) (by omega) with z | z | ⟨w, hw, rfl⟩
  · refine xs_var_f hn _ (Or.inl z) ?_
    refine br_t rfl ?_
    exact br_f v0 (br_f vN (br_t z ⟨rfl, II⟩))
  · refine xs_var_f hn _ (Or.inr z) ?_
    refine br_t rfl ?_
    exact br_f v0 (br_f vN (br_c (fun _ => ⟨rfl, II⟩) (fun _ => br_t (by rw [gn]; exact z) ⟨rfl, II⟩)))
  have w0 : ¬ nI w < 0 := nI_pos (by omega)
  have wN : ¬ g_n ≤ nI w := by rw [gn]; exact nI_ge hw (by omega)
  obtain ⟨p, ep, F⟩ := h4.2.2.2.1
  have hE := h4.1.1
  have fu := fx_up (w := w) F
  obtain ⟨f1, f2, f3, f4, f5, f6, f7, f8⟩ := F
  have hV : ∀ c, Hb f_enforced c → Vd N f_live f_draftOpen c := fun c hc => dx_vd (hE c hc)
  obtain ⟨cv, hcv, ecv⟩ := f5 v hv
  obtain ⟨iv, hiv, eiv⟩ := f2.2.1 cv hcv
  have eiv' : tn (a_execIds iv) = cv := eiv
  have ov : tn (a_outputs (tn (a_execIds iv))) = v := by rw [eiv']; exact ecv
  have acy : ∀ i, i < p → Hb (a_upstream (tn (a_outputs (tn (a_execIds i))))) w → ∃ j, j < i ∧ tn (a_outputs (tn (a_execIds j))) = w := by
    intro i
    induction i using Nat.strongRecOn with
    | ind i ih =>
      intro hi hu
      obtain ⟨j, hj, _, h | h⟩ := fu i hi hu
      · exact ⟨j, hj, h⟩
      · obtain ⟨l, hl, e⟩ := ih j hj (by omega) h
        exact ⟨l, by omega, e⟩
  refine xs_var_t hn hN _ hw ?_
  refine br_f (by decide) ?_
  refine And.intro (vp_in_nI (by omega) (by omega)) ?_
  rw [nI_clamp (n := v) (by omega)]
  have hup : ∀ x : Int32, (x = 0 ∧ ¬ Hb (a_upstream v) w) ∨ (x = 1 ∧ Hb (a_upstream v) w) → wpY_dependsOn (fun r' v' => r' = x ∧ i_Rel (k + 4) (f_draftId, f_editId, f_firstStay, f_n, f_m, f_allVariables, f_nextStamp, f_live, f_liveCount, f_marked, f_draftOpen, f_enforced, f_execCount, f_walkKnown, f_peelCount, f_planCount, a_values, a_before, a_kinds, a_strengths, a_constants, a_termCounts, a_termVars, a_termSigns, a_termModes, a_variableMasks, a_outputMasks, a_stamps, a_users, a_makers, a_ranked, a_atStrength, a_execIds, a_outputs, a_feeders, a_determiner, a_upstream, a_walk, a_agenda, a_peelIds, a_peelVars, a_plan) v') (g_n, g_m, g_planLen, g_clock, b_cKind, b_cStrength, b_cK, b_cCount, b_tVar, b_tSign, b_tMode, b_born, b_here, b_marked, b_out, b_inSet, b_left, b_last, b_passed, b_was, b_member, b_val, b_old, b_known, b_plan) (nI v) (nI w) := by
    intro x hx
    refine br_f v0 (br_f vN (br_f w0 (br_f wN (pk_eq v w (fun e => ⟨?_, II⟩) (fun e => ?_) rfl rfl (by omega) (by omega)))))
    · rcases hx with ⟨e1, _⟩ | ⟨_, hu⟩
      · exact e1.symm
      · rw [← ov] at hu
        obtain ⟨j, hj, ej⟩ := acy iv hiv hu
        have := fp_os f2 (rx_rp hN h3.1.1).1 (show j < p by omega) hiv (by show tn (a_outputs (tn (a_execIds j))) = tn (a_outputs (tn (a_execIds iv))); rw [ej, ov, e])
        omega
    · refine Exists.intro (N + 1) (yl_d33 gn hN _ hw (fun kn hkn => Exists.intro (N + 1) ?_) N 0 b_known (N + 1) (by omega) (by omega) fun v hv => by omega)
      refine yl_d65 (w := w) (Up := fun x => Hb (a_upstream x) w) gn hN h3.1.2.2.2.1 _ hv f1 (fp_congr f2 (fun _ => Iff.rfl) (fun c v hc => st_u h3 hN (hV c hc)) (fun c v hc => st_m h3 hN (hV c hc))) (fun c hc => st_RY h3 hN (hV c hc)) (fun i hi => ?_) (fun c hc hno => by rw [h4.2.2.2.2.1 c hc]; exact f6 c hc hno) (fun i x hi hux hwx => ?_) (fun i hi hu => ?_) (fun kn' g1 g2 => ?_) N 0 kn (N + 1) (by omega) (by omega) ⟨fun x hx => ?_, ?_, fun x hx hkx => ?_⟩ (fun j _ h => by omega)
      · have hc := (f2.1 i hi).1
        rw [h4.2.2.2.2.1 _ (hb_lt hc)]
        exact (f4 _ hc).1
      · have hc : Hb f_enforced (tn (a_execIds i)) := (f2.1 i hi).1
        have hux' := (st_u h3 hN (hV _ hc)).mpr hux
        rcases Classical.em (x = tn (a_outputs (tn (a_execIds i)))) with y | y
        · rw [y] at hwx; exact hwx
        · obtain ⟨d, hd, ed⟩ := f5 x hux'.1
          refine Or.inr ((f8 _ hc w).mpr ⟨d, hd, fun e => y (by rw [← e, ed]), by rw [ed]; exact hux', ?_⟩)
          rw [ed]
          exact hwx.imp Eq.symm id
      · obtain ⟨j, hj, hus, hwu⟩ := fu i hi hu
        exact ⟨j, hj, (st_u h3 hN (hV _ (f2.1 i hi).1)).mp hus, hwu⟩
      · refine ⟨?_, zz_mk (by omega) DD h3 h4 h5 h6⟩
        rcases hx with ⟨e1, hu⟩ | ⟨e1, hu⟩
        · rw [e1]
          refine (g1.1 v hv).elim id fun h => ?_
          rcases g1.2.2 v hv (by rw [h]; decide) with y | y
          · exact absurd y e
          · exact absurd y hu
        · rw [e1]
          refine (g1.1 v hv).elim (fun h => ?_) id
          rw [← ov] at hu
          have := g2 iv hiv hu
          have ov' : tn (a_outputs (tn (a_execIds iv))) = v := ov
          rw [ov'] at this
          exact absurd h this
      · rcases Classical.em (x = w) with y | y
        · exact Or.inr ((hkn x hx).1 y)
        · exact Or.inl ((hkn x hx).2 y)
      · rw [(hkn w hw).1 rfl]; decide
      · refine Or.inl (Classical.byContradiction fun y => hkx ((hkn x hx).2 y))
  refine br_c (fun z => hup 0 (Or.inl ⟨rfl, ?_⟩)) (fun z => hup 1 (Or.inr ⟨rfl, ?_⟩))
  · rw [hb_t (by omega)] at z; exact z
  · rw [hb_t (by omega), Classical.not_not] at z; exact z
end
end
section
/-! extract -/
theorem cn_lt {P Q : Nat → Prop} {a : Nat} (hp : ¬ P a) (hq : Q a) : ∀ {N : Nat}, (∀ k, k < N → P k → Q k) → a < N → cn P N < cn Q N
  | 0, _, h => by omega
  | N + 1, h, ha => by
    simp only [cn]
    rcases Nat.lt_or_ge a N with z | z
    · have x := cn_lt hp hq (N := N) (fun k hk => h k (by omega)) z
      have b := b01_mono (h N (by omega))
      omega
    · have e : a = N := by omega
      subst e
      have x := cn_mono (P := P) (Q := Q) (N := a) (fun k hk => h k (by omega))
      rw [b01_t hq, b01_f hp]; omega
theorem cn_ltN {P : Nat → Prop} {a N : Nat} (hp : ¬ P a) (ha : a < N) : cn P N < N := by
  have := cn_add (P := P) hp ha
  have := cn_le (fun k => P k ∨ k = a) N
  omega
/-- ready among u -/
def RdX (fd : Nat → Int32) (u : Int32) (c : Nat) : Prop := Hb u c ∧ ∀ d, Hb (fd c) d → ¬ Hb u d
section
variable {f_draftId f_editId f_firstStay f_n f_m f_allVariables f_live f_liveCount f_marked f_draftOpen f_enforced f_execCount f_walkKnown f_peelCount f_planCount : Int32} {f_nextStamp : Int64} {a_values a_before a_kinds a_strengths a_constants a_termCounts a_termVars a_termSigns a_termModes a_variableMasks a_outputMasks a_users a_makers a_ranked a_atStrength a_execIds a_outputs a_feeders a_determiner a_upstream a_walk a_agenda a_peelIds a_peelVars a_plan : Nat → Int32} {a_stamps : Nat → Int64}
variable {g_n g_m g_planLen : Int32} {g_clock : Int64} {b_cKind b_cStrength b_cK b_cCount b_tVar b_tSign b_tMode b_here b_marked b_out b_inSet b_left b_last b_passed b_was b_member b_val b_old b_known b_plan : Nat → Int32} {b_born : Nat → Int64}
variable {N M L q p : Nat}
theorem xl_ready (hm : f_m = nI M) (hM : M ≤ 20) (post : Int32 → Prop) {u : Int32} (H1 : ∀ c, c < M → RdX a_feeders u c → (∀ d, d < c → ¬ RdX a_feeders u d) → post (nI c)) (H2 : (∀ c, c < M → ¬ RdX a_feeders u c) → post (-1)) :
    ∀ d i fuel, i + d = M → d < fuel → (∀ c, c < i → ¬ RdX a_feeders u c) → wX_lowestReady_2 post u f_draftId f_editId f_firstStay f_n f_m f_allVariables f_nextStamp f_live f_liveCount f_marked f_draftOpen f_enforced f_execCount f_walkKnown f_peelCount f_planCount a_values a_before a_kinds a_strengths a_constants a_termCounts a_termVars a_termSigns a_termModes a_variableMasks a_outputMasks a_stamps a_users a_makers a_ranked a_atStrength a_execIds a_outputs a_feeders a_determiner a_upstream a_walk a_agenda a_peelIds a_peelVars a_plan fuel (nI i) := by
  intro d
  induction d with
  | zero =>
    intro i fuel hi hf h
    have e : i = M := by omega
    subst e
    cases fuel with
    | zero => omega
    | succ fuel => exact br_t (by rw [hm]; exact Int32.le_refl _) (H2 h)
  | succ d ih =>
    intro i fuel hi hf h
    cases fuel with
    | zero => omega
    | succ fuel =>
      have ei : (nI i).toNatClampNeg = i := nI_clamp (by omega)
      have nx : ¬ RdX a_feeders u i → wX_lowestReady_2 post u f_draftId f_editId f_firstStay f_n f_m f_allVariables f_nextStamp f_live f_liveCount f_marked f_draftOpen f_enforced f_execCount f_walkKnown f_peelCount f_planCount a_values a_before a_kinds a_strengths a_constants a_termCounts a_termVars a_termSigns a_termModes a_variableMasks a_outputMasks a_stamps a_users a_makers a_ranked a_atStrength a_execIds a_outputs a_feeders a_determiner a_upstream a_walk a_agenda a_peelIds a_peelVars a_plan fuel (nI (i + 1)) := fun hn => ih (i + 1) fuel (by omega) (by omega) fun c hc => by
        rcases Nat.lt_or_ge c i with y | y
        · exact h c y
        · have : c = i := by omega
          subst this
          exact hn
      refine pk_le M i (fun h => absurd h (by omega)) (fun _ => br_c (fun z => nm_r (nI_1 i) (nx ?_)) (fun z => And.intro (vp_in_nI (by omega) (by omega)) ?_)) hm rfl (by omega) (by omega)
      · rw [hb_t (by omega)] at z
        exact fun y => z y.1
      · rw [hb_t (by omega), Classical.not_not] at z
        rw [ei]
        refine br_c (fun y => H1 i (by omega) ⟨z, hb_an.mp y⟩ h) (fun y => nm_r (nI_1 i) (nx fun r => y (hb_an.mpr r.2)))
theorem xs_ready (hm : f_m = nI M) (hM : M ≤ 20) (post : Int32 → Prop) {u : Int32} (H1 : ∀ c, c < M → RdX a_feeders u c → (∀ d, d < c → ¬ RdX a_feeders u d) → post (nI c)) (H2 : (∀ c, c < M → ¬ RdX a_feeders u c) → post (-1)) : wpX_lowestReady post (f_draftId, f_editId, f_firstStay, f_n, f_m, f_allVariables, f_nextStamp, f_live, f_liveCount, f_marked, f_draftOpen, f_enforced, f_execCount, f_walkKnown, f_peelCount, f_planCount, a_values, a_before, a_kinds, a_strengths, a_constants, a_termCounts, a_termVars, a_termSigns, a_termModes, a_variableMasks, a_outputMasks, a_stamps, a_users, a_makers, a_ranked, a_atStrength, a_execIds, a_outputs, a_feeders, a_determiner, a_upstream, a_walk, a_agenda, a_peelIds, a_peelVars, a_plan) u :=
  Exists.intro (M + 1) (xl_ready hm hM post H1 H2 M 0 (M + 1) (by omega) (by omega) fun c hc => by omega)
theorem yl_fed (gm : g_m = nI M) (hM : M ≤ 20) (hN : N ≤ 10) (post : Int32 → Prop) {c : Nat} (R : RY N b_cCount b_tVar c) (hmem : ∀ d, d < M → ¬ b_member d = 0 → tn (b_out d) < N ∧ b_out d = nI (tn (b_out d)))
    (H1 : (∃ d, d < M ∧ d ≠ c ∧ ¬ b_member d = 0 ∧ UY N b_cCount b_tVar c (tn (b_out d))) → post 1) (H0 : (¬ ∃ d, d < M ∧ d ≠ c ∧ ¬ b_member d = 0 ∧ UY N b_cCount b_tVar c (tn (b_out d))) → post 0) :
    ∀ d i fuel, i + d = M → d < fuel → (∀ d, d < i → d ≠ c → ¬ b_member d = 0 → ¬ UY N b_cCount b_tVar c (tn (b_out d))) → wY_fedByMember_2 post (nI c) g_n g_m g_planLen g_clock b_cKind b_cStrength b_cK b_cCount b_tVar b_tSign b_tMode b_born b_here b_marked b_out b_inSet b_left b_last b_passed b_was b_member b_val b_old b_known b_plan fuel (nI i) := by
  have c32 := R.1
  intro d
  induction d with
  | zero =>
    intro i fuel hi hf h
    have e : i = M := by omega
    subst e
    cases fuel with
    | zero => omega
    | succ fuel => exact br_t (by rw [gm]; exact Int32.le_refl _) (H0 fun ⟨d, h1, h2, h3, h4⟩ => h d h1 h2 h3 h4)
  | succ d ih =>
    intro i fuel hi hf h
    cases fuel with
    | zero => omega
    | succ fuel =>
      have ei : (nI i).toNatClampNeg = i := nI_clamp (by omega)
      have vi : vp_in (nI i) 32 := vp_in_nI (by omega) (by omega)
      have nx : (i ≠ c → ¬ b_member i = 0 → ¬ UY N b_cCount b_tVar c (tn (b_out i))) → wY_fedByMember_2 post (nI c) g_n g_m g_planLen g_clock b_cKind b_cStrength b_cK b_cCount b_tVar b_tSign b_tMode b_born b_here b_marked b_out b_inSet b_left b_last b_passed b_was b_member b_val b_old b_known b_plan fuel (nI (i + 1)) := fun hn => ih (i + 1) fuel (by omega) (by omega) fun d hd => by
        rcases Nat.lt_or_ge d i with y | y
        · exact h d y
        · have : d = i := by omega
          subst this
          exact hn
      refine pk_le M i (fun h => absurd h (by omega)) (fun _ => pk_eq i c (fun z => nm_r (nI_1 i) (nx fun y => absurd z y)) (fun z => And.intro vi (br_c (fun y => nm_r (nI_1 i) (nx fun _ y' => ?_)) (fun y => And.intro vi ?_))) rfl rfl (by omega) (by omega)) gm rfl (by omega) (by omega)
      · rw [ei] at y
        exact absurd y y'
      · rw [ei] at y
        obtain ⟨ho, eo⟩ := hmem i (by omega) y
        rw [ei, eo]
        exact ys_tU _ ho R (fun r hr hu => br_f hr (H1 ⟨i, by omega, z, y, hu⟩)) (fun r hr hu => br_t hr (nm_r (nI_1 i) (nx fun _ _ => hu)))
theorem ys_fed (gm : g_m = nI M) (hM : M ≤ 20) (hN : N ≤ 10) (post : Int32 → Prop) {c : Nat} (R : RY N b_cCount b_tVar c) (hmem : ∀ d, d < M → ¬ b_member d = 0 → tn (b_out d) < N ∧ b_out d = nI (tn (b_out d)))
    (H1 : (∃ d, d < M ∧ d ≠ c ∧ ¬ b_member d = 0 ∧ UY N b_cCount b_tVar c (tn (b_out d))) → post 1) (H0 : (¬ ∃ d, d < M ∧ d ≠ c ∧ ¬ b_member d = 0 ∧ UY N b_cCount b_tVar c (tn (b_out d))) → post 0) : wpY_fedByMember post (g_n, g_m, g_planLen, g_clock, b_cKind, b_cStrength, b_cK, b_cCount, b_tVar, b_tSign, b_tMode, b_born, b_here, b_marked, b_out, b_inSet, b_left, b_last, b_passed, b_was, b_member, b_val, b_old, b_known, b_plan) (nI c) :=
  Exists.intro (M + 1) (yl_fed gm hM hN post R hmem H1 H0 M 0 (M + 1) (by omega) (by omega) fun d hd => by omega)
/-- what is known of both sides while extracting: the slots in E, with what feeds them -/
def XC (N M : Nat) (E : Int32) (ou fd : Nat → Int32) (cC tV out : Nat → Int32) : Prop :=
  (∀ c, Hb E c → c < 20 → c < M ∧ RY N cC tV c ∧ tn (ou c) < N ∧ out c = nI (tn (ou c)) ∧ ∀ d, Hb E d → d < 20 → (Hb (fd c) d ↔ d ≠ c ∧ UY N cC tV c (tn (ou d)))) ∧ ∀ c, c < M → ¬ Hb E c → out c < 0
theorem xc_mk (S : STR N M L q f_live f_marked f_draftOpen f_liveCount f_nextStamp g_clock a_kinds a_strengths a_constants a_termCounts a_termVars a_termSigns a_termModes a_variableMasks a_outputMasks a_users a_makers a_ranked a_atStrength a_stamps b_cKind b_cStrength b_cK b_cCount b_tVar b_tSign b_tMode b_born b_here b_marked) (E : EPR N f_live f_enforced f_execCount f_walkKnown a_strengths a_stamps a_users a_makers a_execIds a_outputs a_feeders a_determiner a_upstream a_walk b_out) (hN : N ≤ 10) (hM : M ≤ 20) : XC N M f_enforced a_outputs a_feeders b_cCount b_tVar b_out := by
  obtain ⟨p, ep, f1, f2, f3, f4, f5, f6, f7, f8⟩ := E.2.2.2.1
  have hE := E.1.1
  refine ⟨fun c hc h20 => ?_, fun c hc hn => ?_⟩
  · have hV : Vd N f_live f_draftOpen c := dx_vd (hE c hc)
    obtain ⟨i, hi, ei⟩ := f2.2.1 c hc
    have ei' : tn (a_execIds i) = c := ei
    have hmk : UX N a_makers (tn (a_execIds i)) (tn (a_outputs (tn (a_execIds i)))) := (f2.1 i hi).2
    rw [ei'] at hmk
    refine ⟨S.2.1.1 c ((hE c hc).elim id fun y => absurd y.1 (by omega)), st_RY S hN hV, hmk.1, by rw [E.2.2.2.2.1 c (hb_lt hc)]; exact (f4 c hc).1, fun d hd _ => ?_⟩
    rw [f7 c hc d, st_u S hN hV]
    exact ⟨fun h => h.2, fun h => ⟨hd, h⟩⟩
  · rw [E.2.2.2.2.1 c (by omega), f6 c (by omega) hn]; decide
/-- the members: closed under feeding, from the marks -/
def MbO (E marked : Int32) (fd : Nat → Int32) (m : Int32) : Prop := (∀ c, Hb m c → Hb E c ∧ c < 20) ∧ ∀ c, Hb E c → c < 20 → (Hb m c ↔ Hb marked c ∨ ∃ d, Hb m d ∧ Hb (fd c) d)
theorem xl_mem (hmu : ∀ c v, UX N a_makers c v → UX N a_users c v) (F : FX N (UX N a_users) (UX N a_makers) f_enforced p a_execIds a_outputs a_feeders a_determiner a_upstream) (hN : N ≤ 10) (ep : f_execCount = nI p) (post : Int32 → SX → Prop)
    (H : ∀ m, MbO f_enforced f_marked a_feeders m → ∃ n92, wX_extract_92 post f_draftId f_editId f_firstStay f_n f_m f_allVariables f_nextStamp f_live f_liveCount f_marked f_draftOpen f_enforced f_execCount f_walkKnown f_peelCount n92 m 0 0 a_values a_before a_kinds a_strengths a_constants a_termCounts a_termVars a_termSigns a_termModes a_variableMasks a_outputMasks a_stamps a_users a_makers a_ranked a_atStrength a_execIds a_outputs a_feeders a_determiner a_upstream a_walk a_agenda a_peelIds a_peelVars a_plan) :
    ∀ d i m fuel, i + d = p → d < fuel → (∀ c, Hb m c → ∃ j, j < i ∧ tn (a_execIds j) = c ∧ c < 20) → (∀ j, j < i → tn (a_execIds j) < 20 → (Hb m (tn (a_execIds j)) ↔ Hb f_marked (tn (a_execIds j)) ∨ ∃ d, Hb m d ∧ Hb (a_feeders (tn (a_execIds j))) d)) → wX_extract_4 post f_draftId f_editId f_firstStay f_n f_m f_allVariables f_nextStamp f_live f_liveCount f_marked f_draftOpen f_enforced f_execCount f_walkKnown f_peelCount f_planCount a_values a_before a_kinds a_strengths a_constants a_termCounts a_termVars a_termSigns a_termModes a_variableMasks a_outputMasks a_stamps a_users a_makers a_ranked a_atStrength a_execIds a_outputs a_feeders a_determiner a_upstream a_walk a_agenda a_peelIds a_peelVars a_plan fuel m (nI i) := by
  obtain ⟨f1, f2, f3, f4, f5, f6, f7, f8⟩ := F
  intro d
  induction d with
  | zero =>
    intro i m fuel hi hf h1 h2
    have e : i = p := by omega
    subst e
    cases fuel with
    | zero => omega
    | succ fuel =>
      refine br_t (by rw [ep]; exact Int32.le_refl _) (H m ⟨fun c hc => ?_, fun c hc h20 => ?_⟩)
      · obtain ⟨j, hj, e, h20⟩ := h1 c hc
        subst e
        exact ⟨(f2.1 j hj).1, h20⟩
      · obtain ⟨j, hj, e⟩ := f2.2.1 c hc
        have e' : tn (a_execIds j) = c := e
        subst e'
        exact h2 j hj h20
  | succ d ih =>
    intro i m fuel hi hf h1 h2
    cases fuel with
    | zero => omega
    | succ fuel =>
      have hip : i < p := by omega
      have hcE : Hb f_enforced (tn (a_execIds i)) := (f2.1 i hip).1
      have c32 := hb_lt hcE
      have ei : (nI i).toNatClampNeg = i := nI_clamp (by omega)
      have ec : (nI (tn (a_execIds i))).toNatClampNeg = tn (a_execIds i) := nI_clamp (by omega)
      have vc : vp_in (nI (tn (a_execIds i))) 32 := vp_in_nI c32 (by omega)
      -- earlier ones are not fed by it
      have nofeed : ∀ j, j < i → ¬ Hb (a_feeders (tn (a_execIds j))) (tn (a_execIds i)) := fun j hj hfd => by
        obtain ⟨_, hne, hu⟩ := (f7 _ (f2.1 j (by omega)).1 _).mp hfd
        have := f2.2.2 i j hip (by omega) hu (by omega)
        omega
      have noself : ¬ Hb (a_feeders (tn (a_execIds i))) (tn (a_execIds i)) := fun hfd => ((f7 _ hcE _).mp hfd).2.1 rfl
      have nomem : ¬ Hb m (tn (a_execIds i)) := fun hm => by
        obtain ⟨j, hj, e, _⟩ := h1 _ hm
        have := fp_xs f2 hmu (show j < p by omega) hip e
        omega
      have stay : ¬ (tn (a_execIds i) < 20 ∧ (Hb f_marked (tn (a_execIds i)) ∨ ∃ d, Hb m d ∧ Hb (a_feeders (tn (a_execIds i))) d)) → wX_extract_4 post f_draftId f_editId f_firstStay f_n f_m f_allVariables f_nextStamp f_live f_liveCount f_marked f_draftOpen f_enforced f_execCount f_walkKnown f_peelCount f_planCount a_values a_before a_kinds a_strengths a_constants a_termCounts a_termVars a_termSigns a_termModes a_variableMasks a_outputMasks a_stamps a_users a_makers a_ranked a_atStrength a_execIds a_outputs a_feeders a_determiner a_upstream a_walk a_agenda a_peelIds a_peelVars a_plan fuel m (nI (i + 1)) := fun hno => by
        refine ih (i + 1) m fuel (by omega) (by omega) (fun c hc => ?_) (fun j hj h20 => ?_)
        · obtain ⟨j, hj, e⟩ := h1 c hc
          exact ⟨j, by omega, e⟩
        · rcases Nat.lt_or_ge j i with y | y
          · exact h2 j y h20
          · have : j = i := by omega
            subst this
            exact ⟨fun z => absurd z nomem, fun z => absurd ⟨h20, z⟩ hno⟩
      have add : tn (a_execIds i) < 20 → (Hb f_marked (tn (a_execIds i)) ∨ ∃ d, Hb m d ∧ Hb (a_feeders (tn (a_execIds i))) d) → wX_extract_4 post f_draftId f_editId f_firstStay f_n f_m f_allVariables f_nextStamp f_live f_liveCount f_marked f_draftOpen f_enforced f_execCount f_walkKnown f_peelCount f_planCount a_values a_before a_kinds a_strengths a_constants a_termCounts a_termVars a_termSigns a_termModes a_variableMasks a_outputMasks a_stamps a_users a_makers a_ranked a_atStrength a_execIds a_outputs a_feeders a_determiner a_upstream a_walk a_agenda a_peelIds a_peelVars a_plan fuel (m ||| ((1 : Int32) <<< (nI (tn (a_execIds i)) &&& 31))) (nI (i + 1)) := fun h20 hyes => by
        refine ih (i + 1) _ fuel (by omega) (by omega) (fun c hc => ?_) (fun j hj h20' => ?_)
        · rw [hb_or, hb_one c32] at hc
          rcases hc with hc | hc
          · obtain ⟨j, hj, e⟩ := h1 c hc
            exact ⟨j, by omega, e⟩
          · exact ⟨i, by omega, hc.symm, hc ▸ h20⟩
        · rcases Nat.lt_or_ge j i with y | y
          · have hne : tn (a_execIds j) ≠ tn (a_execIds i) := fun e => by
              have := fp_xs f2 hmu (show j < p by omega) hip e
              omega
            rw [hb_or, hb_one c32, h2 j y h20']
            constructor
            · rintro ((z | ⟨d, z1, z2⟩) | z)
              · exact Or.inl z
              · exact Or.inr ⟨d, hb_or.mpr (Or.inl z1), z2⟩
              · exact absurd z hne
            · rintro (z | ⟨d, z1, z2⟩)
              · exact Or.inl (Or.inl z)
              · rw [hb_or, hb_one c32] at z1
                rcases z1 with z1 | z1
                · exact Or.inl (Or.inr ⟨d, z1, z2⟩)
                · subst z1
                  exact absurd z2 (nofeed j y)
          · have : j = i := by omega
            subst this
            rw [hb_or, hb_one c32]
            refine ⟨fun _ => ?_, fun _ => Or.inr rfl⟩
            rcases hyes with z | ⟨d, z1, z2⟩
            · exact Or.inl z
            · exact Or.inr ⟨d, hb_or.mpr (Or.inl z1), z2⟩
      have e53 : ∀ (z0 x4 : Int32), ((¬ x4 = 0) ↔ Hb f_marked (tn (a_execIds i))) → ((¬ z0 = 0) ↔ ∃ d, Hb m d ∧ Hb (a_feeders (tn (a_execIds i))) d) → wX_extract_53 post (wX_extract_4 post f_draftId f_editId f_firstStay f_n f_m f_allVariables f_nextStamp f_live f_liveCount f_marked f_draftOpen f_enforced f_execCount f_walkKnown f_peelCount f_planCount a_values a_before a_kinds a_strengths a_constants a_termCounts a_termVars a_termSigns a_termModes a_variableMasks a_outputMasks a_stamps a_users a_makers a_ranked a_atStrength a_execIds a_outputs a_feeders a_determiner a_upstream a_walk a_agenda a_peelIds a_peelVars a_plan fuel) m (nI i) (nI (tn (a_execIds i))) x4 z0 f_draftId f_editId f_firstStay f_n f_m f_allVariables f_nextStamp f_live f_liveCount f_marked f_draftOpen f_enforced f_execCount f_walkKnown f_peelCount f_planCount a_values a_before a_kinds a_strengths a_constants a_termCounts a_termVars a_termSigns a_termModes a_variableMasks a_outputMasks a_stamps a_users a_makers a_ranked a_atStrength a_execIds a_outputs a_feeders a_determiner a_upstream a_walk a_agenda a_peelIds a_peelVars a_plan := fun z0 x4 hx hz => by
        refine pk_le 20 (tn (a_execIds i)) (fun h => nm_r (nI_1 i) (stay fun y => by have := y.1; omega)) (fun h => br_c (fun a => br_c (fun b => nm_r (nI_1 i) (stay fun y => ?_)) (fun b => nm_e (nm_r (nI_1 i) (add h (Or.inr (hz.mp b)))))) (fun a => nm_e (nm_r (nI_1 i) (add h (Or.inl (hx.mp a)))))) rfl rfl (by omega) (by omega)
        rcases y.2 with z | z
        · exact hx.mpr z a
        · exact hz.mpr z b
      have e35 : ∀ x4 : Int32, ((¬ x4 = 0) ↔ Hb f_marked (tn (a_execIds i))) → wX_extract_35 post (wX_extract_4 post f_draftId f_editId f_firstStay f_n f_m f_allVariables f_nextStamp f_live f_liveCount f_marked f_draftOpen f_enforced f_execCount f_walkKnown f_peelCount f_planCount a_values a_before a_kinds a_strengths a_constants a_termCounts a_termVars a_termSigns a_termModes a_variableMasks a_outputMasks a_stamps a_users a_makers a_ranked a_atStrength a_execIds a_outputs a_feeders a_determiner a_upstream a_walk a_agenda a_peelIds a_peelVars a_plan fuel) m (nI i) (nI (tn (a_execIds i))) x4 f_draftId f_editId f_firstStay f_n f_m f_allVariables f_nextStamp f_live f_liveCount f_marked f_draftOpen f_enforced f_execCount f_walkKnown f_peelCount f_planCount a_values a_before a_kinds a_strengths a_constants a_termCounts a_termVars a_termSigns a_termModes a_variableMasks a_outputMasks a_stamps a_users a_makers a_ranked a_atStrength a_execIds a_outputs a_feeders a_determiner a_upstream a_walk a_agenda a_peelIds a_peelVars a_plan := fun x4 hx => by
        refine And.intro vc ?_
        rw [ec]
        refine br_c (fun z => e53 0 x4 hx ⟨fun y => absurd rfl y, fun ⟨d, z1, z2⟩ => absurd z1 (hb_an.mp z d z2)⟩) (fun z => e53 1 x4 hx ⟨fun _ => ?_, fun _ => by decide⟩)
        obtain ⟨d, hd⟩ := hb_nz.mp z
        exact ⟨d, (hb_and.mp hd).2, (hb_and.mp hd).1⟩
      refine pk_le p i (fun h => absurd h (by omega)) (fun _ => And.intro (vp_in_nI (by omega) (by omega)) (nm_r (e' := nI (tn (a_execIds i))) (by rw [ei]; exact f3 i hip) (br_c (fun z => e35 0 ?_) (fun z => e35 1 ?_)))) ep rfl (by omega) (by omega)
      · rw [hb_t c32] at z
        exact ⟨fun y => absurd rfl y, fun y => absurd y z⟩
      · rw [hb_t c32, Classical.not_not] at z
        exact ⟨fun _ => z, fun _ => by decide⟩
end
end
section
/-! extract: the reference's closure, the listing -/
section
variable {f_draftId f_editId f_firstStay f_n f_m f_allVariables f_live f_liveCount f_marked f_draftOpen f_enforced f_execCount f_walkKnown f_peelCount f_planCount : Int32} {f_nextStamp : Int64} {a_values a_before a_kinds a_strengths a_constants a_termCounts a_termVars a_termSigns a_termModes a_variableMasks a_outputMasks a_users a_makers a_ranked a_atStrength a_execIds a_outputs a_feeders a_determiner a_upstream a_walk a_agenda a_peelIds a_peelVars a_plan : Nat → Int32} {a_stamps : Nat → Int64}
variable {g_n g_m g_planLen : Int32} {g_clock : Int64} {b_cKind b_cStrength b_cK b_cCount b_tVar b_tSign b_tMode b_here b_marked b_out b_inSet b_left b_last b_passed b_was b_member b_val b_old b_known b_plan : Nat → Int32} {b_born : Nat → Int64}
variable {N M L q p : Nat}
/-- the slots executed ahead of place i -/
noncomputable def srN (M : Nat) (xs : Nat → Nat) (i : Nat) : Nat := cn (fun d => ∃ j, j < i ∧ xs j = d) M
theorem sr_lt {M p : Nat} {xs : Nat → Nat} (hi : ∀ i j, i < p → j < p → xs i = xs j → i = j) {i j : Nat} (hj : j < i) (hip : i < p) (hM : xs j < M) : srN M xs j < srN M xs i :=
  cn_lt (a := xs j) (fun ⟨l, hl, e⟩ => by have := hi l j (by omega) (by omega) e; omega) ⟨j, hj, rfl⟩ (fun d _ ⟨l, hl, e⟩ => ⟨l, by omega, e⟩) hM
theorem sr_M {M p : Nat} {xs : Nat → Nat} (hi : ∀ i j, i < p → j < p → xs i = xs j → i = j) {i : Nat} (hip : i < p) (hM : xs i < M) : srN M xs i < M :=
  cn_ltN (a := xs i) (fun ⟨l, hl, e⟩ => by have := hi l i (by omega) hip e; omega) hM
def MbI (M : Nat) (E marked m : Int32) (mb : Nat → Int32) : Prop := (∀ c, c < M → ¬ mb c = 0 → Hb m c) ∧ ∀ c, c < M → Hb E c → Hb marked c → ¬ mb c = 0
theorem yl_e57 (gm : g_m = nI M) (hM : M ≤ 20) (hN : N ≤ 10) (X : XC N M f_enforced a_outputs a_feeders b_cCount b_tVar b_out) {m : Int32} (hm : MbO f_enforced f_marked a_feeders m) (post : Int32 → SY → Prop)
    (J47 : Int32 → (Nat → Int32) → (Nat → Int32) → (Nat → Int32) → (Nat → Int32) → (Nat → Int32) → (Nat → Int32) → (Nat → Int32) → (Nat → Int64) → (Nat → Int32) → (Nat → Int32) → (Nat → Int32) → (Nat → Int32) → (Nat → Int32) → (Nat → Int32) → (Nat → Int32) → (Nat → Int32) → (Nat → Int32) → (Nat → Int32) → (Nat → Int32) → (Nat → Int32) → (Nat → Int32) → Prop)
    {rd : Nat} {xs : Nat → Nat} (hxE : ∀ c, Hb f_enforced c → ∃ i, i < p ∧ xs i = c) (hEx : ∀ i, i < p → Hb f_enforced (xs i)) (hinj : ∀ i j, i < p → j < p → xs i = xs j → i = j) (hord : ∀ i j, i < p → j < p → Hb (a_feeders (xs i)) (xs j) → j < i)
    (HJ : ∀ mb, MbI M f_enforced f_marked m mb → (∀ i, i < p → Hb m (xs i) → srN M xs i < rd + 1 → ¬ mb (xs i) = 0) → J47 (nI (rd + 1)) b_cKind b_cStrength b_cK b_cCount b_tVar b_tSign b_tMode b_born b_here b_marked b_out b_inSet b_left b_last b_passed b_was mb b_val b_old b_known b_plan) :
    ∀ d c mb fuel, c + d = M → d < fuel → MbI M f_enforced f_marked m mb → (∀ i, i < p → Hb m (xs i) → (srN M xs i < rd ∨ (srN M xs i = rd ∧ xs i < c)) → ¬ mb (xs i) = 0) → wY_extract_57 post J47 (nI rd) g_n g_m g_planLen g_clock fuel (nI c) b_cKind b_cStrength b_cK b_cCount b_tVar b_tSign b_tMode b_born b_here b_marked b_out b_inSet b_left b_last b_passed b_was mb b_val b_old b_known b_plan := by
  have mM : ∀ c, Hb m c → c < M := fun c hc => (X.1 c (hm.1 c hc).1 (hm.1 c hc).2).1
  intro d
  induction d with
  | zero =>
    intro c mb fuel hi hf h1 h2
    have e : c = M := by omega
    subst e
    cases fuel with
    | zero => omega
    | succ fuel =>
      refine br_t (by rw [gm]; exact Int32.le_refl _) (nm_r (nI_1 rd) (HJ mb h1 fun i hi hmi hlt => h2 i hi hmi ?_))
      rcases Nat.lt_or_ge (srN c xs i) rd with y | y
      · exact Or.inl y
      · exact Or.inr ⟨by omega, mM _ hmi⟩
  | succ d ih =>
    intro c mb fuel hi hf h1 h2
    cases fuel with
    | zero => omega
    | succ fuel =>
      have ec : (nI c).toNatClampNeg = c := nI_clamp (by omega)
      have vc : vp_in (nI c) 32 := vp_in_nI (by omega) (by omega)
      have nx : (∀ i, i < p → xs i = c → Hb m c → srN M xs i = rd → ¬ mb c = 0) → wY_extract_57 post J47 (nI rd) g_n g_m g_planLen g_clock fuel (nI (c + 1)) b_cKind b_cStrength b_cK b_cCount b_tVar b_tSign b_tMode b_born b_here b_marked b_out b_inSet b_left b_last b_passed b_was mb b_val b_old b_known b_plan := fun hc => by
        refine ih (c + 1) mb fuel (by omega) (by omega) h1 fun i hi hmi hlt => ?_
        rcases hlt with y | ⟨y1, y2⟩
        · exact h2 i hi hmi (Or.inl y)
        · rcases Nat.lt_or_ge (xs i) c with y | y
          · exact h2 i hi hmi (Or.inr ⟨y1, y⟩)
          · have : xs i = c := by omega
            rw [this] at hmi ⊢
            exact hc i hi this hmi y1
      refine pk_le M c (fun h => absurd h (by omega)) (fun _ => And.intro vc ?_) gm rfl (by omega) (by omega)
      rw [ec]
      rcases Classical.em (Hb f_enforced c) with hcE | hcE
      · obtain ⟨_, R, ho, eo, hfd⟩ := X.1 c hcE (by omega)
        rw [eo]
        refine br_f (nI_pos (by omega)) ?_
        have hmem : ∀ d, d < M → ¬ mb d = 0 → Hb m d ∧ tn (b_out d) = tn (a_outputs d) ∧ tn (b_out d) < N ∧ b_out d = nI (tn (b_out d)) := fun d hd hne => by
          have hmd := h1.1 d hd hne
          obtain ⟨_, _, g1, g2, _⟩ := X.1 d (hm.1 d hmd).1 (hm.1 d hmd).2
          have : tn (b_out d) = tn (a_outputs d) := by rw [g2]; exact tn_nI (by omega)
          exact ⟨hmd, this, by rw [this]; exact g1, by rw [this]; exact g2⟩
        refine ys_fed gm hM hN _ R (fun d hd hne => (hmem d hd hne).2.2) (fun hfed => ?_) (fun hno => ?_)
        · obtain ⟨d, hd, hdc, hmb, hu⟩ := hfed
          obtain ⟨hmd, e1, _⟩ := hmem d hd hmb
          rw [e1] at hu
          have hmc : Hb m c := (hm.2 c hcE (by omega)).mpr (Or.inr ⟨d, hmd, (hfd d (hm.1 d hmd).1 (hm.1 d hmd).2).mpr ⟨hdc, hu⟩⟩)
          refine br_f (by decide) (And.intro vc (nm_r (e' := upd mb c 1) (by rw [vb1]) (nm_r (nI_1 c) (ih (c + 1) _ fuel (by omega) (by omega) ⟨fun d hd hne => ?_, fun d hd hdE hdm => ?_⟩ fun i hi hmi hlt => ?_))))
          · rcases Classical.em (d = c) with z | z
            · rw [z]; exact hmc
            · rw [pk_un z] at hne; exact h1.1 d hd hne
          · rcases Classical.em (d = c) with z | z
            · rw [z, pk_us]; decide
            · rw [pk_un z]; exact h1.2 d hd hdE hdm
          · rcases Classical.em (xs i = c) with z | z
            · rw [z, pk_us]; decide
            · rw [pk_un z]
              refine h2 i hi hmi (hlt.imp id fun y => ⟨y.1, by omega⟩)
        · refine br_t rfl (nm_r (nI_1 c) (nx fun i hi exi hmc hsr => ?_))
          rcases (hm.2 c hcE (by omega)).mp hmc with z | ⟨d, hmd, hfdd⟩
          · exact h1.2 c (by omega) hcE z
          · exfalso
            obtain ⟨hdE, hd20⟩ := hm.1 d hmd
            obtain ⟨j, hj, ej⟩ := hxE d hdE
            have hji : j < i := hord i j hi hj (by rw [exi, ej]; exact hfdd)
            have hs := sr_lt (M := M) hinj hji hi (by rw [ej]; exact mM d hmd)
            have hmb := h2 j hj (by rw [ej]; exact hmd) (Or.inl (by omega))
            rw [ej] at hmb
            obtain ⟨g1, g2⟩ := (hfd d hdE hd20).mp hfdd
            obtain ⟨_, e1, _⟩ := hmem d (mM d hmd) hmb
            exact hno ⟨d, mM d hmd, g1, hmb, by rw [e1]; exact g2⟩
      · refine br_t (X.2 c (by omega) hcE) (nm_r (nI_1 c) (nx fun i hi exi => absurd (exi ▸ hEx i hi) hcE))
theorem yl_e47 (gm : g_m = nI M) (hM : M ≤ 20) (hN : N ≤ 10) (X : XC N M f_enforced a_outputs a_feeders b_cCount b_tVar b_out) {m : Int32} (hm : MbO f_enforced f_marked a_feeders m) (post : Int32 → SY → Prop)
    {xs : Nat → Nat} (hxE : ∀ c, Hb f_enforced c → ∃ i, i < p ∧ xs i = c) (hEx : ∀ i, i < p → Hb f_enforced (xs i)) (hinj : ∀ i j, i < p → j < p → xs i = xs j → i = j) (hord : ∀ i j, i < p → j < p → Hb (a_feeders (xs i)) (xs j) → j < i)
    (H : ∀ mb, (∀ c, c < M → (¬ mb c = 0 ↔ Hb m c)) → ∃ n108, wY_extract_108 post g_n g_m g_clock n108 0 0 b_cKind b_cStrength b_cK b_cCount b_tVar b_tSign b_tMode b_born b_here b_marked b_out b_inSet b_left b_last b_passed b_was mb b_val b_old b_known b_plan) :
    ∀ d rd mb fuel, rd + d = M → d < fuel → MbI M f_enforced f_marked m mb → (∀ i, i < p → Hb m (xs i) → srN M xs i < rd → ¬ mb (xs i) = 0) → wY_extract_47 post g_n g_m g_planLen g_clock fuel (nI rd) b_cKind b_cStrength b_cK b_cCount b_tVar b_tSign b_tMode b_born b_here b_marked b_out b_inSet b_left b_last b_passed b_was mb b_val b_old b_known b_plan := by
  intro d
  induction d with
  | zero =>
    intro rd mb fuel hi hf h1 h2
    have e : rd = M := by omega
    subst e
    cases fuel with
    | zero => omega
    | succ fuel =>
      refine br_t (by rw [gm]; exact Int32.le_refl _) (H mb fun c hc => ⟨h1.1 c hc, fun hmc => ?_⟩)
      obtain ⟨i, hi, e⟩ := hxE c (hm.1 c hmc).1
      subst e
      exact h2 i hi hmc (sr_M hinj hi hc)
  | succ d ih =>
    intro rd mb fuel hi hf h1 h2
    cases fuel with
    | zero => omega
    | succ fuel =>
      refine pk_le M rd (fun h => absurd h (by omega)) (fun _ => Exists.intro (M + 1) (yl_e57 gm hM hN X hm post _ hxE hEx hinj hord (fun mb' g1 g2 => ih (rd + 1) mb' fuel (by omega) (by omega) g1 g2) M 0 mb (M + 1) (by omega) (by omega) h1 fun i hi hmi hlt => ?_)) gm rfl (by omega) (by omega)
      rcases hlt with y | ⟨_, y⟩
      · exact h2 i hi hmi y
      · omega
theorem yl_e2 (gm : g_m = nI M) (hM : M ≤ 20) (post : Int32 → SY → Prop) (H : ∀ mb, (∀ c, c < M → (¬ mb c = 0 ↔ ¬ b_out c < 0 ∧ ¬ b_marked c = 0)) → ∃ n47, wY_extract_47 post g_n g_m g_planLen g_clock n47 0 b_cKind b_cStrength b_cK b_cCount b_tVar b_tSign b_tMode b_born b_here b_marked b_out b_inSet b_left b_last b_passed b_was mb b_val b_old b_known b_plan) :
    ∀ d i mb fuel, i + d = M → d < fuel → (∀ c, c < i → (¬ mb c = 0 ↔ ¬ b_out c < 0 ∧ ¬ b_marked c = 0)) → wY_extract_2 post g_n g_m g_planLen g_clock fuel (nI i) b_cKind b_cStrength b_cK b_cCount b_tVar b_tSign b_tMode b_born b_here b_marked b_out b_inSet b_left b_last b_passed b_was mb b_val b_old b_known b_plan := by
  intro d
  induction d with
  | zero =>
    intro i mb fuel hi hf h
    have e : i = M := by omega
    subst e
    cases fuel with
    | zero => omega
    | succ fuel => exact br_t (by rw [gm]; exact Int32.le_refl _) (H mb h)
  | succ d ih =>
    intro i mb fuel hi hf h
    cases fuel with
    | zero => omega
    | succ fuel =>
      have vi : vp_in (nI i) 32 := vp_in_nI (by omega) (by omega)
      have ei : (nI i).toNatClampNeg = i := nI_clamp (by omega)
      have nx : ∀ y : Int32, (¬ y = 0 ↔ ¬ b_out i < 0 ∧ ¬ b_marked i = 0) → ∀ c, c < i + 1 → (¬ upd mb i y c = 0 ↔ ¬ b_out c < 0 ∧ ¬ b_marked c = 0) := fun y hy c hc => by
        rcases Nat.lt_or_ge c i with z | z
        · rw [pk_un (by omega)]; exact h c z
        · have : c = i := by omega
          subst this
          rw [pk_us]; exact hy
      have n1 : ¬ (1 : Int32) = 0 := by decide
      refine pk_le M i (fun h => absurd h (by omega)) (fun _ => And.intro vi ?_) gm rfl (by omega) (by omega)
      rw [ei]
      refine br_c (fun z => And.intro vi (nm_r (e' := upd mb i 0) (by rw [vb0]) (nm_r (nI_1 i) (ih (i + 1) _ fuel (by omega) (by omega) (nx 0 ⟨fun y => absurd rfl y, fun y => absurd z y.1⟩))))) (fun z => And.intro vi (br_c (fun y => And.intro vi (nm_r (e' := upd mb i 0) (by rw [vb0]) (nm_r (nI_1 i) (ih (i + 1) _ fuel (by omega) (by omega) (nx 0 ⟨fun y => absurd rfl y, fun y' => absurd y y'.2⟩))))) (fun y => And.intro vi (nm_r (e' := upd mb i 1) (by rw [vb1]) (nm_r (nI_1 i) (ih (i + 1) _ fuel (by omega) (by omega) (nx 1 ⟨fun _ => ⟨z, y⟩, fun _ => n1⟩)))))))
/-- the reference's scan for the lowest ready one, downwards -/
theorem yl_e125 (gm : g_m = nI M) (hM : M ≤ 20) (hN : N ≤ 10) (X : XC N M f_enforced a_outputs a_feeders b_cCount b_tVar b_out) {u : Int32} (huE : ∀ c, Hb u c → Hb f_enforced c ∧ c < 20) (hfE : ∀ c, Hb f_enforced c → ∀ d, Hb (a_feeders c) d → Hb f_enforced d) (hmb : ∀ c, c < M → (¬ b_member c = 0 ↔ Hb u c)) (post : Int32 → SY → Prop)
    (J : Int32 → Int32 → (Nat → Int32) → (Nat → Int32) → (Nat → Int32) → (Nat → Int32) → (Nat → Int32) → (Nat → Int32) → (Nat → Int32) → (Nat → Int64) → (Nat → Int32) → (Nat → Int32) → (Nat → Int32) → (Nat → Int32) → (Nat → Int32) → (Nat → Int32) → (Nat → Int32) → (Nat → Int32) → (Nat → Int32) → (Nat → Int32) → (Nat → Int32) → (Nat → Int32) → (Nat → Int32) → Prop)
    {rd : Nat} {pl : Nat} (epl : g_planLen = nI pl)
    (H1 : ∀ c, c < M → RdX a_feeders u c → (∀ d, d < c → ¬ RdX a_feeders u d) → pl < 20 ∧ J (nI (rd + 1)) (nI (pl + 1)) b_cKind b_cStrength b_cK b_cCount b_tVar b_tSign b_tMode b_born b_here b_marked b_out b_inSet b_left b_last b_passed b_was (upd b_member c 0) b_val b_old b_known (upd b_plan pl (nI c))) (H2 : (∀ c, c < M → ¬ RdX a_feeders u c) → J (nI (rd + 1)) g_planLen b_cKind b_cStrength b_cK b_cCount b_tVar b_tSign b_tMode b_born b_here b_marked b_out b_inSet b_left b_last b_passed b_was b_member b_val b_old b_known b_plan) :
    ∀ s x2 fuel, s ≤ M → s < fuel → ((x2 = -1 ∧ ∀ c, s ≤ c → c < M → ¬ RdX a_feeders u c) ∨ (∃ r, s ≤ r ∧ r < M ∧ x2 = nI r ∧ RdX a_feeders u r ∧ ∀ c, s ≤ c → c < r → ¬ RdX a_feeders u c)) → wY_extract_125 post J (nI rd) g_n g_m g_planLen g_clock b_cKind b_cStrength b_cK b_cCount b_tVar b_tSign b_tMode b_born b_here b_marked b_out b_inSet b_left b_last b_passed b_was b_member b_val b_old b_known b_plan fuel x2 (nI s + (-1)) := by
  intro s
  induction s with
  | zero =>
    intro x2 fuel hs hf h
    cases fuel with
    | zero => omega
    | succ fuel =>
      refine br_t (by decide) ?_
      rcases h with ⟨e, h⟩ | ⟨r, _, hr, e, hrd, h⟩
      · subst e
        exact br_t (by decide) (nm_r (nI_1 rd) (H2 fun c hc => h c (by omega) hc))
      · subst e
        obtain ⟨hpl, hJ⟩ := H1 r hr hrd fun d hd => h d (by omega) hd
        refine br_f (nI_pos (by omega)) (And.intro (by rw [epl]; exact vp_in_nI hpl (by omega)) (nm_r (e' := upd b_plan pl (nI r)) (by rw [epl, nI_clamp (by omega)]) (nm_r (e' := nI (pl + 1)) (by rw [epl, nI_1]) (And.intro (vp_in_nI (by omega) (by omega)) (nm_r (e' := upd b_member r 0) (by rw [nI_clamp (by omega), vb0]) (nm_r (nI_1 rd) hJ))))))
  | succ s ih =>
    intro x2 fuel hs hf h
    cases fuel with
    | zero => omega
    | succ fuel =>
      rw [pk_m1]
      have es : (nI s).toNatClampNeg = s := nI_clamp (by omega)
      have keep : ¬ RdX a_feeders u s → wY_extract_125 post J (nI rd) g_n g_m g_planLen g_clock b_cKind b_cStrength b_cK b_cCount b_tVar b_tSign b_tMode b_born b_here b_marked b_out b_inSet b_left b_last b_passed b_was b_member b_val b_old b_known b_plan fuel x2 (nI s + (-1)) := fun hn => by
        refine ih x2 fuel (by omega) (by omega) ?_
        have lo : ∀ c, s ≤ c → c = s ∨ s + 1 ≤ c := fun c hc => by omega
        rcases h with ⟨e, h⟩ | ⟨r, h1, hr, e, hrd, h⟩
        · exact Or.inl ⟨e, fun c h1 h2 => (lo c h1).elim (fun z => z ▸ hn) fun z => h c z h2⟩
        · exact Or.inr ⟨r, by omega, hr, e, hrd, fun c h2 h3 => (lo c h2).elim (fun z => z ▸ hn) fun z => h c z h3⟩
      refine br_f (nI_pos (by omega)) (And.intro (vp_in_nI (by omega) (by omega)) ?_)
      rw [es]
      refine br_c (fun z => nm_e (keep fun hr => (hmb s (by omega)).mpr hr.1 z)) (fun z => ?_)
      have hu := (hmb s (by omega)).mp z
      obtain ⟨hsE, hs20⟩ := huE s hu
      obtain ⟨_, R, ho, eo, hfd⟩ := X.1 s hsE hs20
      have hmem : ∀ d, d < M → ¬ b_member d = 0 → Hb u d ∧ tn (b_out d) = tn (a_outputs d) ∧ tn (b_out d) < N ∧ b_out d = nI (tn (b_out d)) := fun d hd hne => by
        have hmd := (hmb d hd).mp hne
        obtain ⟨_, _, g1, g2, _⟩ := X.1 d (huE d hmd).1 (huE d hmd).2
        have : tn (b_out d) = tn (a_outputs d) := by rw [g2]; exact tn_nI (by omega)
        exact ⟨hmd, this, by rw [this]; exact g1, by rw [this]; exact g2⟩
      refine ys_fed gm hM hN _ R (fun d hd hne => (hmem d hd hne).2.2) (fun hfed => br_f (by decide) (nm_e (keep fun hr => ?_))) (fun hno => br_t rfl (nm_e (ih (nI s) fuel (by omega) (by omega) (Or.inr ⟨s, by omega, by omega, rfl, ⟨hu, fun d hd hud => ?_⟩, fun c h2 h3 => by omega⟩))))
      · obtain ⟨d, hd, hdc, hne, huy⟩ := hfed
        obtain ⟨g1, g2, _⟩ := hmem d hd hne
        rw [g2] at huy
        exact hr.2 d ((hfd d (huE d g1).1 (huE d g1).2).mpr ⟨hdc, huy⟩) g1
      · obtain ⟨hdE, hd20⟩ := huE d hud
        have hdM := (X.1 d hdE hd20).1
        obtain ⟨g1, g2⟩ := (hfd d hdE hd20).mp hd
        have hne := (hmb d hdM).mpr hud
        obtain ⟨_, e1, _⟩ := hmem d hdM hne
        exact hno ⟨d, hdM, g1, hne, by rw [e1]; exact g2⟩
theorem yl_idle (gm : g_m = nI M) (hM2 : 2 ≤ M) (hM : M ≤ 20) (hN : N ≤ 10) (X : XC N M f_enforced a_outputs a_feeders b_cCount b_tVar b_out) (hfE : ∀ c, Hb f_enforced c → ∀ d, Hb (a_feeders c) d → Hb f_enforced d) (hmb : ∀ c, c < M → b_member c = 0) (post : Int32 → SY → Prop) {pl : Nat} (H : post (nI pl) (g_n, g_m, nI pl, g_clock, b_cKind, b_cStrength, b_cK, b_cCount, b_tVar, b_tSign, b_tMode, b_born, b_here, b_marked, b_out, b_inSet, b_left, b_last, b_passed, b_was, b_member, b_val, b_old, b_known, b_plan)) :
    ∀ d rd fuel, rd + d = M → d < fuel → wY_extract_108 post g_n g_m g_clock fuel (nI rd) (nI pl) b_cKind b_cStrength b_cK b_cCount b_tVar b_tSign b_tMode b_born b_here b_marked b_out b_inSet b_left b_last b_passed b_was b_member b_val b_old b_known b_plan := by
  intro d
  induction d with
  | zero =>
    intro rd fuel hi hf
    have e : rd = M := by omega
    subst e
    cases fuel with
    | zero => omega
    | succ fuel => exact br_t (by rw [gm]; exact Int32.le_refl _) H
  | succ d ih =>
    intro rd fuel hi hf
    cases fuel with
    | zero => omega
    | succ fuel =>
      have e0 : ∀ c, ¬ RdX a_feeders 0 c := fun c hc => hb_0 hc.1
      refine pk_le M rd (fun h => absurd h (by omega)) (fun _ => nm_r (e' := nI M + (-1)) (by rw [gm]; exact Int32.sub_eq_add_neg _ _) (Exists.intro (M + 1) (yl_e125 (g_planLen := nI pl) (u := 0) (pl := pl) gm hM hN X (fun c hc => absurd hc hb_0) hfE (fun c hc => ⟨fun z => absurd (hmb c hc) z, fun z => absurd z hb_0⟩) post _ rfl (fun c _ hr => absurd hr (e0 c)) (fun _ => ih (rd + 1) fuel (by omega) (by omega)) M (-1) (M + 1) (Nat.le_refl _) (by omega) (Or.inl ⟨rfl, fun c h1 h2 => by omega⟩)))) gm rfl (by omega) (by omega)
/-- both lists, in lockstep -/
theorem ls_loop (hm : f_m = nI M) (gm : g_m = nI M) (hM2 : 2 ≤ M) (hM : M ≤ 20) (hN : N ≤ 10) (X : XC N M f_enforced a_outputs a_feeders b_cCount b_tVar b_out) (hfE : ∀ c, Hb f_enforced c → ∀ d, Hb (a_feeders c) d → Hb f_enforced d)
    {xs : Nat → Nat} (hxE : ∀ c, Hb f_enforced c → ∃ i, i < p ∧ xs i = c) (hord : ∀ i j, i < p → j < p → Hb (a_feeders (xs i)) (xs j) → j < i) :
    ∀ t u l pX pY, pcn u = t → l + t ≤ M → (∀ c, Hb u c → Hb f_enforced c ∧ c < 20) → (∀ i, i < l → ∃ c, c < 20 ∧ Hb f_enforced c ∧ pX i = nI c ∧ pY i = nI c) →
      ∃ pX' pY', (∀ i, i < l + t → ∃ c, c < 20 ∧ Hb f_enforced c ∧ pX' i = nI c ∧ pY' i = nI c) ∧
        (∀ (post : Int32 → SX → Prop) fuel, t < fuel → post (nI (l + t)) (f_draftId, f_editId, f_firstStay, f_n, f_m, f_allVariables, f_nextStamp, f_live, f_liveCount, f_marked, f_draftOpen, f_enforced, f_execCount, f_walkKnown, f_peelCount, nI (l + t), a_values, a_before, a_kinds, a_strengths, a_constants, a_termCounts, a_termVars, a_termSigns, a_termModes, a_variableMasks, a_outputMasks, a_stamps, a_users, a_makers, a_ranked, a_atStrength, a_execIds, a_outputs, a_feeders, a_determiner, a_upstream, a_walk, a_agenda, a_peelIds, a_peelVars, pX') → wX_extract_92 post f_draftId f_editId f_firstStay f_n f_m f_allVariables f_nextStamp f_live f_liveCount f_marked f_draftOpen f_enforced f_execCount f_walkKnown f_peelCount fuel u (nI l) (nI l) a_values a_before a_kinds a_strengths a_constants a_termCounts a_termVars a_termSigns a_termModes a_variableMasks a_outputMasks a_stamps a_users a_makers a_ranked a_atStrength a_execIds a_outputs a_feeders a_determiner a_upstream a_walk a_agenda a_peelIds a_peelVars pX) ∧
        (∀ (mb : Nat → Int32), (∀ c, c < M → (¬ mb c = 0 ↔ Hb u c)) → ∀ (post : Int32 → SY → Prop) fuel, M - l < fuel → (∀ mb', post (nI (l + t)) (g_n, g_m, nI (l + t), g_clock, b_cKind, b_cStrength, b_cK, b_cCount, b_tVar, b_tSign, b_tMode, b_born, b_here, b_marked, b_out, b_inSet, b_left, b_last, b_passed, b_was, mb', b_val, b_old, b_known, pY')) → wY_extract_108 post g_n g_m g_clock fuel (nI l) (nI l) b_cKind b_cStrength b_cK b_cCount b_tVar b_tSign b_tMode b_born b_here b_marked b_out b_inSet b_left b_last b_passed b_was mb b_val b_old b_known pY) := by
  intro t
  induction t with
  | zero =>
    intro u l pX pY hu hl huE hpl
    have e := pcn_n0 hu
    subst e
    refine ⟨pX, pY, hpl, fun post fuel hf H => ?_, fun mb hmb post fuel hf H => ?_⟩
    · cases fuel with
      | zero => omega
      | succ fuel => exact br_c (fun _ => H) (fun _ => br_t rfl H)
    · exact yl_idle gm hM2 hM hN X hfE (fun c hc => Classical.byContradiction fun z => hb_0 ((hmb c hc).mp z)) post (H mb) (M - l) l fuel (by omega) hf
  | succ t ih =>
    intro u l pX pY hu hl huE hpl
    have hu0 : ¬ u = 0 := fun e => by rw [e, pcn_0] at hu; omega
    have uM : ∀ c, Hb u c → c < M := fun c hc => (X.1 c (huE c hc).1 (huE c hc).2).1
    -- there is a ready one
    have hex : ∃ c, RdX a_feeders u c := by
      have h1 : ∃ i, i < p ∧ Hb u (xs i) := by
        obtain ⟨c, hc⟩ := hb_nz.mp hu0
        obtain ⟨i, hi, e⟩ := hxE c (huE c hc).1
        exact ⟨i, hi, by rw [e]; exact hc⟩
      obtain ⟨i, ⟨hi, hui⟩, hmin⟩ := pk_least (fun i => i < p ∧ Hb u (xs i)) h1
      refine ⟨xs i, hui, fun d hd hud => ?_⟩
      obtain ⟨j, hj, e⟩ := hxE d (huE d hud).1
      subst e
      exact hmin j (hord i j hi hj hd) ⟨hj, hud⟩
    obtain ⟨c, hrd, hmin⟩ := pk_least _ hex
    have hcM := uM c hrd.1
    obtain ⟨hcE, hc20⟩ := huE c hrd.1
    have hu' : ∀ d, Hb (u &&& (((1 : Int32) <<< (nI c &&& 31)) ^^^ (-1))) d ↔ Hb u d ∧ d ≠ c := fun d => by rw [hb_andn, hb_one (by omega)]
    have ecn : pcn (u &&& (((1 : Int32) <<< (nI c &&& 31)) ^^^ (-1))) = t := by
      have a := cn_sub (P := Hb u) hrd.1 (hb_lt hrd.1)
      have b : pcn (u &&& (((1 : Int32) <<< (nI c &&& 31)) ^^^ (-1))) = cn (fun k => Hb u k ∧ k ≠ c) 32 := cn_eq fun k _ => hu' k
      have e : cn (Hb u) 32 = pcn u := rfl
      omega
    obtain ⟨pX', pY', g1, g2, g3⟩ := ih (u &&& (((1 : Int32) <<< (nI c &&& 31)) ^^^ (-1))) (l + 1) (upd pX l (nI c)) (upd pY l (nI c)) ecn (by omega) (fun d hd => huE d ((hu' d).mp hd).1) (fun i hi => by
      rcases Nat.lt_or_ge i l with y | y
      · rw [pk_un (by omega), pk_un (by omega)]; exact hpl i y
      · have : i = l := by omega
        subst this
        exact ⟨c, hc20, hcE, pk_us, pk_us⟩)
    rw [show l + 1 + t = l + (t + 1) by omega] at g1 g2 g3
    refine ⟨pX', pY', g1, fun post fuel hf H => ?_, fun mb hmb post fuel hf H => ?_⟩
    · cases fuel with
      | zero => omega
      | succ fuel =>
        refine pk_le 20 l (fun h => absurd h (by omega)) (fun _ => br_f hu0 ?_) rfl rfl (by omega) (by omega)
        refine xs_ready hm hM _ (fun c' hc' hr' hm' => ?_) (fun h => absurd hrd (h c hcM))
        have : c' = c := by
          rcases Nat.lt_trichotomy c' c with z | z | z
          · exact absurd hr' (hmin c' z)
          · exact z
          · exact absurd hrd (hm' c z)
        subst this
        exact br_f (nI_pos (by omega)) (And.intro (vp_in_nI (by omega) (by omega)) (nm_r (e' := upd pX l (nI c')) (by rw [nI_clamp (by omega)]) (nm_r (nI_1 l) (nm_e (nm_r (nI_1 l) (g2 post fuel (by omega) H))))))
    · cases fuel with
      | zero => omega
      | succ fuel =>
        refine pk_le M l (fun h => absurd h (by omega)) (fun _ => nm_r (e' := nI M + (-1)) (by rw [gm]; exact Int32.sub_eq_add_neg _ _) (Exists.intro (M + 1) ?_)) gm rfl (by omega) (by omega)
        refine yl_e125 (g_planLen := nI l) (pl := l) gm hM hN X huE hfE hmb post _ rfl (fun c' hc' hr' hm' => ?_) (fun h => absurd hrd (h c hcM)) M (-1) (M + 1) (Nat.le_refl _) (by omega) (Or.inl ⟨rfl, fun c h1 h2 => by omega⟩)
        have : c' = c := by
          rcases Nat.lt_trichotomy c' c with z | z | z
          · exact absurd hr' (hmin c' z)
          · exact z
          · exact absurd hrd (hm' c z)
        subst this
        refine ⟨by omega, g3 (upd mb c' 0) (fun d hd => ?_) post fuel (by omega) H⟩
        rw [hu' d]
        rcases Classical.em (d = c') with z | z
        · subst z; rw [pk_us]; exact ⟨fun y => absurd rfl y, fun y => absurd rfl y.2⟩
        · rw [pk_un z, hmb d hd]; exact ⟨fun y => ⟨y, z⟩, fun y => y.1⟩
theorem i_vc_extract {k : Nat} {u : SX} {v : SY} (I : i_Rel k u v) (hk : k + 4 ≤ 2050) : wpX_extract (fun r u' => wpY_extract (fun r' v' => r' = r ∧ i_Rel (k + 4) u' v') v) u := by
  refine zz_el (P := fun u v => wpX_extract (fun r u' => wpY_extract (fun r' v' => r' = r ∧ i_Rel (k + 4) u' v') v) u) ?_ I
  intro f_draftId f_editId f_firstStay f_n f_m f_allVariables f_live f_liveCount f_marked f_draftOpen f_enforced f_execCount f_walkKnown f_peelCount f_planCount f_nextStamp a_values a_before a_kinds a_strengths a_constants a_termCounts a_termVars a_termSigns a_termModes a_variableMasks a_outputMasks a_users a_makers a_ranked a_atStrength a_execIds a_outputs a_feeders a_determiner a_upstream a_walk a_agenda a_peelIds a_peelVars a_plan a_stamps g_n g_m g_planLen g_clock b_cKind b_cStrength b_cK b_cCount b_tVar b_tSign b_tMode b_here b_marked b_out b_inSet b_left b_last b_passed b_was b_member b_val b_old b_known b_plan b_born N M L q h1 h2 h3 h4 h5 h6
  have DD := h2
  obtain ⟨hn, hN2, hN, hm, hM2, hM, hall, gn, gm⟩ := h2
  obtain ⟨p, ep, F⟩ := h4.2.2.2.1
  have hE := h4.1.1
  have hmu := (rx_rp hN h3.1.1).1
  have X := xc_mk h3 h4 hN hM
  have F' := F
  obtain ⟨f1, f2, f3, f4, f5, f6, f7, f8⟩ := F'
  have hxE : ∀ c, Hb f_enforced c → ∃ i, i < p ∧ (fun i => tn (a_execIds i)) i = c := f2.2.1
  have hEx : ∀ i, i < p → Hb f_enforced ((fun i => tn (a_execIds i)) i) := fun i hi => (f2.1 i hi).1
  have hinj : ∀ i j, i < p → j < p → (fun i => tn (a_execIds i)) i = (fun i => tn (a_execIds i)) j → i = j := fun i j hi hj e => fp_xs f2 hmu hi hj e
  have hord : ∀ i j, i < p → j < p → Hb (a_feeders ((fun i => tn (a_execIds i)) i)) ((fun i => tn (a_execIds i)) j) → j < i := fun i j hi hj hfd => by
    obtain ⟨_, hne, hu⟩ := (f7 _ (f2.1 i hi).1 _).mp hfd
    exact f2.2.2 j i hj hi hu fun e => hne (by rw [e])
  have hfE : ∀ c, Hb f_enforced c → ∀ d, Hb (a_feeders c) d → Hb f_enforced d := fun c hc d hd => ((f7 c hc d).mp hd).1
  refine Exists.intro (p + 1) (xl_mem hmu F hN ep _ (fun m hmO => ?_) p 0 0 (p + 1) (by omega) (by omega) (fun c hc => absurd hc hb_0) (fun j hj => by omega))
  have mM : ∀ c, Hb m c → c < M := fun c hc => (X.1 c (hmO.1 c hc).1 (hmO.1 c hc).2).1
  have hT : pcn m ≤ M := by
    have : pcn m = cn (Hb m) M := cn_ext (by omega) fun c h1 _ h => by have := mM c h; omega
    have := cn_le (Hb m) M
    omega
  -- the reference's members are the same set; the lists for them
  obtain ⟨pX', pY', g1, g2, g3⟩ := ls_loop (f_draftId := f_draftId) (f_editId := f_editId) (f_firstStay := f_firstStay) (f_n := f_n) (f_m := f_m) (f_allVariables := f_allVariables) (f_nextStamp := f_nextStamp) (f_live := f_live) (f_liveCount := f_liveCount) (f_marked := f_marked) (f_draftOpen := f_draftOpen) (f_enforced := f_enforced) (f_execCount := f_execCount) (f_walkKnown := f_walkKnown) (f_peelCount := f_peelCount) (a_values := a_values) (a_before := a_before) (a_kinds := a_kinds) (a_strengths := a_strengths) (a_constants := a_constants) (a_termCounts := a_termCounts) (a_termVars := a_termVars) (a_termSigns := a_termSigns) (a_termModes := a_termModes) (a_variableMasks := a_variableMasks) (a_outputMasks := a_outputMasks) (a_stamps := a_stamps) (a_users := a_users) (a_makers := a_makers) (a_ranked := a_ranked) (a_atStrength := a_atStrength) (a_execIds := a_execIds) (a_outputs := a_outputs) (a_feeders := a_feeders) (a_determiner := a_determiner) (a_upstream := a_upstream) (a_walk := a_walk) (a_agenda := a_agenda) (a_peelIds := a_peelIds) (a_peelVars := a_peelVars) (g_n := g_n) (g_m := g_m) (g_clock := g_clock) (b_cKind := b_cKind) (b_cStrength := b_cStrength) (b_cK := b_cK) (b_cCount := b_cCount) (b_tVar := b_tVar) (b_tSign := b_tSign) (b_tMode := b_tMode) (b_born := b_born) (b_here := b_here) (b_marked := b_marked) (b_out := b_out) (b_inSet := b_inSet) (b_left := b_left) (b_last := b_last) (b_passed := b_passed) (b_was := b_was) (b_val := b_val) (b_old := b_old) (b_known := b_known) hm gm hM2 hM hN X hfE hxE hord (pcn m) m 0 a_plan b_plan rfl (by omega) hmO.1 (fun i hi => by omega)
  refine Exists.intro (pcn m + 1) (g2 _ (pcn m + 1) (by omega) ?_)
  refine Exists.intro (M + 1) (yl_e2 gm hM _ (fun mb hmb => Exists.intro (M + 1) ?_) M 0 b_member (M + 1) (by omega) (by omega) fun c hc => by omega)
  have key : ∀ c, c < M → (¬ mb c = 0 ↔ Hb f_enforced c ∧ Hb f_marked c) := fun c hc => by
    rw [hmb c hc]
    rcases Classical.em (Hb f_enforced c) with z | z
    · have hl : Hb f_live c := (hE c z).elim id fun y => absurd y.1 (by omega)
      obtain ⟨_, _, ho, eo, _⟩ := X.1 c z (by omega)
      rw [h3.2.1.2.2.1 c hl, eo]
      exact ⟨fun y => ⟨z, y.2⟩, fun y => ⟨nI_pos (by omega), y.2⟩⟩
    · exact ⟨fun y => absurd (X.2 c hc z) y.1, fun y => absurd y.1 z⟩
  refine yl_e47 (p := p) gm hM hN X hmO _ hxE hEx hinj hord (fun mb' hmb' => ?_) M 0 mb (M + 1) (by omega) (by omega) ⟨fun c hc hne => (hmO.2 c ((key c hc).mp hne).1 (by omega)).mpr (Or.inl ((key c hc).mp hne).2), fun c hc hcE hcm => (key c hc).mpr ⟨hcE, hcm⟩⟩ (fun i _ _ h => by omega)
  rw [Nat.zero_add] at g1 g3 ⊢
  refine Exists.intro (M + 1) (g3 mb' hmb' _ (M + 1) (by omega) fun mb2 => ⟨rfl, ?_⟩)
  exact zz_mk (by omega) DD h3 h4 (Or.inr ⟨pcn m, by omega, rfl, rfl, g1⟩) h6
end
end
section
/-! walkabout -/
section
variable {us mk : Nat → Nat → Prop} {E : Int32} {st : Nat → Int32} {v : Nat}
theorem wv_ex : ∃ s, WkV us mk E st v s := by
  obtain ⟨s, h1, h2⟩ := pk_least (fun s => s = 7 ∨ (s < 7 ∧ ¬ Slv us mk (fun c => (Hb E c ∧ c < 20 ∧ tn (st c) ≤ s) ∨ c = 22 + v))) ⟨7, Or.inl rfl⟩
  have h7 : s ≤ 7 := h1.elim (fun e => by omega) fun h => by omega
  refine ⟨s, h7, fun s' hs hs7 => Classical.byContradiction fun y => h2 s' hs (Or.inr ⟨hs7, y⟩), fun hs => ?_⟩
  rcases h1 with e | h
  · omega
  · exact h.2
theorem wv_uniq {s s' : Nat} (h : WkV us mk E st v s) (h' : WkV us mk E st v s') : s = s' := by
  rcases Nat.lt_trichotomy s s' with z | z | z
  · have := h'.1
    exact absurd (h'.2.1 s z (by omega)) (h.2.2 (by omega))
  · exact z
  · have := h.1
    exact absurd (h.2.1 s' z (by omega)) (h'.2.2 (by omega))
end
/-- strength as the search for the walkabout sees it -/
def ix7 (st : Nat → Int32) (c : Nat) : Nat := if c < 20 then tn (st c) else 7
def BW (E : Int32) (st : Nat → Int32) (v s c : Nat) : Prop := (Hb E c ∧ ix7 st c < s) ∨ c = 22 + v
section
variable {f_draftId f_editId f_firstStay f_n f_m f_allVariables f_live f_liveCount f_marked f_draftOpen f_enforced f_execCount f_walkKnown f_peelCount f_planCount : Int32} {f_nextStamp : Int64} {a_values a_before a_kinds a_strengths a_constants a_termCounts a_termVars a_termSigns a_termModes a_variableMasks a_outputMasks a_users a_makers a_ranked a_atStrength a_execIds a_outputs a_feeders a_determiner a_upstream a_walk a_agenda a_peelIds a_peelVars a_plan : Nat → Int32} {a_stamps : Nat → Int64}
variable {g_n g_m g_planLen : Int32} {g_clock : Int64} {b_cKind b_cStrength b_cK b_cCount b_tVar b_tSign b_tMode b_here b_marked b_out b_inSet b_left b_last b_passed b_was b_member b_val b_old b_known b_plan : Nat → Int32} {b_born : Nat → Int64}
variable {N M L q p : Nat}
theorem st_ix (S : STR N M L q f_live f_marked f_draftOpen f_liveCount f_nextStamp g_clock a_kinds a_strengths a_constants a_termCounts a_termVars a_termSigns a_termModes a_variableMasks a_outputMasks a_users a_makers a_ranked a_atStrength a_stamps b_cKind b_cStrength b_cK b_cCount b_tVar b_tSign b_tMode b_born b_here b_marked) (hM : M ≤ 20) {c : Nat} (hc : DX N f_live c) : (c < 20 → ix7 a_strengths c < 7 ∧ a_strengths c = nI (ix7 a_strengths c)) ∧ (20 ≤ c → ix7 a_strengths c = 7) := by
  unfold ix7
  refine ⟨fun h => ?_, fun h => by rw [if_neg (by omega)]⟩
  have hl : Hb f_live c := hc.elim id fun y => absurd y.1 (by omega)
  obtain ⟨s, hs, e⟩ := S.1.2.2.2.2.1 c (Or.inl hl)
  rw [if_pos h, e, tn_nI (by omega)]
  exact ⟨hs, rfl⟩
theorem xl_walk (D : DIM N M f_n f_m f_allVariables g_n g_m) (S : STR N M L q f_live f_marked f_draftOpen f_liveCount f_nextStamp g_clock a_kinds a_strengths a_constants a_termCounts a_termVars a_termSigns a_termModes a_variableMasks a_outputMasks a_users a_makers a_ranked a_atStrength a_stamps b_cKind b_cStrength b_cK b_cCount b_tVar b_tSign b_tMode b_born b_here b_marked) (hE : ∀ c, Hb f_enforced c → DX N f_live c) {v : Nat} (hv : v < N) (hnE : ¬ Hb f_enforced (22 + v)) (post : Int32 → SX → Prop)
    (H : ∀ s pc ag pi pv, WkV (UX N a_users) (UX N a_makers) f_enforced a_strengths v s → post (nI s) (f_draftId, f_editId, f_firstStay, f_n, f_m, f_allVariables, f_nextStamp, f_live, f_liveCount, f_marked, f_draftOpen, f_enforced, f_execCount, f_walkKnown, pc, f_planCount, a_values, a_before, a_kinds, a_strengths, a_constants, a_termCounts, a_termVars, a_termSigns, a_termModes, a_variableMasks, a_outputMasks, a_stamps, a_users, a_makers, a_ranked, a_atStrength, a_execIds, a_outputs, a_feeders, a_determiner, a_upstream, a_walk, ag, pi, pv, a_plan)) :
    ∀ s rest x4 pc ag pi pv fuel, s ≤ 8 → s < fuel → (∀ c, Hb rest c ↔ Cor (UX N a_users) (UX N a_makers) (BW f_enforced a_strengths v s) c) → ((s = 8 ∧ x4 = 7) ∨ (s ≤ 7 ∧ x4 = nI s ∧ ¬ Slv (UX N a_users) (UX N a_makers) (BW f_enforced a_strengths v (s + 1)))) →
      wX_findWalkabout_30 post ((1 : Int32) <<< (nI (22 + v) &&& 31)) fuel rest x4 (nI s + (-1)) f_draftId f_editId f_firstStay f_n f_m f_allVariables f_nextStamp f_live f_liveCount f_marked f_draftOpen f_enforced f_execCount f_walkKnown pc f_planCount a_values a_before a_kinds a_strengths a_constants a_termCounts a_termVars a_termSigns a_termModes a_variableMasks a_outputMasks a_stamps a_users a_makers a_ranked a_atStrength a_execIds a_outputs a_feeders a_determiner a_upstream a_walk ag pi pv a_plan := by
  obtain ⟨hn, hN2, hN, hm, hM2, hM, hall, gn, gm⟩ := D
  have RP' := rx_rp hN S.1.1
  have six := fun c (hc : Hb f_enforced c) => st_ix S hM (hE c hc)
  -- the end: nothing is stuck
  have fin : ∀ s x4 pc ag pi pv, s ≤ 8 → Slv (UX N a_users) (UX N a_makers) (BW f_enforced a_strengths v s) → ((s = 8 ∧ x4 = 7) ∨ (s ≤ 7 ∧ x4 = nI s ∧ ¬ Slv (UX N a_users) (UX N a_makers) (BW f_enforced a_strengths v (s + 1)))) → post x4 (f_draftId, f_editId, f_firstStay, f_n, f_m, f_allVariables, f_nextStamp, f_live, f_liveCount, f_marked, f_draftOpen, f_enforced, f_execCount, f_walkKnown, pc, f_planCount, a_values, a_before, a_kinds, a_strengths, a_constants, a_termCounts, a_termVars, a_termSigns, a_termModes, a_variableMasks, a_outputMasks, a_stamps, a_users, a_makers, a_ranked, a_atStrength, a_execIds, a_outputs, a_feeders, a_determiner, a_upstream, a_walk, ag, pi, pv, a_plan) := by
    intro s x4 pc ag pi pv hs8 hsl h
    have lo : ∀ s', s' < s → s' < 7 → Slv (UX N a_users) (UX N a_makers) (fun c => (Hb f_enforced c ∧ c < 20 ∧ tn (a_strengths c) ≤ s') ∨ c = 22 + v) := fun s' h1 h2 =>
      sv_mono (fun c hc => hc.imp (fun z => ⟨z.1, by unfold ix7; rw [if_pos z.2.1]; have := z.2.2; omega⟩) id) hsl
    rcases h with ⟨e, e4⟩ | ⟨h7, e4, hns⟩
    · subst e4
      exact H 7 pc ag pi pv ⟨by omega, fun s' h1 h2 => lo s' (by omega) h2, fun h => by omega⟩
    · subst e4
      refine H s pc ag pi pv ⟨h7, lo, fun h y => hns (sv_mono (fun c hc => hc.imp (fun z => ?_) id) y)⟩
      rcases Nat.lt_or_ge c 20 with a | a
      · refine ⟨z.1, a, ?_⟩
        have := z.2
        unfold ix7 at this
        rw [if_pos a] at this
        omega
      · have := (six c z.1).2 a
        have := z.2
        omega
  intro s
  induction s with
  | zero =>
    intro rest x4 pc ag pi pv fuel hs hf hr h
    cases fuel with
    | zero => omega
    | succ fuel =>
      refine br_t (by decide) (fin 0 x4 pc ag pi pv (by omega) (sv_mono (fun c hc => hc.elim (fun z => absurd z.2 (by omega)) id) (sv_one (a := 22 + v) (v := v) (((st_stay S hN hv).1 v).mpr rfl))) h)
  | succ s ih =>
    intro rest x4 pc ag pi pv fuel hs hf hr h
    cases fuel with
    | zero => omega
    | succ fuel =>
      rw [pk_m1]
      have es : (nI s).toNatClampNeg = s := nI_clamp (by omega)
      refine br_f (nI_pos (by omega)) (br_c (fun z => ?_) (fun z => And.intro (vp_in_nI (by omega) (by omega)) ?_))
      · refine fin (s + 1) x4 pc ag pi pv hs (sv_cor.mpr fun c hc => ?_) h
        have := (hr c).mpr hc
        rw [z] at this
        exact hb_0 this
      · have hns : ¬ Slv (UX N a_users) (UX N a_makers) (BW f_enforced a_strengths v (s + 1)) := fun y => by
          obtain ⟨c, hc⟩ := hb_nz.mp z
          exact sv_cor.mp y c ((hr c).mp hc)
        have sub : ∀ c, BW f_enforced a_strengths v s c → BW f_enforced a_strengths v (s + 1) c := fun c hc => hc.imp (fun z => ⟨z.1, by have := z.2; omega⟩) id
        -- what is dropped: the members of strength s
        have hat : ∀ c, Hb rest c → ((Hb (a_atStrength s) c ∧ c ≠ 22 + v) ↔ ¬ BW f_enforced a_strengths v s c) := by
          intro c hc
          have hB := co_sub ((hr c).mp hc)
          rcases Classical.em (c = 22 + v) with e | e
          · exact ⟨fun y => absurd e y.2, fun y => absurd (Or.inr e) y⟩
          · have hcE := hB.elim id fun y => absurd y e
            obtain ⟨i1, i2⟩ := six c hcE.1
            have hlt := hcE.2
            constructor
            · rintro ⟨ha, _⟩ hb
              have hb' := hb.elim id fun y => absurd y e
              rcases Nat.lt_or_ge s 7 with y | y
              · obtain ⟨hl, ec⟩ := (S.2.2.2.1.1 s y c).mp ha
                have h20 := S.2.1.1 c hl
                obtain ⟨j1, j2⟩ := i1 (by omega)
                rw [ec, nI_eq (by omega) (by omega)] at j2
                have := hb'.2
                omega
              · have : s = 7 := by omega
                subst this
                have h22 := (S.2.2.2.1.2 c).mp ha
                have := i2 (by omega)
                have := hb'.2
                omega
            · intro hb
              have hge : s ≤ ix7 a_strengths c := by
                rcases Nat.lt_or_ge (ix7 a_strengths c) s with y | y
                · exact absurd (Or.inl ⟨hcE.1, y⟩) hb
                · exact y
              refine ⟨?_, e⟩
              rcases Nat.lt_or_ge c 20 with y | y
              · obtain ⟨j1, j2⟩ := i1 y
                have hl : Hb f_live c := (hE c hcE.1).elim id fun y' => absurd y'.1 (by omega)
                refine (S.2.2.2.1.1 s (by omega) c).mpr ⟨hl, ?_⟩
                rw [j2]; exact congrArg nI (by omega)
              · have := i2 y
                have e7 : s = 7 := by omega
                subst e7
                exact (S.2.2.2.1.2 c).mpr ((hE c hcE.1).elim (fun y' => by have := S.2.1.1 c y'; omega) id)
        have hdr : ∀ c, Hb ((rest &&& a_atStrength s) &&& (((1 : Int32) <<< (nI (22 + v) &&& 31)) ^^^ (-1))) c ↔ Hb rest c ∧ ¬ BW f_enforced a_strengths v s c := by
          intro c
          rw [hb_andn, hb_and, hb_one (by omega)]
          constructor
          · rintro ⟨⟨a, b⟩, d⟩
            exact ⟨a, (hat c a).mp ⟨b, d⟩⟩
          · rintro ⟨a, b⟩
            have := (hat c a).mpr b
            exact ⟨⟨a, this.1⟩, this.2⟩
        have hst : Stk (UX N a_users) (UX N a_makers) (Hb rest) := fun c w hc hw => by
          obtain ⟨d, h1, h2, h3⟩ := co_stk c w ((hr c).mp hc) hw
          exact ⟨d, h1, (hr d).mpr h2, h3⟩
        have hnext : (s = 8 ∧ nI s = 7) ∨ (s ≤ 7 ∧ nI s = nI s ∧ ¬ Slv (UX N a_users) (UX N a_makers) (BW f_enforced a_strengths v (s + 1))) := Or.inr ⟨by omega, rfl, hns⟩
        refine nm_r (e' := (rest &&& a_atStrength s) &&& (((1 : Int32) <<< (nI (22 + v) &&& 31)) ^^^ (-1))) (by rw [es]) (br_c (fun y => nm_e (ih rest (nI s) pc ag pi pv fuel (by omega) (by omega) (fun c => ?_) hnext)) (fun y => ?_))
        · have hall' : ∀ c, Hb rest c → BW f_enforced a_strengths v s c := fun c hc => Classical.byContradiction fun y' => hb_z.mp y c ((hdr c).mpr ⟨hc, y'⟩)
          exact ⟨fun hc => co_of hall' hst hc, fun hc => (hr c).mpr (co_mono sub hc)⟩
        · refine xs_vars hn hN _ _ fun used hus => ?_
          have hre : ∀ c, Hb (rest &&& (((rest &&& a_atStrength s) &&& (((1 : Int32) <<< (nI (22 + v) &&& 31)) ^^^ (-1))) ^^^ (-1))) c ↔ Cor (UX N a_users) (UX N a_makers) (BW f_enforced a_strengths v (s + 1)) c ∧ BW f_enforced a_strengths v s c := fun c => by
            rw [hb_andn, hdr c, ← hr c]
            constructor
            · exact fun h => ⟨h.1, Classical.byContradiction fun y' => h.2 ⟨h.1, y'⟩⟩
            · exact fun h => ⟨h.1, fun y' => y'.2 h.2⟩
          refine xs_peel hn hN RP' _ (fun w hw => ((hus w).mp hw).1) (fun w hw hno c hc hmk => ?_) fun rest' p' ag' pi' pv' hP hs' _ => nm_e (ih rest' (nI s) (nI p') ag' pi' pv' fuel (by omega) (by omega) (fun c => ?_) hnext)
          · have hc1 := (hre c).mp hc
            obtain ⟨d, h1, h2, h3⟩ := hst c w ((hr c).mpr hc1.1) hmk
            refine ⟨d, h1, (hre d).mpr ⟨(hr d).mp h2, Classical.byContradiction fun y' => ?_⟩, h3⟩
            exact hno ((hus w).mpr ⟨hw, d, h3.2, (hdr d).mpr ⟨h2, y'⟩⟩)
          · rw [pe_cor hP hs' c, ← co_co sub]
            exact ⟨fun hc => co_mono (fun d hd => (hre d).mp hd) hc, fun hc => co_mono (fun d hd => (hre d).mpr hd) hc⟩
theorem xs_find (D : DIM N M f_n f_m f_allVariables g_n g_m) (S : STR N M L q f_live f_marked f_draftOpen f_liveCount f_nextStamp g_clock a_kinds a_strengths a_constants a_termCounts a_termVars a_termSigns a_termModes a_variableMasks a_outputMasks a_users a_makers a_ranked a_atStrength a_stamps b_cKind b_cStrength b_cK b_cCount b_tVar b_tSign b_tMode b_born b_here b_marked) (hE : ∀ c, Hb f_enforced c → DX N f_live c) {v : Nat} (hv : v < N) (hnE : ¬ Hb f_enforced (22 + v)) (post : Int32 → SX → Prop)
    (H : ∀ s pc ag pi pv, WkV (UX N a_users) (UX N a_makers) f_enforced a_strengths v s → post (nI s) (f_draftId, f_editId, f_firstStay, f_n, f_m, f_allVariables, f_nextStamp, f_live, f_liveCount, f_marked, f_draftOpen, f_enforced, f_execCount, f_walkKnown, pc, f_planCount, a_values, a_before, a_kinds, a_strengths, a_constants, a_termCounts, a_termVars, a_termSigns, a_termModes, a_variableMasks, a_outputMasks, a_stamps, a_users, a_makers, a_ranked, a_atStrength, a_execIds, a_outputs, a_feeders, a_determiner, a_upstream, a_walk, ag, pi, pv, a_plan)) : wpX_findWalkabout post (f_draftId, f_editId, f_firstStay, f_n, f_m, f_allVariables, f_nextStamp, f_live, f_liveCount, f_marked, f_draftOpen, f_enforced, f_execCount, f_walkKnown, f_peelCount, f_planCount, a_values, a_before, a_kinds, a_strengths, a_constants, a_termCounts, a_termVars, a_termSigns, a_termModes, a_variableMasks, a_outputMasks, a_stamps, a_users, a_makers, a_ranked, a_atStrength, a_execIds, a_outputs, a_feeders, a_determiner, a_upstream, a_walk, a_agenda, a_peelIds, a_peelVars, a_plan) (nI v) := by
  have DD := D
  obtain ⟨hn, hN2, hN, hm, hM2, hM, hall, gn, gm⟩ := D
  have e22 : 22 + nI v = nI (22 + v) := nI_add 22 v
  refine nm_r (e' := (1 : Int32) <<< (nI (22 + v) &&& 31)) (by rw [e22]) ?_
  refine xs_peel hn hN (rx_rp hN S.1.1) _ (fun w h => (hall w).mp h) (fun w hw hno => absurd ((hall w).mpr hw) hno) fun rest p' ag pi pv hP hs _ => ?_
  refine Exists.intro 9 (xl_walk DD S hE hv hnE post H 8 rest 7 (nI p') ag pi pv 9 (by omega) (by omega) (fun c => ?_) (Or.inl ⟨rfl, rfl⟩))
  rw [pe_cor hP hs c]
  have e : ∀ d, Hb (f_enforced ||| ((1 : Int32) <<< (nI (22 + v) &&& 31))) d ↔ BW f_enforced a_strengths v 8 d := fun d => by
    rw [hb_or, hb_one (by omega)]
    refine ⟨fun h => h.imp (fun z => ⟨z, ?_⟩) id, fun h => h.imp (fun z => z.1) id⟩
    obtain ⟨i1, i2⟩ := st_ix S hM (hE d z)
    rcases Nat.lt_or_ge d 20 with y | y
    · have := i1 y; omega
    · have := i2 y; omega
  exact ⟨co_mono fun d hd => (e d).mp hd, co_mono fun d hd => (e d).mpr hd⟩
theorem xr_walk (D : DIM N M f_n f_m f_allVariables g_n g_m) (S : STR N M L q f_live f_marked f_draftOpen f_liveCount f_nextStamp g_clock a_kinds a_strengths a_constants a_termCounts a_termVars a_termSigns a_termModes a_variableMasks a_outputMasks a_users a_makers a_ranked a_atStrength a_stamps b_cKind b_cStrength b_cK b_cCount b_tVar b_tSign b_tMode b_born b_here b_marked) (E : EPR N f_live f_enforced f_execCount f_walkKnown a_strengths a_stamps a_users a_makers a_execIds a_outputs a_feeders a_determiner a_upstream a_walk b_out) {v s : Nat} (hv : v < N) (hw : WkV (UX N a_users) (UX N a_makers) f_enforced a_strengths v s) (post : Int32 → SX → Prop)
    (H : ∀ wkn wk pc ag pi pv, EPR N f_live f_enforced f_execCount wkn a_strengths a_stamps a_users a_makers a_execIds a_outputs a_feeders a_determiner a_upstream wk b_out → post (nI s) (f_draftId, f_editId, f_firstStay, f_n, f_m, f_allVariables, f_nextStamp, f_live, f_liveCount, f_marked, f_draftOpen, f_enforced, f_execCount, wkn, pc, f_planCount, a_values, a_before, a_kinds, a_strengths, a_constants, a_termCounts, a_termVars, a_termSigns, a_termModes, a_variableMasks, a_outputMasks, a_stamps, a_users, a_makers, a_ranked, a_atStrength, a_execIds, a_outputs, a_feeders, a_determiner, a_upstream, wk, ag, pi, pv, a_plan)) : wpX_walkabout post (f_draftId, f_editId, f_firstStay, f_n, f_m, f_allVariables, f_nextStamp, f_live, f_liveCount, f_marked, f_draftOpen, f_enforced, f_execCount, f_walkKnown, f_peelCount, f_planCount, a_values, a_before, a_kinds, a_strengths, a_constants, a_termCounts, a_termVars, a_termSigns, a_termModes, a_variableMasks, a_outputMasks, a_stamps, a_users, a_makers, a_ranked, a_atStrength, a_execIds, a_outputs, a_feeders, a_determiner, a_upstream, a_walk, a_agenda, a_peelIds, a_peelVars, a_plan) (nI v) := by
  have DD := D
  obtain ⟨hn, hN2, hN, hm, hM2, hM, hall, gn, gm⟩ := D
  have EE := E
  obtain ⟨c1, c2, c3, ⟨p, ep, F⟩, c5, c6⟩ := E
  obtain ⟨f1, f2, f3, f4, f5, f6, f7, f8⟩ := F
  have hE := c1.1
  have ev : (nI v).toNatClampNeg = v := nI_clamp (by omega)
  have vv : vp_in (nI v) 10 := vp_in_nI (by omega) (by omega)
  obtain ⟨c, hcE, hco⟩ := f5 v hv
  have hde := (f4 c hcE).2
  rw [hco] at hde
  have c32 := hb_lt hcE
  have hmkc : UX N a_makers c (tn (a_outputs c)) := by
    obtain ⟨i, hi, ei⟩ := f2.2.1 c hcE
    have ei' : tn (a_execIds i) = c := ei
    have : UX N a_makers (tn (a_execIds i)) (tn (a_outputs (tn (a_execIds i)))) := (f2.1 i hi).2
    rw [ei'] at this
    exact this
  rw [hco] at hmkc
  unfold wpX_walkabout
  refine xs_var_t hn hN _ hv ?_
  refine br_f (by decide) ?_
  refine And.intro vv ?_
  rw [ev, hde]
  refine pk_lt c 22 (fun hlt => ?_) (fun hge => ?_) rfl rfl (by omega) (by omega)
  · have hnE : ¬ Hb f_enforced (22 + v) := fun hS => by
      -- the stay of v would determine v
      obtain ⟨i, hi, ei⟩ := f2.2.1 (22 + v) hS
      have ei' : tn (a_execIds i) = 22 + v := ei
      have hm2 : UX N a_makers (tn (a_execIds i)) (tn (a_outputs (tn (a_execIds i)))) := (f2.1 i hi).2
      rw [ei'] at hm2
      have eo := ((st_stay S hN hv).1 _).mp hm2
      have hd2 := (f4 _ hS).2
      rw [eo, hde, nI_eq (by omega) (by omega)] at hd2
      omega
    refine br_c (fun z => ?_) (fun z => And.intro vv ?_)
    · refine xs_find DD S hE hv hnE _ fun s' pc ag pi pv hw' => ?_
      have es := wv_uniq hw' hw
      subst es
      refine And.intro vv (nm_e (nm_e (And.intro vv ?_)))
      rw [pk_us]
      refine H _ _ pc ag pi pv ⟨c1, c2, c3, ⟨p, ep, f1, f2, f3, f4, f5, f6, f7, f8⟩, c5, fun w hwN hk hnw => ?_⟩
      rcases Classical.em (w = v) with y | y
      · subst y
        rw [pk_us]
        exact ⟨s', rfl, hw'⟩
      · rw [pk_un y]
        rw [hb_or, hb_one (by omega)] at hk
        exact c6 w hwN (hk.elim id fun q => absurd q y) hnw
    · rw [hb_t (by omega), Classical.not_not] at z
      obtain ⟨s', e', hw'⟩ := c6 v hv z hnE
      have es := wv_uniq hw' hw
      subst es
      rw [e']
      exact H f_walkKnown a_walk f_peelCount a_agenda a_peelIds a_peelVars EE
  · have hcD := (hE c hcE).elim (fun y => by have := S.2.1.1 c y; omega) id
    have e22 : c = 22 + v := by
      obtain ⟨w, rfl⟩ : ∃ w, c = 22 + w := ⟨c - 22, by omega⟩
      have := ((st_stay S hN (show w < N by omega)).1 _).mp hmkc
      omega
    have h7 : s = 7 := by
      refine wv_uniq hw ⟨by omega, fun s' _ _ => sv_mono (fun d hd => hd.elim (fun z => z.1) fun z => ?_) c2, fun h => by omega⟩
      rw [z, ← e22]; exact hcE
    subst h7
    exact H f_walkKnown a_walk f_peelCount a_agenda a_peelIds a_peelVars EE
end
end
section
/-! the reference's walkabout; changes of record 21 -/
section
variable {f_draftId f_editId f_firstStay f_n f_m f_allVariables f_live f_liveCount f_marked f_draftOpen f_enforced f_execCount f_walkKnown f_peelCount f_planCount : Int32} {f_nextStamp : Int64} {a_values a_before a_kinds a_strengths a_constants a_termCounts a_termVars a_termSigns a_termModes a_variableMasks a_outputMasks a_users a_makers a_ranked a_atStrength a_execIds a_outputs a_feeders a_determiner a_upstream a_walk a_agenda a_peelIds a_peelVars a_plan : Nat → Int32} {a_stamps : Nat → Int64}
variable {g_n g_m g_planLen : Int32} {g_clock : Int64} {b_cKind b_cStrength b_cK b_cCount b_tVar b_tSign b_tMode b_here b_marked b_out b_inSet b_left b_last b_passed b_was b_member b_val b_old b_known b_plan : Nat → Int32} {b_born : Nat → Int64}
variable {N M L q : Nat} {kd' st' K' tc' tv' ts' tm' vm' om' us' mk' ck' cs' cK' cC' tV' tS' tM' : Nat → Int32}
theorem s_21 (S : STR N M L q f_live f_marked f_draftOpen f_liveCount f_nextStamp g_clock a_kinds a_strengths a_constants a_termCounts a_termVars a_termSigns a_termModes a_variableMasks a_outputMasks a_users a_makers a_ranked a_atStrength a_stamps b_cKind b_cStrength b_cK b_cCount b_tVar b_tSign b_tMode b_born b_here b_marked) (hN : N ≤ 10) (hM : M ≤ 20) (R' : RX N tc' tv' tm' vm' om' us' mk') (hX : SmR 21 a_kinds a_strengths a_constants a_termCounts a_termVars a_termSigns a_termModes kd' st' K' tc' tv' ts' tm') (hY : SmR 21 b_cKind b_cStrength b_cK b_cCount b_tVar b_tSign b_tMode ck' cs' cK' cC' tV' tS' tM') (hC : ∃ q, q ≤ 4 ∧ cC' 21 = nI q) :
    STR N M L q f_live f_marked f_draftOpen f_liveCount f_nextStamp g_clock kd' st' K' tc' tv' ts' tm' vm' om' us' mk' a_ranked a_atStrength a_stamps ck' cs' cK' cC' tV' tS' tM' b_born b_here b_marked := by
  obtain ⟨⟨r1, r2, r3, r4, r5, r6⟩, ll, ⟨k1, k2, k3, k4⟩, ⟨t1, t2⟩, t3⟩ := S
  have l1 := ll.1
  have l21 : ∀ c, Hb f_live c → c ≠ 21 := fun c h => by have := l1 c h; omega
  have hkey : ∀ c, keyR st' a_stamps c = keyR a_strengths a_stamps c := fun c => key_congr (fun h => (hX c (by omega)).2.1) (fun _ => rfl)
  refine ⟨⟨R', fun c hc => ?_, fun v hv => ?_, fun c hc => ?_, fun c hc => ?_, fun c hc => ?_⟩, ll, ⟨k1, k2, k3, fun i j h1 h2 => by rw [hkey, hkey]; exact k4 i j h1 h2⟩, ⟨fun s hs c => ?_, t2⟩, t3⟩
  · have hne : c ≠ 21 := by
      rcases hc with h | h | h
      · exact l21 c h
      · omega
      · omega
    have h32 : c < 32 := by
      rcases hc with h | h | h
      · exact hb_lt h
      · omega
      · omega
    obtain ⟨q0, hq, e, _⟩ := r1 c h32
    exact ag_same hX hY hne (by rw [e, tn_nI (by omega)]; exact hq) (r2 c hc)
  · obtain ⟨x1, x2, x3, x4, x5⟩ := hX (22 + v) (by omega)
    obtain ⟨a1, a2, a3, a4, a5⟩ := r3 v hv
    have x50 := x5 0 (by omega)
    rw [Nat.add_zero] at x50
    exact ⟨by rw [x2]; exact a1, by rw [x4]; exact a2, by rw [x50.1]; exact a3, by rw [x50.2.2]; exact a4, by rw [x1]; exact a5⟩
  · rcases Classical.em (c = 21) with z | z
    · subst z; exact hC
    · rw [(hY c z).2.2.2.1]; exact r4 c hc
  · have hne : c ≠ 21 := hc.elim (l21 c) fun y => by omega
    rw [(hX c hne).2.1]
    exact r5 c hc
  · obtain ⟨v, hv⟩ := r6 c hc
    obtain ⟨_, _, _, x4, x5⟩ := hX c (l21 c hc)
    exact ⟨v, ((rx_same hN r1 R' x4 (fun t ht => ⟨(x5 t ht).1, (x5 t ht).2.2⟩) v).2).mp hv⟩
  · rw [t1 s hs c]
    constructor
    · exact fun h => ⟨h.1, by rw [(hX c (l21 c h.1)).2.1]; exact h.2⟩
    · exact fun h => ⟨h.1, by rw [← (hX c (l21 c h.1)).2.1]; exact h.2⟩
theorem e_21 (S : STR N M L q f_live f_marked f_draftOpen f_liveCount f_nextStamp g_clock a_kinds a_strengths a_constants a_termCounts a_termVars a_termSigns a_termModes a_variableMasks a_outputMasks a_users a_makers a_ranked a_atStrength a_stamps b_cKind b_cStrength b_cK b_cCount b_tVar b_tSign b_tMode b_born b_here b_marked) (E : EPR N f_live f_enforced f_execCount f_walkKnown a_strengths a_stamps a_users a_makers a_execIds a_outputs a_feeders a_determiner a_upstream a_walk b_out) (hN : N ≤ 10) (hM : M ≤ 20) (R' : RX N tc' tv' tm' vm' om' us' mk') (hX : SmR 21 a_kinds a_strengths a_constants a_termCounts a_termVars a_termSigns a_termModes kd' st' K' tc' tv' ts' tm') : EPR N f_live f_enforced f_execCount f_walkKnown st' a_stamps us' mk' a_execIds a_outputs a_feeders a_determiner a_upstream a_walk b_out := by
  have l20 : ∀ c, Hb f_live c → c < 20 := fun c h => by have := S.2.1.1 c h; omega
  have d20 : ∀ c, DX N f_live c → c ≠ 21 := fun c h => h.elim (fun y => by have := l20 c y; omega) fun y => by omega
  have rs : ∀ c v, DX N f_live c → (UX N a_users c v ↔ UX N us' c v) ∧ (UX N a_makers c v ↔ UX N mk' c v) := fun c v hc => by
    obtain ⟨_, _, _, x4, x5⟩ := hX c (d20 c hc)
    exact rx_same hN S.1.1 R' x4 (fun t ht => ⟨(x5 t ht).1, (x5 t ht).2.2⟩) v
  exact ep_congr l20 E (fun c v hc => (rs c v hc).1) (fun c v hc => (rs c v hc).2) (fun c hc => (hX c (by have := l20 c hc; omega)).2.1) (fun _ _ => rfl)
theorem sm_refl {a : Nat} {kd st K tc tv ts tm : Nat → Int32} : SmR a kd st K tc tv ts tm kd st K tc tv ts tm := fun _ _ => ⟨rfl, rfl, rfl, rfl, fun _ _ => ⟨rfl, rfl, rfl⟩⟩
theorem sm_one {a : Nat} {kd st K tc tv ts tm : Nat → Int32} {x1 x2 x3 x4 x5 x6 x7 : Int32} : SmR a kd st K tc tv ts tm (upd kd a x1) (upd st a x2) (upd K a x3) (upd tc a x4) (upd tv (4 * a) x5) (upd ts (4 * a) x6) (upd tm (4 * a) x7) :=
  fun c hc => ⟨pk_un hc, pk_un hc, pk_un hc, pk_un hc, fun t ht => ⟨pk_un (by omega), pk_un (by omega), pk_un (by omega)⟩⟩
theorem ys_single (post : SY → Prop) {c : Nat} (hc : c < 32) (kd st v K : Int32) (H : post (g_n, g_m, g_planLen, g_clock, upd b_cKind c kd, upd b_cStrength c st, upd b_cK c K, upd b_cCount c 1, upd b_tVar (4 * c) v, upd b_tSign (4 * c) 1, upd b_tMode (4 * c) 1, b_born, b_here, b_marked, b_out, b_inSet, b_left, b_last, b_passed, b_was, b_member, b_val, b_old, b_known, b_plan)) : wpY_single post (g_n, g_m, g_planLen, g_clock, b_cKind, b_cStrength, b_cK, b_cCount, b_tVar, b_tSign, b_tMode, b_born, b_here, b_marked, b_out, b_inSet, b_left, b_last, b_passed, b_was, b_member, b_val, b_old, b_known, b_plan) (nI c) kd st v K := by
  have ec : (nI c).toNatClampNeg = c := nI_clamp (by omega)
  have vc : vp_in (nI c) 32 := vp_in_nI hc (by omega)
  have e4 : (4 * nI c).toNatClampNeg = 4 * c := by rw [ix_y0]; exact nI_clamp (by omega)
  have v4 : vp_in (4 * nI c) 128 := by rw [ix_y0]; exact vp_in_nI (by omega) (by omega)
  exact And.intro vc (nm_r (e' := upd b_cKind c kd) (by rw [ec]) (And.intro vc (nm_r (e' := upd b_cStrength c st) (by rw [ec]) (And.intro vc (nm_r (e' := upd b_cK c K) (by rw [ec]) (And.intro vc (nm_r (e' := upd b_cCount c 1) (by rw [ec]) (And.intro v4 (nm_r (e' := upd b_tVar (4 * c) v) (by rw [e4]) (And.intro v4 (nm_r (e' := upd b_tSign (4 * c) 1) (by rw [e4]) (And.intro v4 (nm_r (e' := upd b_tMode (4 * c) 1) (by rw [e4]) H)))))))))))))
theorem yl_w36 (post : Int32 → SY → Prop) (J : Int32 → Int32 → Int32 → Int32 → Int64 → (Nat → Int32) → (Nat → Int32) → (Nat → Int32) → (Nat → Int32) → (Nat → Int32) → (Nat → Int32) → (Nat → Int32) → (Nat → Int64) → (Nat → Int32) → (Nat → Int32) → (Nat → Int32) → (Nat → Int32) → (Nat → Int32) → (Nat → Int32) → (Nat → Int32) → (Nat → Int32) → (Nat → Int32) → (Nat → Int32) → (Nat → Int32) → (Nat → Int32) → (Nat → Int32) → Prop) {t : Nat}
    (H : ∀ inS, B01 inS → (∀ c, c < 32 → (¬ inS c = 0 ↔ c = 21 ∨ (c < 20 ∧ ¬ b_out c < 0 ∧ ¬ nI t < b_cStrength c))) → wpY_solvable (fun r u => match u with | (g_n, g_m, g_planLen, g_clock, b_cKind, b_cStrength, b_cK, b_cCount, b_tVar, b_tSign, b_tMode, b_born, b_here, b_marked, b_out, b_inSet, b_left, b_last, b_passed, b_was, b_member, b_val, b_old, b_known, b_plan) => (r = 0 → post (nI t) (g_n, g_m, g_planLen, g_clock, b_cKind, b_cStrength, b_cK, b_cCount, b_tVar, b_tSign, b_tMode, b_born, b_here, b_marked, b_out, b_inSet, b_left, b_last, b_passed, b_was, b_member, b_val, b_old, b_known, b_plan)) ∧ (¬ r = 0 → ∀ y, y = nI t + 1 → J y g_n g_m g_planLen g_clock b_cKind b_cStrength b_cK b_cCount b_tVar b_tSign b_tMode b_born b_here b_marked b_out b_inSet b_left b_last b_passed b_was b_member b_val b_old b_known b_plan)) (g_n, g_m, g_planLen, g_clock, b_cKind, b_cStrength, b_cK, b_cCount, b_tVar, b_tSign, b_tMode, b_born, b_here, b_marked, b_out, inS, b_left, b_last, b_passed, b_was, b_member, b_val, b_old, b_known, b_plan)) :
    ∀ d i inS fuel, i + d = 32 → d < fuel → (∀ c, c < i → (inS c = 0 ∨ inS c = 1) ∧ (¬ inS c = 0 ↔ c = 21 ∨ (c < 20 ∧ ¬ b_out c < 0 ∧ ¬ nI t < b_cStrength c))) → wY_walkabout_36 post J (nI t) g_n g_m g_planLen g_clock fuel (nI i) b_cKind b_cStrength b_cK b_cCount b_tVar b_tSign b_tMode b_born b_here b_marked b_out inS b_left b_last b_passed b_was b_member b_val b_old b_known b_plan := by
  intro d
  induction d with
  | zero =>
    intro i inS fuel hi hf h
    have e : i = 32 := by omega
    subst e
    cases fuel with
    | zero => omega
    | succ fuel => exact br_t (by decide) (H inS (fun c hc => (h c hc).1) fun c hc => (h c hc).2)
  | succ d ih =>
    intro i inS fuel hi hf h
    cases fuel with
    | zero => omega
    | succ fuel =>
      have vi : vp_in (nI i) 32 := vp_in_nI (by omega) (by omega)
      have ei : (nI i).toNatClampNeg = i := nI_clamp (by omega)
      have nx : ∀ y : Int32, (y = 0 ∨ y = 1) → (¬ y = 0 ↔ i = 21 ∨ (i < 20 ∧ ¬ b_out i < 0 ∧ ¬ nI t < b_cStrength i)) → wY_walkabout_36 post J (nI t) g_n g_m g_planLen g_clock fuel (nI (i + 1)) b_cKind b_cStrength b_cK b_cCount b_tVar b_tSign b_tMode b_born b_here b_marked b_out (upd inS i y) b_left b_last b_passed b_was b_member b_val b_old b_known b_plan := fun y hy1 hy => ih (i + 1) _ fuel (by omega) (by omega) fun c hc => by
        rcases Nat.lt_or_ge c i with z | z
        · rw [pk_un (by omega)]; exact h c z
        · have : c = i := by omega
          subst this
          rw [pk_us]; exact ⟨hy1, hy⟩
      have n1 : ¬ (1 : Int32) = 0 := by decide
      have off : ∀ {P : Prop}, ¬ P → (¬ (0 : Int32) = 0 ↔ P) := fun hP => ⟨fun y => absurd rfl y, fun y => absurd y hP⟩
      have on : ∀ {P : Prop}, P → (¬ (1 : Int32) = 0 ↔ P) := fun hP => ⟨fun _ => hP, fun _ => n1⟩
      have w0 : ∀ {P : Prop}, ¬ (i = 21 ∨ (i < 20 ∧ ¬ b_out i < 0 ∧ ¬ nI t < b_cStrength i)) → (vp_in (nI i) 32 ∧ ∀ y, y = upd inS i (vp_nar .boolean 0) → ∀ z, z = nI i + 1 → wY_walkabout_36 post J (nI t) g_n g_m g_planLen g_clock fuel z b_cKind b_cStrength b_cK b_cCount b_tVar b_tSign b_tMode b_born b_here b_marked b_out y b_left b_last b_passed b_was b_member b_val b_old b_known b_plan) := fun hP => And.intro vi (nm_e (nm_r (nI_1 i) (nx 0 (Or.inl rfl) (off hP))))
      refine pk_le 32 i (fun h => absurd h (by omega)) (fun _ => ?_) rfl rfl (by omega) (by omega)
      rw [ei]
      refine pk_eq i 21 (fun z => And.intro vi (nm_e (nm_r (nI_1 i) (nx 1 (Or.inr rfl) (on (Or.inl z)))))) (fun z => pk_le 20 i (fun y => And.intro vi (nm_e (nm_r (nI_1 i) (nx 0 (Or.inl rfl) (off fun h => h.elim z fun h => by omega))))) (fun y => And.intro vi (br_c (fun a => And.intro vi (nm_e (nm_r (nI_1 i) (nx 0 (Or.inl rfl) (off fun h => h.elim z fun h => h.2.1 a))))) (fun a => And.intro vi (br_c (fun b => And.intro vi (nm_e (nm_r (nI_1 i) (nx 0 (Or.inl rfl) (off fun h => h.elim z fun h => h.2.2 b))))) (fun b => And.intro vi (nm_e (nm_r (nI_1 i) (nx 1 (Or.inr rfl) (on (Or.inr ⟨y, a, b⟩)))))))))) rfl rfl (by omega) (by omega)) rfl rfl (by omega) (by omega)
theorem yl_w28 (S : STR N M L q f_live f_marked f_draftOpen f_liveCount f_nextStamp g_clock a_kinds a_strengths a_constants a_termCounts a_termVars a_termSigns a_termModes a_variableMasks a_outputMasks a_users a_makers a_ranked a_atStrength a_stamps b_cKind b_cStrength b_cK b_cCount b_tVar b_tSign b_tMode b_born b_here b_marked) (hN : N ≤ 10) (hM : M ≤ 20) (hE : ∀ c, Hb f_enforced c → DX N f_live c) (ho : ∀ c, c < 20 → (¬ b_out c < 0 ↔ Hb f_enforced c)) {v s : Nat} (hv : v < N) (hw : WkV (UX N a_users) (UX N a_makers) f_enforced a_strengths v s)
    (c21 : b_cCount 21 = nI 1) (t21 : b_tVar (4 * 21) = nI v) (m21 : b_tMode (4 * 21) = 1) (post : Int32 → SY → Prop) (H : ∀ inS le la, post (nI s) (g_n, g_m, g_planLen, g_clock, b_cKind, b_cStrength, b_cK, b_cCount, b_tVar, b_tSign, b_tMode, b_born, b_here, b_marked, b_out, inS, le, la, b_passed, b_was, b_member, b_val, b_old, b_known, b_plan)) :
    ∀ d t inS le la fuel, t + d = 7 → d < fuel → (∀ t', t' < t → Slv (UX N a_users) (UX N a_makers) (fun c => (Hb f_enforced c ∧ c < 20 ∧ tn (a_strengths c) ≤ t') ∨ c = 22 + v)) → wY_walkabout_28 post fuel (nI t) g_n g_m g_planLen g_clock b_cKind b_cStrength b_cK b_cCount b_tVar b_tSign b_tMode b_born b_here b_marked b_out inS le la b_passed b_was b_member b_val b_old b_known b_plan := by
  have s7 := hw.1
  have tc1 : tn (b_cCount 21) = 1 := by rw [c21]; exact tn_nI (by decide)
  have u21 : ∀ w, UY N b_cCount b_tVar 21 w ↔ w = v := fun w => by
    unfold UY
    rw [tc1]
    constructor
    · rintro ⟨hw, t, ht, e⟩
      have : t = 0 := by omega
      subst this
      rw [Nat.add_zero, t21, nI_eq (by omega) (by omega)] at e
      exact e.symm
    · rintro rfl
      exact ⟨hv, 0, by omega, t21⟩
  have k21 : ∀ w, MY N b_cCount b_tVar b_tMode 21 w ↔ w = v := fun w => by
    constructor
    · exact fun h => (u21 w).mp (ky_uy h)
    · rintro rfl
      exact ⟨hv, 0, by rw [tc1]; omega, t21, m21⟩
  have R21 : RY N b_cCount b_tVar 21 := ⟨by omega, by rw [tc1]; omega, by rw [tc1]; exact c21, fun t ht => by
    rw [tc1] at ht
    have : t = 0 := by omega
    subst this
    exact ⟨v, hv, t21⟩⟩
  intro d
  induction d with
  | zero =>
    intro t inS le la fuel ht hf h
    have e : t = 7 := by omega
    subst e
    cases fuel with
    | zero => omega
    | succ fuel =>
      have : s = 7 := by
        rcases Nat.lt_or_ge s 7 with z | z
        · exact absurd (h s z) (hw.2.2 z)
        · omega
      subst this
      exact br_t (by decide) (H inS le la)
  | succ d ih =>
    intro t inS le la fuel ht hf h
    cases fuel with
    | zero => omega
    | succ fuel =>
      refine br_f (nI_nlt (a := 6) (by omega) (by decide)) (Exists.intro 33 (yl_w36 post _ (fun inS' hB hin => ?_) 32 0 inS 33 (by omega) (by omega) fun c hc => by omega))
      have hst : ∀ c, Hb f_enforced c → c < 20 → (¬ nI t < b_cStrength c ↔ tn (a_strengths c) ≤ t) := fun c hc h20 => by
        have hV : Vd N f_live f_draftOpen c := dx_vd (hE c hc)
        obtain ⟨i1, i2⟩ := (st_ix S hM (hE c hc)).1 h20
        have i3 : ix7 a_strengths c = tn (a_strengths c) := by unfold ix7; rw [if_pos h20]
        rw [i3] at i1 i2
        rw [← (S.1.2.1 c hV).1.2.1, i2, nI_ltI (by omega) (by omega), tn_nI (by omega)]
        omega
      have eS : ∀ c, Ns inS' c ↔ (Hb f_enforced c ∧ c < 20 ∧ tn (a_strengths c) ≤ t) ∨ c = 21 := fun c => by
        constructor
        · rintro ⟨hc, hne⟩
          rcases (hin c hc).mp hne with z | ⟨z1, z2, z3⟩
          · exact Or.inr z
          · have hcE := (ho c z1).mp z2
            exact Or.inl ⟨hcE, z1, (hst c hcE z1).mp z3⟩
        · rintro (⟨z1, z2, z3⟩ | z)
          · exact ⟨by omega, (hin c (by omega)).mpr (Or.inr ⟨z2, (ho c z2).mpr z1, (hst c z1 z2).mpr z3⟩)⟩
          · exact ⟨by omega, (hin c (by omega)).mpr (Or.inl z)⟩
      have hV : ∀ c, (Hb f_enforced c ∧ c < 20 ∧ tn (a_strengths c) ≤ t) → Vd N f_live f_draftOpen c := fun c hc => dx_vd (hE c hc.1)
      have eqv : Slv (UY N b_cCount b_tVar) (MY N b_cCount b_tVar b_tMode) (Ns inS') ↔ Slv (UX N a_users) (UX N a_makers) (fun c => (Hb f_enforced c ∧ c < 20 ∧ tn (a_strengths c) ≤ t) ∨ c = 22 + v) := by
        rw [sv_eq eS]
        constructor
        · exact sv_ren (fun h => by omega) (fun h => by omega) (fun c w hc => (st_u S hN (hV c hc)).symm) (fun c w hc => (st_m S hN (hV c hc)).symm) (fun w => (u21 w).trans ((st_stay S hN hv).2 w).symm) (fun w => (k21 w).trans ((st_stay S hN hv).1 w).symm)
        · exact sv_ren (fun h => by omega) (fun h => by omega) (fun c w hc => st_u S hN (hV c hc)) (fun c w hc => st_m S hN (hV c hc)) (fun w => ((st_stay S hN hv).2 w).trans (u21 w).symm) (fun w => ((st_stay S hN hv).1 w).trans (k21 w).symm)
      refine ys_solv _ (fun c hc => ?_) hN S.1.2.2.2.1 hB fun r le' la' hr => ?_
      · rcases (eS c).mp hc with z | z
        · exact st_RY S hN (hV c z)
        · rw [z]; exact R21
      · rcases hr with ⟨e, hs, _⟩ | ⟨e, hs⟩
        · subst e
          refine br_f (by decide) (nm_r (nI_1 t) (ih (t + 1) inS' le' la' fuel (by omega) (by omega) fun t' ht' => ?_))
          rcases Nat.lt_or_ge t' t with z | z
          · exact h t' z
          · have : t' = t := by omega
            subst this
            exact eqv.mp hs
        · subst e
          have hns := fun y => hs (eqv.mpr y)
          have : s = t := by
            rcases Nat.lt_trichotomy s t with z | z | z
            · exact absurd (h s z) (hw.2.2 (by omega))
            · exact z
            · exact absurd (hw.2.1 t z (by omega)) hns
          subst this
          exact br_t rfl (H inS' le' la')
theorem e_out (E : EPR N f_live f_enforced f_execCount f_walkKnown a_strengths a_stamps a_users a_makers a_execIds a_outputs a_feeders a_determiner a_upstream a_walk b_out) (c : Nat) (hc : c < 32) : (¬ b_out c < 0 ↔ Hb f_enforced c) := by
  obtain ⟨p, _, f1, f2, f3, f4, f5, f6, _⟩ := E.2.2.2.1
  rw [E.2.2.2.2.1 c hc]
  rcases Classical.em (Hb f_enforced c) with z | z
  · refine ⟨fun _ => z, fun _ => ?_⟩
    obtain ⟨i, hi, ei⟩ := f2.2.1 c z
    have ei' : tn (a_execIds i) = c := ei
    have : UX N a_makers (tn (a_execIds i)) (tn (a_outputs (tn (a_execIds i)))) := (f2.1 i hi).2
    rw [ei'] at this
    have hu := this.1
    have hN : tn (a_outputs c) < 2 ^ 31 := by
      have h := (a_outputs c).toNatClampNeg_lt
      omega
    rw [(f4 c z).1]
    exact nI_pos hN
  · rw [f6 c hc z]
    exact ⟨fun y => absurd (by decide) y, fun y => absurd y z⟩
theorem yr_walk (D : DIM N M f_n f_m f_allVariables g_n g_m) (S : STR N M L q f_live f_marked f_draftOpen f_liveCount f_nextStamp g_clock a_kinds a_strengths a_constants a_termCounts a_termVars a_termSigns a_termModes a_variableMasks a_outputMasks a_users a_makers a_ranked a_atStrength a_stamps b_cKind b_cStrength b_cK b_cCount b_tVar b_tSign b_tMode b_born b_here b_marked) (E : EPR N f_live f_enforced f_execCount f_walkKnown a_strengths a_stamps a_users a_makers a_execIds a_outputs a_feeders a_determiner a_upstream a_walk b_out) {v s : Nat} (hv : v < N) (hw : WkV (UX N a_users) (UX N a_makers) f_enforced a_strengths v s) (post : Int32 → SY → Prop)
    (H : ∀ inS le la, post (nI s) (g_n, g_m, g_planLen, g_clock, upd b_cKind 21 0, upd b_cStrength 21 7, upd b_cK 21 0, upd b_cCount 21 1, upd b_tVar (4 * 21) (nI v), upd b_tSign (4 * 21) 1, upd b_tMode (4 * 21) 1, b_born, b_here, b_marked, b_out, inS, le, la, b_passed, b_was, b_member, b_val, b_old, b_known, b_plan)) : wpY_walkabout post (g_n, g_m, g_planLen, g_clock, b_cKind, b_cStrength, b_cK, b_cCount, b_tVar, b_tSign, b_tMode, b_born, b_here, b_marked, b_out, b_inSet, b_left, b_last, b_passed, b_was, b_member, b_val, b_old, b_known, b_plan) (nI v) := by
  obtain ⟨hn, hN2, hN, hm, hM2, hM, hall, gn, gm⟩ := D
  refine br_f (nI_pos (by omega)) (br_t (by rw [gn]; exact nI_lt hv (by omega)) ?_)
  refine ys_single (c := 21) _ (by omega) _ _ _ _ ?_
  have S' := s_21 S hN hM S.1.1 sm_refl (sm_one (x1 := 0) (x2 := 7) (x3 := 0) (x4 := 1) (x5 := nI v) (x6 := 1) (x7 := 1)) ⟨1, by omega, pk_us⟩
  exact Exists.intro 8 (yl_w28 S' hN hM E.1.1 (fun c hc => e_out E c (by omega)) hv hw pk_us pk_us pk_us post H 7 0 b_inSet b_left b_last 8 (by omega) (by omega) fun t' ht' => by omega)
theorem i_vc_walkabout {k : Nat} {u : SX} {v : SY} (I : i_Rel k u v) (hk : k + 4 ≤ 2050) (v1 : Int32) : wpX_walkabout (fun r u' => wpY_walkabout (fun r' v' => r' = r ∧ i_Rel (k + 4) u' v') v v1) u v1 := by
  refine zz_el (P := fun u v => wpX_walkabout (fun r u' => wpY_walkabout (fun r' v' => r' = r ∧ i_Rel (k + 4) u' v') v v1) u v1) ?_ I
  intro f_draftId f_editId f_firstStay f_n f_m f_allVariables f_live f_liveCount f_marked f_draftOpen f_enforced f_execCount f_walkKnown f_peelCount f_planCount f_nextStamp a_values a_before a_kinds a_strengths a_constants a_termCounts a_termVars a_termSigns a_termModes a_variableMasks a_outputMasks a_users a_makers a_ranked a_atStrength a_execIds a_outputs a_feeders a_determiner a_upstream a_walk a_agenda a_peelIds a_peelVars a_plan a_stamps g_n g_m g_planLen g_clock b_cKind b_cStrength b_cK b_cCount b_tVar b_tSign b_tMode b_here b_marked b_out b_inSet b_left b_last b_passed b_was b_member b_val b_old b_known b_plan b_born N M L q h1 h2 h3 h4 h5 h6
  have II : i_Rel (k + 4) (f_draftId, f_editId, f_firstStay, f_n, f_m, f_allVariables, f_nextStamp, f_live, f_liveCount, f_marked, f_draftOpen, f_enforced, f_execCount, f_walkKnown, f_peelCount, f_planCount, a_values, a_before, a_kinds, a_strengths, a_constants, a_termCounts, a_termVars, a_termSigns, a_termModes, a_variableMasks, a_outputMasks, a_stamps, a_users, a_makers, a_ranked, a_atStrength, a_execIds, a_outputs, a_feeders, a_determiner, a_upstream, a_walk, a_agenda, a_peelIds, a_peelVars, a_plan) (g_n, g_m, g_planLen, g_clock, b_cKind, b_cStrength, b_cK, b_cCount, b_tVar, b_tSign, b_tMode, b_born, b_here, b_marked, b_out, b_inSet, b_left, b_last, b_passed, b_was, b_member, b_val, b_old, b_known, b_plan) := zz_mk (by omega) h2 h3 h4 h5 h6
  have DD := h2
  obtain ⟨hn, hN2, hN, hm, hM2, hM, hall, gn, gm⟩ := h2
  rcases pk_ix v1 (n := N) (by omega) with z | z | ⟨v, hv, rfl⟩
  · unfold wpX_walkabout
    refine xs_var_f hn _ (Or.inl z) ?_
    refine br_t rfl ?_
    exact br_t z ⟨rfl, II⟩
  · unfold wpX_walkabout
    refine xs_var_f hn _ (Or.inr z) ?_
    refine br_t rfl ?_
    refine br_c (fun _ => ⟨rfl, II⟩) (fun _ => br_f ?_ ⟨rfl, II⟩)
    rw [gn]; exact Int32.not_lt.mpr z
  · obtain ⟨s, hw⟩ := wv_ex (us := UX N a_users) (mk := UX N a_makers) (E := f_enforced) (st := a_strengths) (v := v)
    refine xr_walk DD h3 h4 hv hw _ fun wkn wk pc ag pi pv E' => ?_
    refine yr_walk DD h3 h4 hv hw _ fun inS le la => ⟨rfl, ?_⟩
    have S' := s_21 h3 hN hM h3.1.1 sm_refl (sm_one (x1 := 0) (x2 := 7) (x3 := 0) (x4 := 1) (x5 := nI v) (x6 := 1) (x7 := 1)) ⟨1, by omega, pk_us⟩
    exact zz_mk (by omega) DD S' E' h5 h6
end
end
section
/-! the reference's choice under the relation; renew, requiredFits, probe -/
theorem out_eq {us mk : Nat → Nat → Prop} {key : Nat → Nat} {D C : Nat → Prop} {out : Nat → Int32} {S : Nat → Prop} {N p : Nat} {xs os : Nat → Nat} (O : OutR us mk key D C out) (hC : ∀ c, C c ↔ S c) (F : Fps us mk S p xs os) (hs : ∀ v, v < N → ∃ i, i < p ∧ os i = v) (hmu : ∀ c v, mk c v → us c v) (huN : ∀ c v, us c v → v < N) : ∀ i, i < p → out (xs i) = nI (os i) := by
  intro i hi
  obtain ⟨_, _, ⟨o1, o2⟩, _⟩ := O
  have := fp_uniq (out := fun c => tn (out c)) F hmu hs (fun c hc => ⟨(o1 c ((hC c).mpr hc)).1, huN _ _ (hmu _ _ (o1 c ((hC c).mpr hc)).1)⟩) (fun c d hc hd e => o2 c d ((hC c).mpr hc) ((hC d).mpr hd) e) i hi
  rw [(o1 _ ((hC _).mpr (F.1 i hi).1)).2]
  exact congrArg nI this
section
variable {f_draftId f_editId f_firstStay f_n f_m f_allVariables f_live f_liveCount f_marked f_draftOpen f_enforced f_execCount f_walkKnown f_peelCount f_planCount : Int32} {f_nextStamp : Int64} {a_values a_before a_kinds a_strengths a_constants a_termCounts a_termVars a_termSigns a_termModes a_variableMasks a_outputMasks a_users a_makers a_ranked a_atStrength a_execIds a_outputs a_feeders a_determiner a_upstream a_walk a_agenda a_peelIds a_peelVars a_plan : Nat → Int32} {a_stamps : Nat → Int64}
variable {g_n g_m g_planLen : Int32} {g_clock : Int64} {b_cKind b_cStrength b_cK b_cCount b_tVar b_tSign b_tMode b_here b_marked b_out b_inSet b_left b_last b_passed b_was b_member b_val b_old b_known b_plan : Nat → Int32} {b_born : Nat → Int64}
variable {N M L q p : Nat}
theorem fx_sur (F : FX N (UX N a_users) (UX N a_makers) f_enforced p a_execIds a_outputs a_feeders a_determiner a_upstream) : ∀ v, v < N → ∃ i, i < p ∧ (fun i => tn (a_outputs (tn (a_execIds i)))) i = v := fun v hv => by
  obtain ⟨c, hc, e⟩ := F.2.2.2.2.1 v hv
  obtain ⟨i, hi, ei⟩ := F.2.1.2.1 c hc
  have ei' : tn (a_execIds i) = c := ei
  exact ⟨i, hi, by show tn (a_outputs (tn (a_execIds i))) = v; rw [ei']; exact e⟩
theorem yr_choose (S : STR N M L q f_live f_marked f_draftOpen f_liveCount f_nextStamp g_clock a_kinds a_strengths a_constants a_termCounts a_termVars a_termSigns a_termModes a_variableMasks a_outputMasks a_users a_makers a_ranked a_atStrength a_stamps b_cKind b_cStrength b_cK b_cCount b_tVar b_tSign b_tMode b_born b_here b_marked) (hN : N ≤ 10) (hM : M ≤ 20) (hq : q ≤ 2050) (hCh : Chs (UX N a_users) (UX N a_makers) (keyR a_strengths a_stamps) (DX N f_live) (Hb f_enforced)) (F : FX N (UX N a_users) (UX N a_makers) f_enforced p a_execIds a_outputs a_feeders a_determiner a_upstream) (post : SY → Prop)
    (H : ∀ out inS pa le la, (∀ c, c < 32 → out c = a_outputs c) → post (g_n, g_m, g_planLen, g_clock, b_cKind, b_cStrength, b_cK, b_cCount, b_tVar, b_tSign, b_tMode, b_born, b_here, b_marked, out, inS, le, la, pa, b_was, b_member, b_val, b_old, b_known, b_plan)) : wpY_choose post (g_n, g_m, g_planLen, g_clock, b_cKind, b_cStrength, b_cK, b_cCount, b_tVar, b_tSign, b_tMode, b_born, b_here, b_marked, b_out, b_inSet, b_left, b_last, b_passed, b_was, b_member, b_val, b_old, b_known, b_plan) (-1) := by
  have eD := fun c => st_D S hN hM (c := c)
  have hV : ∀ c, DX N f_live c → Vd N f_live f_draftOpen c := fun c hc => dx_vd hc
  refine ys_choose post (fun c hc => ⟨st_RY S hN (hV c ((eD c).mp hc)), st_SB S hN hM hq ((eD c).mp hc)⟩) (fun c d hc hd e => st_inj S hN hM hq ((eD c).mp hc) ((eD d).mp hd) e) hN S.1.2.2.2.1 fun C out inS pa le la O => H out inS pa le la ?_
  have hY : Chs (UY N b_cCount b_tVar) (MY N b_cCount b_tVar b_tMode) (keyY b_cStrength b_born) (DY (-1) b_here) (Hb f_enforced) :=
    ch_congr hCh (fun c => (eD c).symm) (fun _ => Iff.rfl) (fun c d hc hd => st_key S hN hM hq hc hd) (fun c v hc => st_u S hN (hV c hc)) (fun c v hc => st_m S hN (hV c hc))
  have hC : ∀ c, C c ↔ Hb f_enforced c := fun c => ch_uniq O.1 hY c
  have hE := hCh.1
  have F' : Fps (UY N b_cCount b_tVar) (MY N b_cCount b_tVar b_tMode) (Hb f_enforced) p (fun i => tn (a_execIds i)) (fun i => tn (a_outputs (tn (a_execIds i)))) := fp_congr F.2.1 (fun _ => Iff.rfl) (fun c v hc => st_u S hN (hV c (hE c hc))) (fun c v hc => st_m S hN (hV c (hE c hc)))
  have oe := out_eq O hC F' (fx_sur F) (fun _ _ => ky_uy) (fun _ _ h => h.1)
  intro c hc
  rcases Classical.em (Hb f_enforced c) with z | z
  · obtain ⟨i, hi, ei⟩ := F.2.1.2.1 c z
    have ei' : tn (a_execIds i) = c := ei
    have := oe i hi
    have this' : out (tn (a_execIds i)) = nI (tn (a_outputs (tn (a_execIds i)))) := this
    rw [ei'] at this'
    rw [this']
    exact (F.2.2.2.1 c z).1.symm
  · rw [O.2.2.2 c hc fun y => z ((hC c).mp y), F.2.2.2.2.2.1 c hc z]
theorem yr_renew (D : DIM N M f_n f_m f_allVariables g_n g_m) (S : STR N M L q f_live f_marked f_draftOpen f_liveCount f_nextStamp g_clock a_kinds a_strengths a_constants a_termCounts a_termVars a_termSigns a_termModes a_variableMasks a_outputMasks a_users a_makers a_ranked a_atStrength a_stamps b_cKind b_cStrength b_cK b_cCount b_tVar b_tSign b_tMode b_born b_here b_marked) (hq : q ≤ 2050) (hCh : Chs (UX N a_users) (UX N a_makers) (keyR a_strengths a_stamps) (DX N f_live) (Hb f_enforced)) (F : FX N (UX N a_users) (UX N a_makers) f_enforced p a_execIds a_outputs a_feeders a_determiner a_upstream) (post : SY → Prop)
    (H : ∀ out inS pa le la val kn, (∀ c, c < 32 → out c = a_outputs c) → Evl p (fun i => tn (a_execIds i)) (fun i => tn (a_outputs (tn (a_execIds i)))) (dmD b_cKind b_cK b_cCount b_tVar b_tSign) b_val val → post (g_n, g_m, -7, g_clock, b_cKind, b_cStrength, b_cK, b_cCount, b_tVar, b_tSign, b_tMode, b_born, b_here, b_marked, out, inS, le, la, pa, b_was, b_member, val, b_old, kn, b_plan)) : wpY_renew post (g_n, g_m, g_planLen, g_clock, b_cKind, b_cStrength, b_cK, b_cCount, b_tVar, b_tSign, b_tMode, b_born, b_here, b_marked, b_out, b_inSet, b_left, b_last, b_passed, b_was, b_member, b_val, b_old, b_known, b_plan) := by
  obtain ⟨hn, hN2, hN, hm, hM2, hM, hall, gn, gm⟩ := D
  unfold wpY_renew
  refine yr_choose S hN hM hq hCh F _ fun out inS pa le la ho => ?_
  refine yr_update ⟨hn, hN2, hN, hm, hM2, hM, hall, gn, gm⟩ S hCh.1 F ho _ fun val kn hev => ?_
  exact H out inS pa le la val kn ho hev
/-- the slots up to a strength -/
theorem up_mask (S : STR N M L q f_live f_marked f_draftOpen f_liveCount f_nextStamp g_clock a_kinds a_strengths a_constants a_termCounts a_termVars a_termSigns a_termModes a_variableMasks a_outputMasks a_users a_makers a_ranked a_atStrength a_stamps b_cKind b_cStrength b_cK b_cCount b_tVar b_tSign b_tMode b_born b_here b_marked) (hM : M ≤ 20) (hE : ∀ c, Hb f_enforced c → DX N f_live c) {s : Nat} (hs : s < 7) (c : Nat) : (Hb f_enforced c ∧ ∃ j, j ≤ s ∧ Hb (a_atStrength j) c) ↔ (Hb f_enforced c ∧ c < 20 ∧ tn (a_strengths c) ≤ s) := by
  constructor
  · rintro ⟨hc, j, hj, h⟩
    obtain ⟨hl, e⟩ := (S.2.2.2.1.1 j (by omega) c).mp h
    have := S.2.1.1 c hl
    refine ⟨hc, by omega, ?_⟩
    rw [e, tn_nI (by omega)]; exact hj
  · rintro ⟨hc, h20, h⟩
    have hl : Hb f_live c := (hE c hc).elim id fun y => absurd y.1 (by omega)
    obtain ⟨s', hs', e⟩ := S.1.2.2.2.2.1 c (Or.inl hl)
    rw [e, tn_nI (by omega)] at h
    exact ⟨hc, s', h, (S.2.2.2.1.1 s' hs' c).mpr ⟨hl, e⟩⟩
theorem yl_req (post : Int32 → SY → Prop) {e : Nat} (he : e < 32)
    (H : ∀ inS, B01 inS → (∀ c, c < 32 → (¬ inS c = 0 ↔ c = e ∨ (c < 20 ∧ ¬ b_here c = 0 ∧ b_cStrength c = 0))) → wpY_solvable (fun r u => match u with | (g_n, g_m, g_planLen, g_clock, b_cKind, b_cStrength, b_cK, b_cCount, b_tVar, b_tSign, b_tMode, b_born, b_here, b_marked, b_out, b_inSet, b_left, b_last, b_passed, b_was, b_member, b_val, b_old, b_known, b_plan) => narrow .boolean (.int r) = .int r ∧ post r (g_n, g_m, g_planLen, g_clock, b_cKind, b_cStrength, b_cK, b_cCount, b_tVar, b_tSign, b_tMode, b_born, b_here, b_marked, b_out, b_inSet, b_left, b_last, b_passed, b_was, b_member, b_val, b_old, b_known, b_plan)) (g_n, g_m, g_planLen, g_clock, b_cKind, b_cStrength, b_cK, b_cCount, b_tVar, b_tSign, b_tMode, b_born, b_here, b_marked, b_out, inS, b_left, b_last, b_passed, b_was, b_member, b_val, b_old, b_known, b_plan)) :
    ∀ d i inS fuel, i + d = 32 → d < fuel → (∀ c, c < i → (inS c = 0 ∨ inS c = 1) ∧ (¬ inS c = 0 ↔ c = e ∨ (c < 20 ∧ ¬ b_here c = 0 ∧ b_cStrength c = 0))) → wY_requiredFits_2 post (nI e) g_n g_m g_planLen g_clock fuel (nI i) b_cKind b_cStrength b_cK b_cCount b_tVar b_tSign b_tMode b_born b_here b_marked b_out inS b_left b_last b_passed b_was b_member b_val b_old b_known b_plan := by
  intro d
  induction d with
  | zero =>
    intro i inS fuel hi hf h
    have e : i = 32 := by omega
    subst e
    cases fuel with
    | zero => omega
    | succ fuel => exact br_t (by decide) (H inS (fun c hc => (h c hc).1) fun c hc => (h c hc).2)
  | succ d ih =>
    intro i inS fuel hi hf h
    cases fuel with
    | zero => omega
    | succ fuel =>
      have vi : vp_in (nI i) 32 := vp_in_nI (by omega) (by omega)
      have ei : (nI i).toNatClampNeg = i := nI_clamp (by omega)
      have nx : ∀ y : Int32, (y = 0 ∨ y = 1) → (¬ y = 0 ↔ i = e ∨ (i < 20 ∧ ¬ b_here i = 0 ∧ b_cStrength i = 0)) → wY_requiredFits_2 post (nI e) g_n g_m g_planLen g_clock fuel (nI (i + 1)) b_cKind b_cStrength b_cK b_cCount b_tVar b_tSign b_tMode b_born b_here b_marked b_out (upd inS i y) b_left b_last b_passed b_was b_member b_val b_old b_known b_plan := fun y hy1 hy => ih (i + 1) _ fuel (by omega) (by omega) fun c hc => by
        rcases Nat.lt_or_ge c i with z | z
        · rw [pk_un (by omega)]; exact h c z
        · have : c = i := by omega
          subst this
          rw [pk_us]; exact ⟨hy1, hy⟩
      have n1 : ¬ (1 : Int32) = 0 := by decide
      have off : ∀ {P : Prop}, ¬ P → (¬ (0 : Int32) = 0 ↔ P) := fun hP => ⟨fun y => absurd rfl y, fun y => absurd y hP⟩
      have on : ∀ {P : Prop}, P → (¬ (1 : Int32) = 0 ↔ P) := fun hP => ⟨fun _ => hP, fun _ => n1⟩
      refine pk_le 32 i (fun h => absurd h (by omega)) (fun _ => ?_) rfl rfl (by omega) (by omega)
      rw [ei]
      refine pk_eq i e (fun z => And.intro vi (nm_e (nm_r (nI_1 i) (nx 1 (Or.inr rfl) (on (Or.inl z)))))) (fun z => pk_le 20 i (fun y => And.intro vi (nm_e (nm_r (nI_1 i) (nx 0 (Or.inl rfl) (off fun h => h.elim z fun h => by omega))))) (fun y => And.intro vi (br_c (fun a => And.intro vi (nm_e (nm_r (nI_1 i) (nx 0 (Or.inl rfl) (off fun h => h.elim z fun h => h.2.1 a))))) (fun a => And.intro vi (br_c (fun b => And.intro vi (nm_e (nm_r (nI_1 i) (nx 1 (Or.inr rfl) (on (Or.inr ⟨y, a, b⟩)))))) (fun b => And.intro vi (nm_e (nm_r (nI_1 i) (nx 0 (Or.inl rfl) (off fun h => h.elim z fun h => b h.2.2))))))))) rfl rfl (by omega) (by omega)) rfl rfl (by omega) (by omega)
theorem yr_req (S : STR N M L q f_live f_marked f_draftOpen f_liveCount f_nextStamp g_clock a_kinds a_strengths a_constants a_termCounts a_termVars a_termSigns a_termModes a_variableMasks a_outputMasks a_users a_makers a_ranked a_atStrength a_stamps b_cKind b_cStrength b_cK b_cCount b_tVar b_tSign b_tMode b_born b_here b_marked) (hN : N ≤ 10) (hM : M ≤ 20) {e : Nat} (he : Vd N f_live f_draftOpen e) (post : Int32 → SY → Prop)
    (H : ∀ r inS le la, ((r = 1 ∧ Slv (UX N a_users) (UX N a_makers) (fun c => (Hb f_live c ∧ a_strengths c = 0) ∨ c = e)) ∨ (r = 0 ∧ ¬ Slv (UX N a_users) (UX N a_makers) (fun c => (Hb f_live c ∧ a_strengths c = 0) ∨ c = e))) → post r (g_n, g_m, g_planLen, g_clock, b_cKind, b_cStrength, b_cK, b_cCount, b_tVar, b_tSign, b_tMode, b_born, b_here, b_marked, b_out, inS, le, la, b_passed, b_was, b_member, b_val, b_old, b_known, b_plan)) : wpY_requiredFits post (g_n, g_m, g_planLen, g_clock, b_cKind, b_cStrength, b_cK, b_cCount, b_tVar, b_tSign, b_tMode, b_born, b_here, b_marked, b_out, b_inSet, b_left, b_last, b_passed, b_was, b_member, b_val, b_old, b_known, b_plan) (nI e) := by
  have e32 := vd_32 S hN he
  refine Exists.intro 33 (yl_req post e32 (fun inS hB hin => ?_) 32 0 b_inSet 33 (by omega) (by omega) fun c hc => by omega)
  have eS : ∀ c, Ns inS c ↔ (Hb f_live c ∧ a_strengths c = 0) ∨ c = e := fun c => by
    constructor
    · rintro ⟨hc, hne⟩
      rcases (hin c hc).mp hne with z | ⟨z1, z2, z3⟩
      · exact Or.inr z
      · have hl := (S.2.1.2.2.2.1 c z1).mp z2
        exact Or.inl ⟨hl, by rw [(S.1.2.1 c (Or.inl hl)).1.2.1]; exact z3⟩
    · rintro (⟨z1, z2⟩ | z)
      · have := S.2.1.1 c z1
        exact ⟨by omega, (hin c (by omega)).mpr (Or.inr ⟨by omega, (S.2.1.2.2.2.1 c (by omega)).mpr z1, by rw [← (S.1.2.1 c (Or.inl z1)).1.2.1]; exact z2⟩)⟩
      · exact ⟨by omega, (hin c (by omega)).mpr (Or.inl z)⟩
  have hV : ∀ c, Ns inS c → Vd N f_live f_draftOpen c := fun c hc => ((eS c).mp hc).elim (fun z => Or.inl z.1) fun z => z ▸ he
  refine ys_solv _ (fun c hc => st_RY S hN (hV c hc)) hN S.1.2.2.2.1 hB fun r le la hr => ?_
  have eqv : Slv (UY N b_cCount b_tVar) (MY N b_cCount b_tVar b_tMode) (Ns inS) ↔ Slv (UX N a_users) (UX N a_makers) (fun c => (Hb f_live c ∧ a_strengths c = 0) ∨ c = e) := by
    rw [← sv_eq eS]
    exact ⟨sv_congr (fun c v hc => (st_u S hN (hV c hc)).symm) (fun c v hc => (st_m S hN (hV c hc)).symm), sv_congr (fun c v hc => st_u S hN (hV c hc)) (fun c v hc => st_m S hN (hV c hc))⟩
  rcases hr with ⟨e1, hs, _⟩ | ⟨e1, hs⟩
  · subst e1
    exact And.intro rfl (H 1 inS le la (Or.inl ⟨rfl, eqv.mp hs⟩))
  · subst e1
    exact And.intro rfl (H 0 inS le la (Or.inr ⟨rfl, fun y => hs (eqv.mpr y)⟩))
theorem yl_can (post : Int32 → Prop) {q0 : Nat} (hq : q0 ≤ 4) (e : b_cCount 20 = nI q0) (H1 : (∃ t, t < q0 ∧ b_tMode (4 * 20 + t) = 1) → post 1) (H0 : (∀ t, t < q0 → ¬ b_tMode (4 * 20 + t) = 1) → post 0) :
    ∀ d i fuel, i + d = q0 → d < fuel → (∀ t, t < i → ¬ b_tMode (4 * 20 + t) = 1) → wY_draftCanOutput_2 post g_n g_m g_planLen g_clock b_cKind b_cStrength b_cK b_cCount b_tVar b_tSign b_tMode b_born b_here b_marked b_out b_inSet b_left b_last b_passed b_was b_member b_val b_old b_known b_plan fuel (nI i) := by
  intro d
  induction d with
  | zero =>
    intro i fuel hi hf h
    have e : i = q0 := by omega
    subst e
    cases fuel with
    | zero => omega
    | succ fuel => exact br_t (by rw [e]; exact Int32.le_refl _) (H0 h)
  | succ d ih =>
    intro i fuel hi hf h
    cases fuel with
    | zero => omega
    | succ fuel =>
      have e8 : 80 + nI i = nI (80 + i) := nI_add 80 i
      refine br_f (by rw [e]; exact nI_ge (by omega) (by omega)) ?_
      rw [e8, nI_clamp (n := 80 + i) (by omega)]
      refine And.intro (vp_in_nI (by omega) (by omega)) (br_c (fun z => H1 ⟨i, by omega, z⟩) (fun z => nm_r (nI_1 i) (ih (i + 1) fuel (by omega) (by omega) fun t ht => ?_)))
      rcases Nat.lt_or_ge t i with y | y
      · exact h t y
      · have : t = i := by omega
        subst this
        exact z
theorem yr_can (S : STR N M L q f_live f_marked f_draftOpen f_liveCount f_nextStamp g_clock a_kinds a_strengths a_constants a_termCounts a_termVars a_termSigns a_termModes a_variableMasks a_outputMasks a_users a_makers a_ranked a_atStrength a_stamps b_cKind b_cStrength b_cK b_cCount b_tVar b_tSign b_tMode b_born b_here b_marked) (hN : N ≤ 10) (hd : ¬ f_draftOpen = 0) (post : Int32 → Prop) (H1 : ¬ a_outputMasks 20 = 0 → post 1) (H0 : a_outputMasks 20 = 0 → post 0) : wpY_draftCanOutput post (g_n, g_m, g_planLen, g_clock, b_cKind, b_cStrength, b_cK, b_cCount, b_tVar, b_tSign, b_tMode, b_born, b_here, b_marked, b_out, b_inSet, b_left, b_last, b_passed, b_was, b_member, b_val, b_old, b_known, b_plan) := by
  have hV : Vd N f_live f_draftOpen 20 := Or.inr (Or.inl ⟨rfl, hd⟩)
  obtain ⟨⟨e1, e2, e3, e4, e5⟩, hK⟩ := S.1.2.1 20 hV
  obtain ⟨q0, hq0, eq0, hv0, hd0, _, _, hvm, hom⟩ := S.1.1 20 (by omega)
  have eqt : tn (a_termCounts 20) = q0 := by rw [eq0]; exact tn_nI (by omega)
  rw [eqt] at e5
  refine Exists.intro (q0 + 1) (yl_can post hq0 (by rw [← e4]; exact eq0) (fun h => H1 ?_) (fun h => H0 ?_) q0 0 (q0 + 1) (by omega) (by omega) fun t ht => by omega)
  · obtain ⟨t, ht, et⟩ := h
    obtain ⟨v, hv, ev⟩ := hv0 t ht
    exact hb_nz.mpr ⟨v, (hom v).mpr ⟨hv, t, ht, ev, by rw [(e5 t ht).2.2]; exact et⟩⟩
  · rw [hb_z]
    intro v hv
    obtain ⟨_, t, ht, _, et⟩ := (hom v).mp hv
    exact h t ht (by rw [← (e5 t ht).2.2]; exact et)
end
end
section
/-! a choice with one more candidate; probe -/
theorem ch_extra {us mk : Nat → Nat → Prop} {key key' : Nat → Nat} {D E D' C : Nat → Prop} {a : Nat} (hE : Chs us mk key D E) (hC : Chs us mk key' D' C) (hD : ∀ c, D' c ↔ D c ∨ c = a) (hk : ∀ c d, D c → D d → (key d < key c ↔ key' d < key' c)) : (∀ c, D c → key' c < key' a → (C c ↔ E c)) ∧ (C a ↔ Slv us mk (fun d => (E d ∧ key' d < key' a) ∨ d = a)) := by
  have hE' : Chs us mk key' D E := ch_congr hE (fun _ => Iff.rfl) (fun _ => Iff.rfl) hk (fun _ _ _ => Iff.rfl) (fun _ _ _ => Iff.rfl)
  have s1 : Chs us mk key' (fun c => D c ∧ key' c < key' a) (fun c => E c ∧ (D c ∧ key' c < key' a)) := ch_sub hE' (fun c hc => hc.1) (fun c d hc hd hlt => ⟨hE.1 d hd, by have := hc.2; omega⟩)
  have s2 : Chs us mk key' (fun c => D c ∧ key' c < key' a) (fun c => C c ∧ (D c ∧ key' c < key' a)) := by
    refine ch_sub hC (fun c hc => (hD c).mpr (Or.inl hc.1)) (fun c d hc hd hlt => ?_)
    rcases (hD d).mp (hC.1 d hd) with z | z
    · exact ⟨z, by have := hc.2; omega⟩
    · subst z
      have := hc.2
      omega
  have key1 : ∀ c, D c → key' c < key' a → (C c ↔ E c) := fun c hc hlt => by
    have := ch_uniq s1 s2 c
    exact ⟨fun z => (this.mpr ⟨z, hc, hlt⟩).1, fun z => (this.mp ⟨z, hc, hlt⟩).1⟩
  refine ⟨key1, ?_⟩
  rw [hC.2 a ((hD a).mpr (Or.inr rfl))]
  apply sv_eq
  intro d
  constructor
  · rintro (z | z)
    · rcases (hD d).mp (hC.1 d z.1) with y | y
      · exact Or.inl ⟨(key1 d y z.2).mp z.1, z.2⟩
      · exact Or.inr y
    · exact Or.inr z
  · rintro (z | z)
    · exact Or.inl ⟨(key1 d (hE.1 d z.1) z.2).mpr z.1, z.2⟩
    · exact Or.inr z
section
variable {f_draftId f_editId f_firstStay f_n f_m f_allVariables f_live f_liveCount f_marked f_draftOpen f_enforced f_execCount f_walkKnown f_peelCount f_planCount : Int32} {f_nextStamp : Int64} {a_values a_before a_kinds a_strengths a_constants a_termCounts a_termVars a_termSigns a_termModes a_variableMasks a_outputMasks a_users a_makers a_ranked a_atStrength a_execIds a_outputs a_feeders a_determiner a_upstream a_walk a_agenda a_peelIds a_peelVars a_plan : Nat → Int32} {a_stamps : Nat → Int64}
variable {g_n g_m g_planLen : Int32} {g_clock : Int64} {b_cKind b_cStrength b_cK b_cCount b_tVar b_tSign b_tMode b_here b_marked b_out b_inSet b_left b_last b_passed b_was b_member b_val b_old b_known b_plan : Nat → Int32} {b_born : Nat → Int64}
variable {N M L q p : Nat}
/-- the extra candidate e of strength s, the youngest: its key against the others -/
theorem x_key (S : STR N M L q f_live f_marked f_draftOpen f_liveCount f_nextStamp g_clock a_kinds a_strengths a_constants a_termCounts a_termVars a_termSigns a_termModes a_variableMasks a_outputMasks a_users a_makers a_ranked a_atStrength a_stamps b_cKind b_cStrength b_cK b_cCount b_tVar b_tSign b_tMode b_born b_here b_marked) (hN : N ≤ 10) (hM : M ≤ 20) (hq : q ≤ 2050) {e s : Nat} (he : e = 20 ∨ e = 21) (hs : s < 7) {cs : Nat → Int32} (hcs : ∀ c, c ≠ e → cs c = b_cStrength c) (hce : cs e = nI s) :
    (∀ c, DX N f_live c → keyY cs (vp_updL b_born e g_clock) c = keyY b_cStrength b_born c) ∧ keyY cs (vp_updL b_born e g_clock) e = s * 65536 + q ∧
    (∀ c, DX N f_live c → (keyY b_cStrength b_born c < s * 65536 + q ↔ c < 20 ∧ tn (a_strengths c) ≤ s)) ∧ (∀ c, DX N f_live c → keyY b_cStrength b_born c ≠ s * 65536 + q) := by
  have dne : ∀ c, DX N f_live c → c ≠ e := fun c hc => hc.elim (fun y => by have := S.2.1.1 c y; omega) fun y => by omega
  refine ⟨fun c hc => ?_, ?_, fun c hc => ?_, fun c hc => ?_⟩
  · unfold keyY
    rw [hcs c (dne c hc), pk_uLn (dne c hc)]
  · unfold keyY
    rw [hce, pk_uLs, S.2.2.2.2.2.1, tn_nI (by omega), ln_lN (by omega)]
  · rcases Nat.lt_or_ge c 20 with z | z
    · have hl : Hb f_live c := hc.elim id fun y => absurd y.1 (by omega)
      obtain ⟨s', hs', es⟩ := S.1.2.2.2.2.1 c (Or.inl hl)
      obtain ⟨b, hb, _, eb⟩ := S.2.2.2.2.2.2.1 c hl
      have e2 := (S.1.2.1 c (Or.inl hl)).1.2.1
      unfold keyY
      rw [← e2, es, eb, tn_nI (by omega), ln_lN (by omega)]
      omega
    · have := st_kY S hN hM hq hc
      omega
  · rcases Nat.lt_or_ge c 20 with z | z
    · have hl : Hb f_live c := hc.elim id fun y => absurd y.1 (by omega)
      obtain ⟨s', hs', es⟩ := S.1.2.2.2.2.1 c (Or.inl hl)
      obtain ⟨b, hb, _, eb⟩ := S.2.2.2.2.2.2.1 c hl
      have e2 := (S.1.2.1 c (Or.inl hl)).1.2.1
      unfold keyY
      rw [← e2, es, eb, tn_nI (by omega), ln_lN (by omega)]
      omega
    · have := st_kY S hN hM hq hc
      omega
theorem x_D (S : STR N M L q f_live f_marked f_draftOpen f_liveCount f_nextStamp g_clock a_kinds a_strengths a_constants a_termCounts a_termVars a_termSigns a_termModes a_variableMasks a_outputMasks a_users a_makers a_ranked a_atStrength a_stamps b_cKind b_cStrength b_cK b_cCount b_tVar b_tSign b_tMode b_born b_here b_marked) (hN : N ≤ 10) (hM : M ≤ 20) {e : Nat} (he : e = 20 ∨ e = 21) (c : Nat) : DY (nI e) b_here c ↔ DX N f_live c ∨ c = e := by
  rw [← st_D S hN hM]
  constructor
  · rintro ⟨hc, z | z⟩
    · exact Or.inr ((nI_eq (by omega) (by omega)).mp z)
    · exact Or.inl ⟨hc, Or.inr z⟩
  · rintro (⟨hc, z | z⟩ | z)
    · exact absurd (show nI c < 0 by rw [z]; decide) (nI_pos (by omega))
    · exact ⟨hc, Or.inr z⟩
    · exact ⟨by omega, Or.inl (by rw [z])⟩
theorem s_born (S : STR N M L q f_live f_marked f_draftOpen f_liveCount f_nextStamp g_clock a_kinds a_strengths a_constants a_termCounts a_termVars a_termSigns a_termModes a_variableMasks a_outputMasks a_users a_makers a_ranked a_atStrength a_stamps b_cKind b_cStrength b_cK b_cCount b_tVar b_tSign b_tMode b_born b_here b_marked) (hM : M ≤ 20) {e : Nat} (he : e = 20 ∨ e = 21) {x : Int64} : STR N M L q f_live f_marked f_draftOpen f_liveCount f_nextStamp g_clock a_kinds a_strengths a_constants a_termCounts a_termVars a_termSigns a_termModes a_variableMasks a_outputMasks a_users a_makers a_ranked a_atStrength a_stamps b_cKind b_cStrength b_cK b_cCount b_tVar b_tSign b_tMode (vp_updL b_born e x) b_here b_marked := by
  obtain ⟨r, l, k, t, m1, m2, m3, m4⟩ := S
  refine ⟨r, l, k, t, m1, m2, fun c hc => ?_, fun v hv => ?_⟩
  · have := l.1 c hc
    rw [pk_uLn (by omega)]; exact m3 c hc
  · rw [pk_uLn (by omega)]; exact m4 v hv
theorem i_vc_probe {k : Nat} {u : SX} {v : SY} (I : i_Rel k u v) (hk : k + 4 ≤ 2050) : wpX_probe (fun r u' => wpY_probe (fun r' v' => r' = r ∧ i_Rel (k + 4) u' v') v) u := by
  refine zz_el (P := fun u v => wpX_probe (fun r u' => wpY_probe (fun r' v' => r' = r ∧ i_Rel (k + 4) u' v') v) u) ?_ I
  intro f_draftId f_editId f_firstStay f_n f_m f_allVariables f_live f_liveCount f_marked f_draftOpen f_enforced f_execCount f_walkKnown f_peelCount f_planCount f_nextStamp a_values a_before a_kinds a_strengths a_constants a_termCounts a_termVars a_termSigns a_termModes a_variableMasks a_outputMasks a_users a_makers a_ranked a_atStrength a_execIds a_outputs a_feeders a_determiner a_upstream a_walk a_agenda a_peelIds a_peelVars a_plan a_stamps g_n g_m g_planLen g_clock b_cKind b_cStrength b_cK b_cCount b_tVar b_tSign b_tMode b_here b_marked b_out b_inSet b_left b_last b_passed b_was b_member b_val b_old b_known b_plan b_born N M L q h1 h2 h3 h4 h5 h6
  have II : i_Rel (k + 4) (f_draftId, f_editId, f_firstStay, f_n, f_m, f_allVariables, f_nextStamp, f_live, f_liveCount, f_marked, f_draftOpen, f_enforced, f_execCount, f_walkKnown, f_peelCount, f_planCount, a_values, a_before, a_kinds, a_strengths, a_constants, a_termCounts, a_termVars, a_termSigns, a_termModes, a_variableMasks, a_outputMasks, a_stamps, a_users, a_makers, a_ranked, a_atStrength, a_execIds, a_outputs, a_feeders, a_determiner, a_upstream, a_walk, a_agenda, a_peelIds, a_peelVars, a_plan) (g_n, g_m, g_planLen, g_clock, b_cKind, b_cStrength, b_cK, b_cCount, b_tVar, b_tSign, b_tMode, b_born, b_here, b_marked, b_out, b_inSet, b_left, b_last, b_passed, b_was, b_member, b_val, b_old, b_known, b_plan) := zz_mk (by omega) h2 h3 h4 h5 h6
  have DD := h2
  obtain ⟨hn, hN2, hN, hm, hM2, hM, hall, gn, gm⟩ := h2
  have hh := h3.2.1.2.2.2.2.1
  have hE := h4.1.1
  refine br_c (fun z => br_t (hh.mpr z) ⟨rfl, II⟩) (fun z => ?_)
  have zy : ¬ b_here 20 = 0 := fun y => z (hh.mp y)
  have hV : Vd N f_live f_draftOpen 20 := Or.inr (Or.inl ⟨rfl, z⟩)
  refine br_c (fun y => br_f zy ?_) (fun y => ?_)
  · refine yr_can h3 hN z _ (fun a => absurd y a) (fun _ => ?_)
    exact br_t rfl ⟨rfl, II⟩
  obtain ⟨s, hs, es⟩ := h3.1.2.2.2.2.1 20 (Or.inr ⟨rfl, z⟩)
  have eY : b_cStrength 20 = nI s := by rw [← (h3.1.2.1 20 hV).1.2.1]; exact es
  rw [es]
  refine xs_upTo _ (by omega) fun pre hpre => ?_
  have hpm : ∀ c, Hb pre c ↔ Hb f_enforced c ∧ c < 20 ∧ tn (a_strengths c) ≤ s := fun c => (hpre c).trans (up_mask h3 hM hE hs c)
  refine xs_fits (c := 20) hn hN hall h3.1.1 _ (by omega) (sv_mono (fun c hc => ((hpm c).mp hc).1) h4.2.1) (fun hc => by have := ((hpm 20).mp hc).2.1; omega) fun r pc ag pi pv hr => ?_
  have hr' : ¬ r = 0 ↔ Slv (UX N a_users) (UX N a_makers) (fun c => (Hb f_enforced c ∧ c < 20 ∧ tn (a_strengths c) ≤ s) ∨ c = 20) := by
    rw [hr]
    exact sv_eq fun c => ⟨fun h => h.imp (hpm c).mp id, fun h => h.imp (hpm c).mpr id⟩
  have II' : ∀ out inS pa le la, (∀ c, c < 32 → out c = a_outputs c) → i_Rel (k + 4) (f_draftId, f_editId, f_firstStay, f_n, f_m, f_allVariables, f_nextStamp, f_live, f_liveCount, f_marked, f_draftOpen, f_enforced, f_execCount, f_walkKnown, pc, f_planCount, a_values, a_before, a_kinds, a_strengths, a_constants, a_termCounts, a_termVars, a_termSigns, a_termModes, a_variableMasks, a_outputMasks, a_stamps, a_users, a_makers, a_ranked, a_atStrength, a_execIds, a_outputs, a_feeders, a_determiner, a_upstream, a_walk, ag, pi, pv, a_plan) (g_n, g_m, g_planLen, g_clock, b_cKind, b_cStrength, b_cK, b_cCount, b_tVar, b_tSign, b_tMode, vp_updL b_born 20 g_clock, b_here, b_marked, out, inS, le, la, pa, b_was, b_member, b_val, b_old, b_known, b_plan) := fun out inS pa le la ho => by
    obtain ⟨c1, c2, c3, c4, c5, c6⟩ := h4
    exact zz_mk (by omega) DD (s_born h3 hM (Or.inl rfl)) ⟨c1, c2, c3, c4, ho, c6⟩ h5 h6
  -- the reference's answer
  have yy : ∀ x : Int32, ((x = 1 ∧ ¬ r = 0) ∨ (x = 0 ∧ r = 0)) → wpY_probe (fun r' v' => r' = x ∧ i_Rel (k + 4) (f_draftId, f_editId, f_firstStay, f_n, f_m, f_allVariables, f_nextStamp, f_live, f_liveCount, f_marked, f_draftOpen, f_enforced, f_execCount, f_walkKnown, pc, f_planCount, a_values, a_before, a_kinds, a_strengths, a_constants, a_termCounts, a_termVars, a_termSigns, a_termModes, a_variableMasks, a_outputMasks, a_stamps, a_users, a_makers, a_ranked, a_atStrength, a_execIds, a_outputs, a_feeders, a_determiner, a_upstream, a_walk, ag, pi, pv, a_plan) v') (g_n, g_m, g_planLen, g_clock, b_cKind, b_cStrength, b_cK, b_cCount, b_tVar, b_tSign, b_tMode, b_born, b_here, b_marked, b_out, b_inSet, b_left, b_last, b_passed, b_was, b_member, b_val, b_old, b_known, b_plan) := by
    intro x hx
    refine br_f zy ?_
    refine yr_can h3 hN z _ (fun _ => ?_) (fun a => absurd a y)
    refine br_f (by decide) ?_
    obtain ⟨k1, k2, k3, k4⟩ := x_key h3 hN hM (by omega) (Or.inl rfl) hs (cs := b_cStrength) (fun _ _ => rfl) eY
    have xD := x_D h3 hN hM (e := 20) (Or.inl rfl)
    refine ys_chooseX (e := 20) _ (by omega) (fun c hc => ?_) (fun c d hc hd e => ?_) hN h3.1.2.2.2.1 fun C out inS pa le la O => ?_
    · rcases (xD c).mp hc with a | a
      · have hne : c ≠ 20 := a.elim (fun b => by have := h3.2.1.1 c b; omega) fun b => by omega
        obtain ⟨s', b, g1, g2, g3, g4⟩ := st_SB h3 hN hM (by omega) a
        exact ⟨st_RY h3 hN (dx_vd a), s', b, g1, g2, g3, by rw [pk_uLn hne]; exact g4⟩
      · subst a
        exact ⟨st_RY h3 hN hV, s, q, by omega, by omega, eY, by rw [pk_uLs]; exact h3.2.2.2.2.2.1⟩
    · rcases (xD c).mp hc with a | a
      · rcases (xD d).mp hd with b | b
        · rw [k1 c a, k1 d b] at e
          exact st_inj h3 hN hM (by omega) a b e
        · subst b
          rw [k1 c a, k2] at e
          exact absurd e (k4 c a)
      · rcases (xD d).mp hd with b | b
        · subst a
          rw [k1 d b, k2] at e
          exact absurd e.symm (k4 d b)
        · rw [a, b]
    · -- C and the enforced set agree ahead of the draft
      have hY : Chs (UY N b_cCount b_tVar) (MY N b_cCount b_tVar b_tMode) (keyY b_cStrength b_born) (DX N f_live) (Hb f_enforced) :=
        ch_congr h4.1 (fun c => Iff.rfl) (fun _ => Iff.rfl) (fun c d hc hd => st_key h3 hN hM (by omega) hc hd) (fun c v hc => st_u h3 hN (dx_vd hc)) (fun c v hc => st_m h3 hN (dx_vd hc))
      have ex := (ch_extra hY O.1 xD (fun c d hc hd => by rw [k1 c hc, k1 d hd])).2
      rw [k2] at ex
      have eq2 : Slv (UY N b_cCount b_tVar) (MY N b_cCount b_tVar b_tMode) (fun d => (Hb f_enforced d ∧ keyY b_cStrength (vp_updL b_born 20 g_clock) d < s * 65536 + q) ∨ d = 20) ↔ ¬ r = 0 := by
        rw [hr']
        have e1 : ∀ d, ((Hb f_enforced d ∧ keyY b_cStrength (vp_updL b_born 20 g_clock) d < s * 65536 + q) ∨ d = 20) ↔ ((Hb f_enforced d ∧ d < 20 ∧ tn (a_strengths d) ≤ s) ∨ d = 20) := fun d => by
          constructor
          · rintro (h | h)
            · have h2 := h.2
              rw [k1 d (hE d h.1), k3 d (hE d h.1)] at h2
              exact Or.inl ⟨h.1, h2⟩
            · exact Or.inr h
          · rintro (h | h)
            · refine Or.inl ⟨h.1, ?_⟩
              rw [k1 d (hE d h.1), k3 d (hE d h.1)]
              exact h.2
            · exact Or.inr h
        rw [sv_eq e1]
        have hv : ∀ c, ((Hb f_enforced c ∧ c < 20 ∧ tn (a_strengths c) ≤ s) ∨ c = 20) → Vd N f_live f_draftOpen c := fun c hc => hc.elim (fun h => dx_vd (hE c h.1)) fun h => h ▸ hV
        exact ⟨sv_congr (fun c v hc => (st_u h3 hN (hv c hc)).symm) (fun c v hc => (st_m h3 hN (hv c hc)).symm), sv_congr (fun c v hc => st_u h3 hN (hv c hc)) (fun c v hc => st_m h3 hN (hv c hc))⟩
      have hC20 : C 20 ↔ ¬ r = 0 := ex.trans eq2
      have hout : ¬ out 20 < 0 ↔ C 20 := by
        rcases Classical.em (C 20) with a | a
        · refine ⟨fun _ => a, fun _ => ?_⟩
          have := (O.2.2.1.1 20 a)
          rw [this.2]
          exact nI_pos (by have := this.1.1; omega)
        · rw [O.2.2.2 20 (by omega) a]
          exact ⟨fun b => absurd (by decide) b, fun b => absurd b a⟩
      have S2 := s_born (x := g_clock) h3 hM (e := 20) (Or.inl rfl)
      obtain ⟨p, ep, F⟩ := h4.2.2.2.1
      have fin : ∀ w : Int32, w = x → wY_probe_44 (fun r' v' => r' = x ∧ i_Rel (k + 4) (f_draftId, f_editId, f_firstStay, f_n, f_m, f_allVariables, f_nextStamp, f_live, f_liveCount, f_marked, f_draftOpen, f_enforced, f_execCount, f_walkKnown, pc, f_planCount, a_values, a_before, a_kinds, a_strengths, a_constants, a_termCounts, a_termVars, a_termSigns, a_termModes, a_variableMasks, a_outputMasks, a_stamps, a_users, a_makers, a_ranked, a_atStrength, a_execIds, a_outputs, a_feeders, a_determiner, a_upstream, a_walk, ag, pi, pv, a_plan) v') w g_n g_m g_planLen g_clock b_cKind b_cStrength b_cK b_cCount b_tVar b_tSign b_tMode (vp_updL b_born 20 g_clock) b_here b_marked out inS le la pa b_was b_member b_val b_old b_known b_plan := fun w hw => by
        unfold wY_probe_44
        refine yr_choose S2 hN hM (by omega) h4.1 F _ fun out' inS' pa' le' la' ho => ?_
        exact ⟨hw, II' out' inS' pa' le' la' ho⟩
      refine br_c (fun a => fin 0 ?_) (fun a => fin 1 ?_)
      · rcases hx with ⟨e, hne⟩ | ⟨e, _⟩
        · exact absurd a (hout.mpr (hC20.mpr hne))
        · exact e.symm
      · rcases hx with ⟨e, hne⟩ | ⟨e, h0⟩
        · exact e.symm
        · exact absurd h0 (hC20.mp (hout.mp a))
  exact br_c (fun a => yy 0 (Or.inr ⟨rfl, a⟩)) (fun a => yy 1 (Or.inl ⟨rfl, a⟩))
end
end
section
/-! rechoose; remove -/
theorem ch_drop {us mk : Nat → Nat → Prop} {key : Nat → Nat} {D D' C : Nat → Prop} (h : Chs us mk key D C) (hD : ∀ c, D' c → D c) (hC : ∀ c, C c → D' c) : Chs us mk key D' C := ⟨hC, fun c hc => h.2 c (hD c hc)⟩
section
variable {f_draftId f_editId f_firstStay f_n f_m f_allVariables f_live f_liveCount f_marked f_draftOpen f_enforced f_execCount f_walkKnown f_peelCount f_planCount : Int32} {f_nextStamp : Int64} {a_values a_before a_kinds a_strengths a_constants a_termCounts a_termVars a_termSigns a_termModes a_variableMasks a_outputMasks a_users a_makers a_ranked a_atStrength a_execIds a_outputs a_feeders a_determiner a_upstream a_walk a_agenda a_peelIds a_peelVars a_plan : Nat → Int32} {a_stamps : Nat → Int64}
variable {g_n g_m g_planLen : Int32} {g_clock : Int64} {b_cKind b_cStrength b_cK b_cCount b_tVar b_tSign b_tMode b_here b_marked b_out b_inSet b_left b_last b_passed b_was b_member b_val b_old b_known b_plan : Nat → Int32} {b_born : Nat → Int64}
variable {N M L q p : Nat}
theorem xr_rechoose (hn : f_n = nI N) (hN : N ≤ 10) (hall : ∀ v, Hb f_allVariables v ↔ v < N) (R : RX N a_termCounts a_termVars a_termModes a_variableMasks a_outputMasks a_users a_makers) (post : SX → Prop) {key : Nat → Nat} {D : Nat → Prop} {L r0 : Nat} {rk : Nat → Nat} {base : Int32}
    (hL : f_liveCount = nI L) (hL20 : L ≤ 20) (hr0 : r0 ≤ L) (hrk : ∀ j, j < L → rk j < 32 ∧ a_ranked j = nI (rk j))
    (hk0 : ∀ c, D c → ∀ j, r0 ≤ j → j < L → key c < key (rk j)) (hk1 : ∀ i j, i < j → j < L → key (rk i) < key (rk j))
    (hk2 : ∀ c, D c → ∀ v, v < N → key c < key (22 + v)) (hk3 : ∀ j, j < L → ∀ v, v < N → key (rk j) < key (22 + v)) (hs : ∀ v w, v < w → w < N → key (22 + v) < key (22 + w))
    (hc : Chs (UX N a_users) (UX N a_makers) key D (Hb base)) (hS : Slv (UX N a_users) (UX N a_makers) (Hb base))
    (hDX : ∀ c, ((D c ∨ ∃ j, r0 ≤ j ∧ j < L ∧ c = rk j) ∨ ∃ v, v < N ∧ c = 22 + v) ↔ DX N f_live c)
    (hst : ∀ v, v < N → (∀ w, UX N a_makers (22 + v) w ↔ w = v) ∧ ∀ w, UX N a_users (22 + v) w ↔ w = v)
    (hold : (∀ c, Hb f_enforced c → DX N f_live c) → ∃ p, f_execCount = nI p ∧ FX N (UX N a_users) (UX N a_makers) f_enforced p a_execIds a_outputs a_feeders a_determiner a_upstream)
    (H : ∀ E ec p ex ou fd de up pc ag pi pv, Chs (UX N a_users) (UX N a_makers) key (DX N f_live) (Hb E) → Slv (UX N a_users) (UX N a_makers) (Hb E) → ec = nI p → FX N (UX N a_users) (UX N a_makers) E p ex ou fd de up → post (f_draftId, f_editId, f_firstStay, f_n, f_m, f_allVariables, f_nextStamp, f_live, f_liveCount, f_marked, f_draftOpen, E, ec, 0, pc, f_planCount, a_values, a_before, a_kinds, a_strengths, a_constants, a_termCounts, a_termVars, a_termSigns, a_termModes, a_variableMasks, a_outputMasks, a_stamps, a_users, a_makers, a_ranked, a_atStrength, ex, ou, fd, de, up, a_walk, ag, pi, pv, a_plan)) : wpX_rechoose post (f_draftId, f_editId, f_firstStay, f_n, f_m, f_allVariables, f_nextStamp, f_live, f_liveCount, f_marked, f_draftOpen, f_enforced, f_execCount, f_walkKnown, f_peelCount, f_planCount, a_values, a_before, a_kinds, a_strengths, a_constants, a_termCounts, a_termVars, a_termSigns, a_termModes, a_variableMasks, a_outputMasks, a_stamps, a_users, a_makers, a_ranked, a_atStrength, a_execIds, a_outputs, a_feeders, a_determiner, a_upstream, a_walk, a_agenda, a_peelIds, a_peelVars, a_plan) base (nI r0) := by
  unfold wpX_rechoose
  refine xs_choose hn hN hall R _ hL hL20 hr0 hrk hk0 hk1 hk2 hk3 hs hc hS fun E pc ag pi pv hE hSE => ?_
  have hE' : Chs (UX N a_users) (UX N a_makers) key (DX N f_live) (Hb E) := ch_congr hE hDX (fun _ => Iff.rfl) (fun _ _ _ _ => Iff.rfl) (fun _ _ _ => Iff.rfl) (fun _ _ _ => Iff.rfl)
  refine xs_adopt hn hN hall R _ hSE (fun v hv => ch_max hE' (Or.inr ⟨by omega, by omega⟩)) (fun v hv => ⟨(hst v hv).1, fun w hw => ((hst v hv).2 w).mp hw⟩) (fun e => ?_) fun ec p ex ou fd de up pc' ag' pi' pv' hec hF => H E ec p ex ou fd de up pc' ag' pi' pv' hE' hSE hec hF
  subst e
  exact hold hE'.1
/-- keys of slots and stays -/
theorem k_lt {st : Nat → Int32} {sp : Nat → Int64} {c v : Nat} (hc : c < 20) (h1 : tn (st c) < 7) (h2 : ln (sp c) < 65536) : keyR st sp c < keyR st sp (22 + v) := by
  unfold keyR
  rw [if_pos hc, if_neg (by omega)]
  omega
theorem k_st {st : Nat → Int32} {sp : Nat → Int64} {v w : Nat} (h : v < w) : keyR st sp (22 + v) < keyR st sp (22 + w) := by
  unfold keyR
  rw [if_neg (by omega), if_neg (by omega)]
  omega
theorem st_kl (S : STR N M L q f_live f_marked f_draftOpen f_liveCount f_nextStamp g_clock a_kinds a_strengths a_constants a_termCounts a_termVars a_termSigns a_termModes a_variableMasks a_outputMasks a_users a_makers a_ranked a_atStrength a_stamps b_cKind b_cStrength b_cK b_cCount b_tVar b_tSign b_tMode b_born b_here b_marked) (hM : M ≤ 20) (hq : q ≤ 2050) {c v : Nat} (hc : Hb f_live c) : keyR a_strengths a_stamps c < keyR a_strengths a_stamps (22 + v) := by
  obtain ⟨s, hs, e⟩ := S.1.2.2.2.2.1 c (Or.inl hc)
  obtain ⟨b, hb, eb, _⟩ := S.2.2.2.2.2.2.1 c hc
  have := S.2.1.1 c hc
  exact k_lt (by omega) (by rw [e, tn_nI (by omega)]; exact hs) (by rw [eb, ln_lN (by omega)]; omega)
/-- a ranking without the place r -/
theorem rk_rem {live live' lc lc' : Int32} {L r c : Nat} {ra ra' st : Nat → Int32} {sp : Nat → Int64} (K : RkO live lc L ra st sp) (hr : r < L) (hrc : tn (ra r) = c) (hl : ∀ d, Hb live' d ↔ Hb live d ∧ d ≠ c) (h1 : ∀ j, j < r → ra' j = ra j) (h2 : ∀ j, r ≤ j → j + 1 < L → ra' j = ra (j + 1)) (elc : lc' = nI (L - 1)) : RkO live' lc' (L - 1) ra' st sp := by
  obtain ⟨k1, k2, k3, k4⟩ := K
  have inj : ∀ i j, i < L → j < L → tn (ra i) = tn (ra j) → i = j := fun i j hi hj e => by
    rcases Nat.lt_trichotomy i j with z | z | z
    · have := k4 i j z hj; rw [e] at this; omega
    · exact z
    · have := k4 j i z hi; rw [e] at this; omega
  have pos : ∀ i, i < L - 1 → ∃ j, j < L ∧ j ≠ r ∧ ra' i = ra j ∧ ((i < r ∧ j = i) ∨ (r ≤ i ∧ j = i + 1)) := fun i hi => by
    rcases Nat.lt_or_ge i r with z | z
    · exact ⟨i, by omega, by omega, h1 i z, Or.inl ⟨z, rfl⟩⟩
    · exact ⟨i + 1, by omega, by omega, h2 i z (by omega), Or.inr ⟨z, rfl⟩⟩
  refine ⟨elc, fun i hi => ?_, fun d hd => ?_, fun i j hij hj => ?_⟩
  · obtain ⟨j, hj, hne, e, _⟩ := pos i hi
    rw [e]
    refine ⟨(hl _).mpr ⟨(k2 j hj).1, fun y => hne ?_⟩, (k2 j hj).2⟩
    exact inj j r hj hr (y.trans hrc.symm)
  · obtain ⟨hd1, hd2⟩ := (hl d).mp hd
    obtain ⟨j, hj, e⟩ := k3 d hd1
    have hjr : j ≠ r := fun y => hd2 (by rw [← e, y, hrc])
    rcases Nat.lt_or_ge j r with z | z
    · exact ⟨j, by omega, by rw [h1 j z]; exact e⟩
    · exact ⟨j - 1, by omega, by rw [h2 (j - 1) (by omega) (by omega), show j - 1 + 1 = j by omega]; exact e⟩
  · obtain ⟨i', hi', _, ei, di⟩ := pos i (by omega)
    obtain ⟨j', hj', _, ej, dj⟩ := pos j hj
    rw [ei, ej]
    exact k4 i' j' (by omega) hj'
theorem s_remove (S : STR N M L q f_live f_marked f_draftOpen f_liveCount f_nextStamp g_clock a_kinds a_strengths a_constants a_termCounts a_termVars a_termSigns a_termModes a_variableMasks a_outputMasks a_users a_makers a_ranked a_atStrength a_stamps b_cKind b_cStrength b_cK b_cCount b_tVar b_tSign b_tMode b_born b_here b_marked) (hN : N ≤ 10) (hM : M ≤ 20) {c s r : Nat} {live' marked' lc' : Int32} {us' mk' ra' he' : Nat → Int32} (hc : Hb f_live c) (hs : s < 7) (es : a_strengths c = nI s) (hr : r < L) (hrc : tn (a_ranked r) = c)
    (hl : ∀ d, Hb live' d ↔ Hb f_live d ∧ d ≠ c) (hmk : ∀ d, Hb marked' d ↔ Hb f_marked d ∧ d ≠ c) (h1 : ∀ j, j < r → ra' j = a_ranked j) (h2 : ∀ j, r ≤ j → j + 1 < L → ra' j = a_ranked (j + 1)) (elc : lc' = nI (L - 1))
    (hu : ∀ v, v < N → ∀ d, Hb (us' v) d ↔ Hb (a_users v) d ∧ d ≠ c) (hk : ∀ v, v < N → ∀ d, Hb (mk' v) d ↔ Hb (a_makers v) d ∧ d ≠ c) (hhe : ∀ d, he' d = if d = c then 0 else b_here d) :
    STR N M (L - 1) q live' marked' f_draftOpen lc' f_nextStamp g_clock a_kinds a_strengths a_constants (upd a_termCounts c 0) a_termVars a_termSigns a_termModes (upd a_variableMasks c 0) (upd a_outputMasks c 0) us' mk' ra' (upd a_atStrength s (a_atStrength s &&& (((1 : Int32) <<< (nI c &&& 31)) ^^^ (-1)))) a_stamps b_cKind b_cStrength b_cK b_cCount b_tVar b_tSign b_tMode b_born he' b_marked := by
  obtain ⟨⟨r1, r2, r3, r4, r5, r6⟩, ⟨l1, l2, l3, l4, l5, l6, l7⟩, kk, ⟨t1, t2⟩, ⟨m1, m2, m3, m4⟩⟩ := S
  have c20 := l1 c hc
  have hV : ∀ d, Vd N live' f_draftOpen d → d ≠ c ∧ Vd N f_live f_draftOpen d := fun d hd => by
    rcases hd with h | h | h
    · exact ⟨((hl d).mp h).2, Or.inl ((hl d).mp h).1⟩
    · exact ⟨by omega, Or.inr (Or.inl h)⟩
    · exact ⟨by omega, Or.inr (Or.inr h)⟩
  refine ⟨⟨rx_clear r1 hu hk, fun d hd => ?_, fun v hv => ?_, r4, fun d hd => r5 d (hd.imp (fun y => ((hl d).mp y).1) id), fun d hd => ?_⟩, ⟨fun d hd => l1 d ((hl d).mp hd).1, fun d hd => ?_, fun d hd => ?_, fun d hd => ?_, by rw [hhe 20, if_neg (by omega)]; exact l5, by rw [hhe 21, if_neg (by omega)]; exact l6, fun d g1 g2 => by rw [hhe d, if_neg (by omega)]; exact l7 d g1 g2⟩, rk_rem kk hr hrc hl h1 h2 elc, ⟨fun s' hs' d => ?_, fun d => ?_⟩, ⟨m1, m2, fun d hd => m3 d ((hl d).mp hd).1, m4⟩⟩
  · obtain ⟨hne, hd'⟩ := hV d hd
    obtain ⟨⟨a1, a2, a3, a4, a5⟩, k1, k2⟩ := r2 d hd'
    refine ⟨⟨a1, a2, a3, by rw [pk_un hne]; exact a4, fun t ht => a5 t (by rw [pk_un hne] at ht; exact ht)⟩, k1, fun h t ht => k2 h t (by rw [pk_un hne] at ht; exact ht)⟩
  · obtain ⟨b1, b2, b3⟩ := r3 v hv
    exact ⟨b1, by rw [pk_un (by omega)]; exact b2, b3⟩
  · obtain ⟨d1, d2⟩ := (hl d).mp hd
    obtain ⟨v, hv⟩ := r6 d d1
    exact ⟨v, hv.1, (hk v hv.1 d).mpr ⟨hv.2, d2⟩⟩
  · obtain ⟨d1, d2⟩ := (hmk d).mp hd
    exact (hl d).mpr ⟨l2 d d1, d2⟩
  · obtain ⟨d1, d2⟩ := (hl d).mp hd
    rw [hmk d, ← l3 d d1]
    exact ⟨fun h => h.1, fun h => ⟨h, d2⟩⟩
  · rw [hhe d, hl d]
    rcases Classical.em (d = c) with z | z
    · rw [if_pos z]; exact ⟨fun y => absurd rfl y, fun y => absurd z y.2⟩
    · rw [if_neg z, l4 d hd]; exact ⟨fun y => ⟨y, z⟩, fun y => y.1⟩
  · rw [hl d]
    rcases Classical.em (s' = s) with z | z
    · subst z
      rw [pk_us, hb_andn, hb_one (by omega), t1 s' hs' d]
      exact ⟨fun h => ⟨⟨h.1.1, h.2⟩, h.1.2⟩, fun h => ⟨⟨h.1.1, h.2⟩, h.1.2⟩⟩
    · rw [pk_un z, t1 s' hs' d]
      refine ⟨fun h => ⟨⟨h.1, fun e => z ?_⟩, h.2⟩, fun h => ⟨h.1.1, h.2⟩⟩
      rw [e, es, nI_eq (by omega) (by omega)] at h
      exact h.2.symm
  · rw [pk_un (by omega)]; exact t2 d
theorem yl_was (gm : g_m = nI M) (hM : M ≤ 20) (post : Int32 → SY → Prop) {x1 : Int32} (H : ∀ was : Nat → Int32, (∀ c, c < M → (was c = 0 ↔ b_out c < 0)) → vp_in x1 32 ∧ ∀ he, he = upd b_here x1.toNatClampNeg (vp_nar .boolean 0) → wpY_renew (fun u => match u with | (g_n, g_m, g_planLen, g_clock, b_cKind, b_cStrength, b_cK, b_cCount, b_tVar, b_tSign, b_tMode, b_born, b_here, b_marked, b_out, b_inSet, b_left, b_last, b_passed, b_was, b_member, b_val, b_old, b_known, b_plan) => ∃ n62, wY_remove_62 post g_n g_m g_planLen g_clock b_cKind b_cStrength b_cK b_cCount b_tVar b_tSign b_tMode b_born b_here b_marked b_out b_inSet b_left b_last b_passed b_was b_member b_val b_old b_known b_plan n62 0 0) (g_n, g_m, g_planLen, g_clock, b_cKind, b_cStrength, b_cK, b_cCount, b_tVar, b_tSign, b_tMode, b_born, he, b_marked, b_out, b_inSet, b_left, b_last, b_passed, was, b_member, b_val, b_old, b_known, b_plan)) :
    ∀ d i was fuel, i + d = M → d < fuel → (∀ c, c < i → (was c = 0 ↔ b_out c < 0)) → wY_remove_13 post x1 g_n g_m g_planLen g_clock fuel (nI i) b_cKind b_cStrength b_cK b_cCount b_tVar b_tSign b_tMode b_born b_here b_marked b_out b_inSet b_left b_last b_passed was b_member b_val b_old b_known b_plan := by
  intro d
  induction d with
  | zero =>
    intro i was fuel hi hf h
    have e : i = M := by omega
    subst e
    cases fuel with
    | zero => omega
    | succ fuel => exact br_t (by rw [gm]; exact Int32.le_refl _) (H was h)
  | succ d ih =>
    intro i was fuel hi hf h
    cases fuel with
    | zero => omega
    | succ fuel =>
      have vi : vp_in (nI i) 32 := vp_in_nI (by omega) (by omega)
      have ei : (nI i).toNatClampNeg = i := nI_clamp (by omega)
      have nx : ∀ y : Int32, (y = 0 ↔ b_out i < 0) → ∀ c, c < i + 1 → (upd was i y c = 0 ↔ b_out c < 0) := fun y hy c hc => by
        rcases Nat.lt_or_ge c i with z | z
        · rw [pk_un (by omega)]; exact h c z
        · have : c = i := by omega
          subst this
          rw [pk_us]; exact hy
      refine pk_le M i (fun h => absurd h (by omega)) (fun _ => And.intro vi ?_) gm rfl (by omega) (by omega)
      rw [ei]
      exact br_c (fun z => And.intro vi (nm_r (e' := upd was i 0) (by rw [vb0]) (nm_r (nI_1 i) (ih (i + 1) _ fuel (by omega) (by omega) (nx 0 ⟨fun _ => z, fun _ => rfl⟩))))) (fun z => And.intro vi (nm_r (e' := upd was i 1) (by rw [vb1]) (nm_r (nI_1 i) (ih (i + 1) _ fuel (by omega) (by omega) (nx 1 ⟨fun y => absurd y (by decide), fun y => absurd y z⟩)))))
theorem yl_cnt (gm : g_m = nI M) (hM : M ≤ 20) (post : Int32 → SY → Prop) (H : post (nI (cn (fun c => ¬ b_out c < 0 ∧ b_was c = 0) M)) (g_n, g_m, g_planLen, g_clock, b_cKind, b_cStrength, b_cK, b_cCount, b_tVar, b_tSign, b_tMode, b_born, b_here, b_marked, b_out, b_inSet, b_left, b_last, b_passed, b_was, b_member, b_val, b_old, b_known, b_plan)) : ∀ d i fuel, i + d = M → d < fuel → wY_remove_62 post g_n g_m g_planLen g_clock b_cKind b_cStrength b_cK b_cCount b_tVar b_tSign b_tMode b_born b_here b_marked b_out b_inSet b_left b_last b_passed b_was b_member b_val b_old b_known b_plan fuel (nI (cn (fun c => ¬ b_out c < 0 ∧ b_was c = 0) i)) (nI i) := by
  intro d
  induction d with
  | zero =>
    intro i fuel hi hf
    have e : i = M := by omega
    subst e
    cases fuel with
    | zero => omega
    | succ fuel => exact br_t (by rw [gm]; exact Int32.le_refl _) H
  | succ d ih =>
    intro i fuel hi hf
    cases fuel with
    | zero => omega
    | succ fuel =>
      have nx := ih (i + 1) fuel (by omega) (by omega)
      rw [cn_s] at nx
      have vi : vp_in (nI i) 32 := vp_in_nI (by omega) (by omega)
      have ei : (nI i).toNatClampNeg = i := nI_clamp (by omega)
      refine pk_le M i (fun h => absurd h (by omega)) (fun _ => And.intro vi ?_) gm rfl (by omega) (by omega)
      rw [ei]
      refine br_c (fun z => nm_r (nI_1 i) ?_) (fun z => And.intro vi (br_c (fun y => nm_r (nI_1 _) (nm_r (nI_1 i) ?_)) (fun y => nm_r (nI_1 i) ?_)))
      · rw [b01_f (fun h => h.1 z)] at nx; exact nx
      · rw [b01_t ⟨z, y⟩] at nx; exact nx
      · rw [b01_f (fun h => y h.2)] at nx; exact nx
theorem i_vc_remove {k : Nat} {u : SX} {v : SY} (I : i_Rel k u v) (hk : k + 4 ≤ 2050) (v1 : Int32) : wpX_remove (fun r u' => wpY_remove (fun r' v' => r' = r ∧ i_Rel (k + 4) u' v') v v1) u v1 := by
  refine zz_el (P := fun u v => wpX_remove (fun r u' => wpY_remove (fun r' v' => r' = r ∧ i_Rel (k + 4) u' v') v v1) u v1) ?_ I
  intro f_draftId f_editId f_firstStay f_n f_m f_allVariables f_live f_liveCount f_marked f_draftOpen f_enforced f_execCount f_walkKnown f_peelCount f_planCount f_nextStamp a_values a_before a_kinds a_strengths a_constants a_termCounts a_termVars a_termSigns a_termModes a_variableMasks a_outputMasks a_users a_makers a_ranked a_atStrength a_execIds a_outputs a_feeders a_determiner a_upstream a_walk a_agenda a_peelIds a_peelVars a_plan a_stamps g_n g_m g_planLen g_clock b_cKind b_cStrength b_cK b_cCount b_tVar b_tSign b_tMode b_here b_marked b_out b_inSet b_left b_last b_passed b_was b_member b_val b_old b_known b_plan b_born N M L q h1 h2 h3 h4 h5 h6
  have II : i_Rel (k + 4) (f_draftId, f_editId, f_firstStay, f_n, f_m, f_allVariables, f_nextStamp, f_live, f_liveCount, f_marked, f_draftOpen, f_enforced, f_execCount, f_walkKnown, f_peelCount, f_planCount, a_values, a_before, a_kinds, a_strengths, a_constants, a_termCounts, a_termVars, a_termSigns, a_termModes, a_variableMasks, a_outputMasks, a_stamps, a_users, a_makers, a_ranked, a_atStrength, a_execIds, a_outputs, a_feeders, a_determiner, a_upstream, a_walk, a_agenda, a_peelIds, a_peelVars, a_plan) (g_n, g_m, g_planLen, g_clock, b_cKind, b_cStrength, b_cK, b_cCount, b_tVar, b_tSign, b_tMode, b_born, b_here, b_marked, b_out, b_inSet, b_left, b_last, b_passed, b_was, b_member, b_val, b_old, b_known, b_plan) := zz_mk (by omega) h2 h3 h4 h5 h6
  have DD := h2
  obtain ⟨hn, hN2, hN, hm, hM2, hM, hall, gn, gm⟩ := h2
  unfold wpX_remove wpY_remove
  rcases lv_case M hM f_live v1 with z | ⟨c, hc, rfl, hl⟩
  · refine xs_live_f hm hM _ z ?_
    refine br_t rfl ?_
    refine ys_live_f gm hM _ h3 z ?_
    exact br_t rfl ⟨rfl, II⟩
  have vi : vp_in (nI c) 32 := vp_in_nI (by omega) (by omega)
  have ecl : (nI c).toNatClampNeg = c := nI_clamp (by omega)
  have he := st_here h3 hM hc hl
  have hE := h4.1.1
  have hLM := st_L h3 hM
  obtain ⟨k1, k2, k3, k4⟩ := h3.2.2.1
  obtain ⟨s, hs, es⟩ := h3.1.2.2.2.2.1 c (Or.inl hl)
  obtain ⟨r, hr, erc⟩ := k3 c hl
  have hrc : ∀ j, j < L → (a_ranked j = nI c ↔ j = r) := fun j hj => by
    constructor
    · intro e
      have e' : tn (a_ranked j) = c := by rw [e]; exact tn_nI (by omega)
      rcases Nat.lt_trichotomy j r with z | z | z
      · have := k4 j r z hr; rw [e', erc] at this; omega
      · exact z
      · have := k4 r j z hj; rw [e', erc] at this; omega
    · rintro rfl
      rw [(k2 j hj).2, erc]
  refine xs_live_t hm hM _ hc hl ?_
  refine br_f (by decide) ?_
  refine nm_e ?_
  refine xs_rem k1 (by omega) _ (by omega) (by omega) es hr hrc fun ra' g1 g2 => ?_
  refine nm_e (nm_e ?_)
  refine xs_clear hn hN _ (c := c) (by omega) fun us' mk' hu hk' => ?_
  -- the new structure
  have hl' : ∀ d, Hb (f_live &&& (((1 : Int32) <<< (nI c &&& 31)) ^^^ (-1))) d ↔ Hb f_live d ∧ d ≠ c := fun d => by rw [hb_andn, hb_one (by omega)]
  have hmk' : ∀ d, Hb (f_marked &&& (((1 : Int32) <<< (nI c &&& 31)) ^^^ (-1))) d ↔ Hb f_marked d ∧ d ≠ c := fun d => by rw [hb_andn, hb_one (by omega)]
  have S' := s_remove (he' := upd b_here c 0) h3 hN hM hl hs es hr erc hl' hmk' g1 g2 rfl hu hk' (fun d => rfl)
  have c20 : c < 20 := by omega
  have dx' : ∀ d, DX N (f_live &&& (((1 : Int32) <<< (nI c &&& 31)) ^^^ (-1))) d ↔ DX N f_live d ∧ d ≠ c := fun d => by
    unfold DX
    rw [hl' d]
    constructor
    · rintro (h | h)
      · exact ⟨Or.inl h.1, h.2⟩
      · exact ⟨Or.inr h, by omega⟩
    · rintro ⟨h | h, hne⟩
      · exact Or.inl ⟨h, hne⟩
      · exact Or.inr h
  have ux : ∀ d w, d ≠ c → (UX N a_users d w ↔ UX N us' d w) := fun d w hne => ⟨fun h => ⟨h.1, (hu w h.1 d).mpr ⟨h.2, hne⟩⟩, fun h => ⟨h.1, ((hu w h.1 d).mp h.2).1⟩⟩
  have kx : ∀ d w, d ≠ c → (UX N a_makers d w ↔ UX N mk' d w) := fun d w hne => ⟨fun h => ⟨h.1, (hk' w h.1 d).mpr ⟨h.2, hne⟩⟩, fun h => ⟨h.1, ((hk' w h.1 d).mp h.2).1⟩⟩
  -- from here on: the flow is the new one; update, count, and the reference
  have tail : ∀ (E ec wkn pc : Int32) (p : Nat) (ex ou fd de up wk ag pi pv : Nat → Int32), Chs (UX N us') (UX N mk') (keyR a_strengths a_stamps) (DX N (f_live &&& (((1 : Int32) <<< (nI c &&& 31)) ^^^ (-1)))) (Hb E) → Slv (UX N us') (UX N mk') (Hb E) → ec = nI p → FX N (UX N us') (UX N mk') E p ex ou fd de up → WkO N (UX N us') (UX N mk') E wkn a_strengths wk →
      wX_remove_78 (fun r u' => wpY_remove (fun r' v' => r' = r ∧ i_Rel (k + 4) u' v') (g_n, g_m, g_planLen, g_clock, b_cKind, b_cStrength, b_cK, b_cCount, b_tVar, b_tSign, b_tMode, b_born, b_here, b_marked, b_out, b_inSet, b_left, b_last, b_passed, b_was, b_member, b_val, b_old, b_known, b_plan) (nI c)) f_enforced f_draftId f_editId f_firstStay f_n f_m f_allVariables f_nextStamp (f_live &&& (((1 : Int32) <<< (nI c &&& 31)) ^^^ (-1))) (nI (L - 1)) (f_marked &&& (((1 : Int32) <<< (nI c &&& 31)) ^^^ (-1))) f_draftOpen E ec wkn pc f_planCount a_values a_before a_kinds a_strengths a_constants (upd a_termCounts c 0) a_termVars a_termSigns a_termModes (upd a_variableMasks c 0) (upd a_outputMasks c 0) a_stamps us' mk' ra' (upd a_atStrength s (a_atStrength s &&& (((1 : Int32) <<< (nI c &&& 31)) ^^^ (-1)))) ex ou fd de up wk ag pi pv a_plan := by
    intro E ec wkn pc p ex ou fd de up wk ag pi pv hCh hSl hec hF hWk
    unfold wX_remove_78
    refine xr_update DD S' hCh.1 hec hF _ fun val hev => ?_
    refine xs_size _ _ ?_
    unfold wpY_remove
    refine ys_live_t gm hM _ hc he ?_
    refine br_f (by decide) (Exists.intro (M + 1) (yl_was gm hM _ (fun was hwas => And.intro vi ?_) M 0 b_was (M + 1) (by omega) (by omega) fun c hc => by omega))
    refine nm_r (e' := upd b_here c 0) (by rw [ecl, vb0]) ?_
    refine yr_renew DD S' (by omega) hCh hF _ fun out inS pa le la val' kn ho hev' => ?_
    refine Exists.intro (M + 1) (yl_cnt gm hM _ ?_ M 0 (M + 1) (by omega) (by omega))
    have ev := ev_eq S' hN hCh.1 hF h6 hev hev'
    have E' : EPR N (f_live &&& (((1 : Int32) <<< (nI c &&& 31)) ^^^ (-1))) E ec wkn a_strengths a_stamps us' mk' ex ou fd de up wk out := by
      refine ⟨hCh, hSl, fun d hd hd0 => ?_, ⟨p, hec, hF⟩, ho, hWk⟩
      -- a required one is chosen: the required ones are solvable together
      have hreq : ∀ x, Hb f_live x → a_strengths x = 0 → Hb f_enforced x := h4.2.2.1
      have hd1 := (hl' d).mp hd
      refine (hCh.2 d (Or.inl hd)).mpr (sv_congr (fun x w hx => ux x w ?_) (fun x w hx => kx x w ?_) (sv_mono (S' := Hb f_enforced) (fun x hx => ?_) h4.2.1))
      · rcases hx with hx | hx
        · exact ((dx' x).mp (hCh.1 x hx.1)).2
        · rw [hx]; exact hd1.2
      · rcases hx with hx | hx
        · exact ((dx' x).mp (hCh.1 x hx.1)).2
        · rw [hx]; exact hd1.2
      · rcases hx with hx | hx
        · have hxD := (dx' x).mp (hCh.1 x hx.1)
          have hd20 := h3.2.1.1 d hd1.1
          obtain ⟨bd, hbd, ebd, _⟩ := h3.2.2.2.2.2.2.1 d hd1.1
          have kd : keyR a_strengths a_stamps d = bd := by
            unfold keyR
            rw [if_pos (by omega), hd0, ebd, ln_lN (by omega)]
            show tn 0 * 65536 + bd = bd
            rw [show tn 0 = 0 from rfl]; omega
          have hlt := hx.2
          rw [kd] at hlt
          rcases hxD.1 with y | y
          · obtain ⟨s', hs', es'⟩ := h3.1.2.2.2.2.1 x (Or.inl y)
            have hx20 := h3.2.1.1 x y
            have : s' = 0 := by
              unfold keyR at hlt
              rw [if_pos (by omega), es', tn_nI (by omega)] at hlt
              omega
            subst this
            exact hreq x y es'
          · unfold keyR at hlt
            rw [if_neg (by omega)] at hlt
            omega
        · rw [hx]; exact hreq d hd1.1 hd0
    refine ⟨congrArg nI ?_, zz_mk (by omega) DD S' E' (Or.inl ⟨rfl, rfl⟩) ev⟩
    have eo := fun d (hd : d < 32) => e_out E' d hd
    have : pcn ((E &&& (f_enforced ^^^ (-1))) &&& (f_live &&& (((1 : Int32) <<< (nI c &&& 31)) ^^^ (-1)))) = cn (Hb ((E &&& (f_enforced ^^^ (-1))) &&& (f_live &&& (((1 : Int32) <<< (nI c &&& 31)) ^^^ (-1))))) M := cn_ext (by omega) fun d g1 _ h => by
      have := h3.2.1.1 d ((hl' d).mp (hb_and.mp h).2).1
      omega
    rw [this]
    apply cn_eq
    intro d hd
    have eold := e_out h4 d (by omega)
    rw [hb_and, hb_andn, hl' d]
    constructor
    · rintro ⟨g3, g4⟩
      have hEd := (eo d (by omega)).mp g3
      have hx := (dx' d).mp (hCh.1 d hEd)
      refine ⟨⟨hEd, fun y => eold.mpr y ((hwas d hd).mp g4)⟩, hx.1.elim id fun y => absurd y.1 (by omega), hx.2⟩
    · rintro ⟨⟨g3, g4⟩, g5⟩
      exact ⟨(eo d (by omega)).mpr g3, (hwas d hd).mpr (Classical.byContradiction fun y => g4 (eold.mp y))⟩
  obtain ⟨c1, c2, c3, ⟨p, ep, F⟩, c5, c6⟩ := h4
  refine br_c (fun z => ?_) (fun z => ?_)
  · -- a loose one
    rw [hb_t (by omega)] at z
    have ne : ∀ d, Hb f_enforced d → d ≠ c := fun d hd e => z (e ▸ hd)
    refine tail f_enforced f_execCount f_walkKnown f_peelCount p a_execIds a_outputs a_feeders a_determiner a_upstream a_walk a_agenda a_peelIds a_peelVars ?_ ?_ ep (fx_congr F (fun d w hd => ux d w (ne d hd)) (fun d w hd => kx d w (ne d hd))) (fun w hw hk1 hk2 => ?_)
    · exact ch_congr (ch_drop (D' := fun d => DX N f_live d ∧ d ≠ c) c1 (fun d hd => hd.1) (fun d hd => ⟨c1.1 d hd, ne d hd⟩)) (fun d => (dx' d).symm) (fun _ => Iff.rfl) (fun _ _ _ _ => Iff.rfl) (fun d w hd => ux d w hd.2) (fun d w hd => kx d w hd.2)
    · exact sv_congr (fun d w hd => ux d w (ne d hd)) (fun d w hd => kx d w (ne d hd)) c2
    · obtain ⟨s', e', hw'⟩ := c6 w hw hk1 hk2
      exact ⟨s', e', wv_congr hw' (fun d x hd => ux d x (hd.elim (ne d) fun y => by omega)) (fun d x hd => kx d x (hd.elim (ne d) fun y => by omega)) (fun _ _ _ => rfl)⟩
  · -- an enforced one: choose anew behind its rank
    rw [hb_t (by omega), Classical.not_not] at z
    have K' := S'.2.2.1
    obtain ⟨k1', k2', k3', k4'⟩ := K'
    have lt' : ∀ j, j < L - 1 → tn (ra' j) < 32 ∧ ra' j = nI (tn (ra' j)) := fun j hj => ⟨hb_lt (k2' j hj).1, (k2' j hj).2⟩
    refine xs_before (rk := fun j => tn (ra' j)) _ (by omega) (fun j hj => lt' j (by omega)) fun base hb => ?_
    have hb' : ∀ d, Hb base d ↔ Hb f_enforced d ∧ ∃ j, j < r ∧ d = tn (ra' j) := hb
    have kl : ∀ d w, Hb (f_live &&& (((1 : Int32) <<< (nI c &&& 31)) ^^^ (-1))) d → keyR a_strengths a_stamps d < keyR a_strengths a_stamps (22 + w) := fun d w hd => st_kl S' hM (by omega) hd
    refine xr_rechoose (key := keyR a_strengths a_stamps) (D := fun d => ∃ j, j < r ∧ d = tn (ra' j)) (rk := fun j => tn (ra' j)) hn hN hall S'.1.1 _ k1' (by omega) (by omega) lt' (fun d hd j g3 g4 => ?_) k4' (fun d hd w _ => ?_) (fun j hj w _ => kl _ w (k2' j hj).1) (fun _ _ h _ => k_st h) ?_ ?_ (fun d => ?_) (fun w hw => st_stay S' hN hw) (fun hh => ?_) fun E ec p ex ou fd de up pc ag pi pv q1 q2 q3 q4 => ?_
    · obtain ⟨i, hi, e⟩ := hd
      rw [e]
      exact k4' i j (by omega) g4
    · obtain ⟨i, hi, e⟩ := hd
      rw [e]
      exact kl _ w (k2' i (by omega)).1
    · -- the settled part
      have hD0 : ∀ d, (∃ j, j < r ∧ d = tn (ra' j)) → DX N f_live d ∧ d ≠ c := fun d hd => by
        obtain ⟨j, hj, e⟩ := hd
        have := (k2' j (by omega)).1
        rw [← e] at this
        exact (dx' d).mp (Or.inl this)
      have hsub := ch_sub (D' := fun d => ∃ j, j < r ∧ d = tn (ra' j)) c1 (fun d hd => (hD0 d hd).1) (fun d x hd hx hlt => by
        obtain ⟨j, hj, e⟩ := hd
        rw [e, g1 j hj] at hlt
        rcases hE x hx with y | y
        · obtain ⟨i, hi, ei⟩ := k3 x y
          refine ⟨i, ?_, ?_⟩
          · rcases Nat.lt_or_ge i r with a | a
            · exact a
            · rcases Nat.lt_or_ge j i with b | b
              · have := k4 j i b hi
                rw [ei] at this
                omega
              · omega
          · have hir : i < r := by
              rcases Nat.lt_or_ge i r with a | a
              · exact a
              · have := k4 j i (by omega) hi
                rw [ei] at this
                omega
            rw [g1 i hir, ei]
        · obtain ⟨w, rfl⟩ : ∃ w, x = 22 + w := ⟨x - 22, by omega⟩
          have := st_kl (v := w) h3 hM (by omega) (k2 j (by omega)).1
          omega)
      exact ch_congr hsub (fun _ => Iff.rfl) (fun d => (hb' d).symm) (fun _ _ _ _ => Iff.rfl) (fun d w hd => ux d w (hD0 d hd).2) (fun d w hd => kx d w (hD0 d hd).2)
    · refine sv_congr (fun d w hd => ux d w ?_) (fun d w hd => kx d w ?_) (sv_mono (fun d hd => ((hb' d).mp hd).1) c2)
      · obtain ⟨_, j, hj, e⟩ := (hb' d).mp hd
        have := (k2' j (by omega)).1
        rw [← e] at this
        exact ((hl' d).mp this).2
      · obtain ⟨_, j, hj, e⟩ := (hb' d).mp hd
        have := (k2' j (by omega)).1
        rw [← e] at this
        exact ((hl' d).mp this).2
    · unfold DX
      constructor
      · rintro ((⟨j, hj, e⟩ | ⟨j, g3, g4, e⟩) | ⟨w, hw, e⟩)
        · exact Or.inl (e ▸ (k2' j (by omega)).1)
        · exact Or.inl (e ▸ (k2' j g4).1)
        · exact Or.inr ⟨by omega, by omega⟩
      · rintro (h | h)
        · obtain ⟨j, hj, e⟩ := k3' d h
          rcases Nat.lt_or_ge j r with a | a
          · exact Or.inl (Or.inl ⟨j, a, e.symm⟩)
          · exact Or.inl (Or.inr ⟨j, a, hj, e.symm⟩)
        · exact Or.inr ⟨d - 22, by omega, by omega⟩
    · exact absurd rfl ((dx' c).mp (hh c z)).2
    · exact tail E ec 0 pc p ex ou fd de up a_walk ag pi pv q1 q2 q3 q4 (fun w _ h => absurd h hb_0)
end
end
section
/-! moving the draft, ranking a new one -/
section
variable {f_draftId f_editId f_firstStay f_n f_m f_allVariables f_live f_liveCount f_marked f_draftOpen f_enforced f_execCount f_walkKnown f_peelCount f_planCount : Int32} {f_nextStamp : Int64} {a_values a_before a_kinds a_strengths a_constants a_termCounts a_termVars a_termSigns a_termModes a_variableMasks a_outputMasks a_users a_makers a_ranked a_atStrength a_execIds a_outputs a_feeders a_determiner a_upstream a_walk a_agenda a_peelIds a_peelVars a_plan : Nat → Int32} {a_stamps : Nat → Int64}
variable {g_n g_m g_planLen : Int32} {g_clock : Int64} {b_cKind b_cStrength b_cK b_cCount b_tVar b_tSign b_tMode b_here b_marked b_out b_inSet b_left b_last b_passed b_was b_member b_val b_old b_known b_plan : Nat → Int32} {b_born : Nat → Int64}
variable {N M L q p : Nat}
theorem req_in (S : STR N M L q f_live f_marked f_draftOpen f_liveCount f_nextStamp g_clock a_kinds a_strengths a_constants a_termCounts a_termVars a_termSigns a_termModes a_variableMasks a_outputMasks a_users a_makers a_ranked a_atStrength a_stamps b_cKind b_cStrength b_cK b_cCount b_tVar b_tSign b_tMode b_born b_here b_marked) (hM : M ≤ 20) (hq : q ≤ 2050) {us mk : Nat → Nat → Prop} {E : Int32} (hCh : Chs us mk (keyR a_strengths a_stamps) (DX N f_live) (Hb E)) (hR : Slv us mk (fun x => Hb f_live x ∧ a_strengths x = 0)) {d : Nat} (hd : Hb f_live d) (h0 : a_strengths d = 0) : Hb E d := by
  refine (hCh.2 d (Or.inl hd)).mpr (sv_mono (fun x hx => ?_) hR)
  rcases hx with hx | hx
  · have hd20 := S.2.1.1 d hd
    obtain ⟨bd, hbd, ebd, _⟩ := S.2.2.2.2.2.2.1 d hd
    have kd : keyR a_strengths a_stamps d = bd := by
      unfold keyR
      rw [if_pos (by omega), h0, ebd, ln_lN (by omega)]
      show tn 0 * 65536 + bd = bd
      rw [show tn 0 = 0 from rfl]; omega
    have hlt := hx.2
    rw [kd] at hlt
    rcases hCh.1 x hx.1 with y | y
    · obtain ⟨s', hs', es'⟩ := S.1.2.2.2.2.1 x (Or.inl y)
      have hx20 := S.2.1.1 x y
      have : s' = 0 := by
        unfold keyR at hlt
        rw [if_pos (by omega), es', tn_nI (by omega)] at hlt
        omega
      subst this
      exact ⟨y, es'⟩
    · unfold keyR at hlt
      rw [if_neg (by omega)] at hlt
      omega
  · rw [hx]; exact ⟨hd, h0⟩
/-- a ranking with c put at the place r -/
theorem rk_ins {live live' lc lc' : Int32} {L r c : Nat} {ra ra' st st' : Nat → Int32} {sp sp' : Nat → Int64} (K : RkO live lc L ra st sp) (hr : r ≤ L) (hc : c < 32) (hl : ∀ d, Hb live' d ↔ Hb live d ∨ d = c) (h1 : ∀ j, j < r → ra' j = ra j) (h0 : ra' r = nI c) (h2 : ∀ j, r < j → j ≤ L → ra' j = ra (j - 1)) (elc : lc' = nI (L + 1))
    (hk : ∀ j, j < L → keyR st' sp' (tn (ra j)) = keyR st sp (tn (ra j))) (hlo : ∀ j, j < r → keyR st' sp' (tn (ra j)) < keyR st' sp' c) (hhi : ∀ j, r ≤ j → j < L → keyR st' sp' c < keyR st' sp' (tn (ra j))) : RkO live' lc' (L + 1) ra' st' sp' := by
  obtain ⟨k1, k2, k3, k4⟩ := K
  have ec : tn (nI c) = c := tn_nI (by omega)
  refine ⟨elc, fun i hi => ?_, fun d hd => ?_, fun i j hij hj => ?_⟩
  · rcases Nat.lt_trichotomy i r with z | z | z
    · rw [h1 i z]; exact ⟨(hl _).mpr (Or.inl (k2 i (by omega)).1), (k2 i (by omega)).2⟩
    · rw [z, h0, ec]; exact ⟨(hl _).mpr (Or.inr rfl), rfl⟩
    · rw [h2 i z (by omega)]; exact ⟨(hl _).mpr (Or.inl (k2 (i - 1) (by omega)).1), (k2 (i - 1) (by omega)).2⟩
  · rcases (hl d).mp hd with z | z
    · obtain ⟨j, hj, e⟩ := k3 d z
      rcases Nat.lt_or_ge j r with y | y
      · exact ⟨j, by omega, by rw [h1 j y]; exact e⟩
      · exact ⟨j + 1, by omega, by rw [h2 (j + 1) (by omega) (by omega), Nat.add_sub_cancel]; exact e⟩
    · exact ⟨r, by omega, by rw [h0, ec, z]⟩
  · rcases Nat.lt_trichotomy j r with z | z | z
    · rw [h1 i (by omega), h1 j z, hk i (by omega), hk j (by omega)]; exact k4 i j hij (by omega)
    · subst z
      rw [h1 i hij, h0, ec]; exact hlo i hij
    · rw [h2 j z (by omega)]
      rcases Nat.lt_trichotomy i r with y | y | y
      · rw [h1 i y, hk i (by omega), hk (j - 1) (by omega)]; exact k4 i (j - 1) (by omega) (by omega)
      · rw [y, h0, ec]; exact hhi (j - 1) (by omega) (by omega)
      · rw [h2 i y (by omega), hk (i - 1) (by omega), hk (j - 1) (by omega)]; exact k4 (i - 1) (j - 1) (by omega) (by omega)
theorem xl_move (hn : f_n = nI N) (hN : N ≤ 10) (post : SX → Prop) {c q0 : Nat} (hc : c < 20) (hq0 : q0 ≤ 4) {tc0 tv0 ts0 tm0 : Nat → Int32} (hv0 : ∀ t, t < q0 → ∃ v, v < N ∧ tv0 (4 * 20 + t) = nI v) (hd0 : ∀ t t', t < t' → t' < q0 → tv0 (4 * 20 + t) ≠ tv0 (4 * 20 + t'))
    (H : ∀ tc' tv' ts' tm' vm' om' us' mk', RX N tc' tv' tm' vm' om' us' mk' → tc' c = nI q0 → (∀ t, t < q0 → tv' (4 * c + t) = tv0 (4 * 20 + t) ∧ ts' (4 * c + t) = ts0 (4 * 20 + t) ∧ tm' (4 * c + t) = tm0 (4 * 20 + t)) → (∀ d, d ≠ c → d ≠ 20 → tc' d = tc0 d) → (∀ d, d ≠ c → ∀ t, t < 4 → tv' (4 * d + t) = tv0 (4 * d + t) ∧ ts' (4 * d + t) = ts0 (4 * d + t) ∧ tm' (4 * d + t) = tm0 (4 * d + t)) →
      post (f_draftId, f_editId, f_firstStay, f_n, f_m, f_allVariables, f_nextStamp, f_live, f_liveCount, f_marked, 0, f_enforced, f_execCount, f_walkKnown, f_peelCount, f_planCount, a_values, a_before, a_kinds, a_strengths, a_constants, tc', tv', ts', tm', vm', om', a_stamps, us', mk', a_ranked, a_atStrength, a_execIds, a_outputs, a_feeders, a_determiner, a_upstream, a_walk, a_agenda, a_peelIds, a_peelVars, a_plan)) :
    ∀ d i tc' tv' ts' tm' vm' om' us' mk' fuel, i + d = q0 → d < fuel → RX N tc' tv' tm' vm' om' us' mk' → tc' c = nI i → (∀ t, t < i → tv' (4 * c + t) = tv0 (4 * 20 + t) ∧ ts' (4 * c + t) = ts0 (4 * 20 + t) ∧ tm' (4 * c + t) = tm0 (4 * 20 + t)) → (∀ d, d ≠ c → tc' d = tc0 d) → (∀ d, d ≠ c → ∀ t, t < 4 → tv' (4 * d + t) = tv0 (4 * d + t) ∧ ts' (4 * d + t) = ts0 (4 * d + t) ∧ tm' (4 * d + t) = tm0 (4 * d + t)) →
      wX_moveDraftTo_36 post (nI c) (nI q0) fuel (nI i) f_draftId f_editId f_firstStay f_n f_m f_allVariables f_nextStamp f_live f_liveCount f_marked f_draftOpen f_enforced f_execCount f_walkKnown f_peelCount f_planCount a_values a_before a_kinds a_strengths a_constants tc' tv' ts' tm' vm' om' a_stamps us' mk' a_ranked a_atStrength a_execIds a_outputs a_feeders a_determiner a_upstream a_walk a_agenda a_peelIds a_peelVars a_plan := by
  intro d
  induction d with
  | zero =>
    intro i tc' tv' ts' tm' vm' om' us' mk' fuel hi hf R h1 h2 h3 h4
    have e : i = q0 := by omega
    subst e
    cases fuel with
    | zero => omega
    | succ fuel =>
      refine br_t (Int32.le_refl _) ?_
      refine xs_clear (c := 20) hn hN _ (by omega) fun us2 mk2 hu hk => ?_
      exact H _ _ _ _ _ _ _ _ (rx_clear R hu hk) (by rw [pk_un (by omega)]; exact h1) h2 (fun d g1 g2 => by rw [pk_un g2]; exact h3 d g1) h4
  | succ d ih =>
    intro i tc' tv' ts' tm' vm' om' us' mk' fuel hi hf R h1 h2 h3 h4
    cases fuel with
    | zero => omega
    | succ fuel =>
      have e8 : 80 + nI i = nI (4 * 20 + i) := nI_add 80 i
      have v8 : vp_in (nI (4 * 20 + i)) 128 := vp_in_nI (by omega) (by omega)
      obtain ⟨w, hw, ew⟩ := hv0 i (by omega)
      obtain ⟨g1, g2, g3⟩ := h4 20 (by omega) i (by omega)
      refine pk_le q0 i (fun h => absurd h (by omega)) (fun _ => nm_r e8 (And.intro v8 (And.intro v8 (And.intro v8 ?_)))) rfl rfl (by omega) (by omega)
      rw [nI_clamp (n := 4 * 20 + i) (by omega), g1, g2, g3, ew]
      have hnew : ∀ t, t < i → tv' (4 * c + t) ≠ nI w := fun t ht => by
        rw [(h2 t ht).1, ← ew]
        exact hd0 t i ht (by omega)
      refine xs_add (c := c) hN _ (by omega) (show i < 4 by omega) h1 hw _ _ fun us2 mk2 vm2 om2 hu hk hvm hom => ?_
      refine nm_r (nI_1 i) (ih (i + 1) _ _ _ _ _ _ _ _ fuel (by omega) (by omega) (rx_add R (by omega) (by omega) hN h1 hw hnew hu hk hvm hom) pk_us (fun t ht => ?_) (fun d hd => by rw [pk_un hd]; exact h3 d hd) (fun d hd t ht => ?_))
      · rcases Nat.lt_or_ge t i with y | y
        · rw [pk_un (by omega), pk_un (by omega), pk_un (by omega)]; exact h2 t y
        · have : t = i := by omega
          subst this
          rw [pk_us, pk_us, pk_us]
          exact ⟨ew.symm, rfl, rfl⟩
      · rw [pk_un (by omega), pk_un (by omega), pk_un (by omega)]; exact h4 d hd t ht
theorem xs_move (hn : f_n = nI N) (hN : N ≤ 10) (R : RX N a_termCounts a_termVars a_termModes a_variableMasks a_outputMasks a_users a_makers) (post : SX → Prop) {c q0 : Nat} (hc : c < 20) (hq0 : q0 ≤ 4) (eq0 : a_termCounts 20 = nI q0)
    (H : ∀ tc' tv' ts' tm' vm' om' us' mk', RX N tc' tv' tm' vm' om' us' mk' → tc' c = nI q0 → (∀ t, t < q0 → tv' (4 * c + t) = a_termVars (4 * 20 + t) ∧ ts' (4 * c + t) = a_termSigns (4 * 20 + t) ∧ tm' (4 * c + t) = a_termModes (4 * 20 + t)) → (∀ d, d ≠ c → d ≠ 20 → tc' d = a_termCounts d) → (∀ d, d ≠ c → ∀ t, t < 4 → tv' (4 * d + t) = a_termVars (4 * d + t) ∧ ts' (4 * d + t) = a_termSigns (4 * d + t) ∧ tm' (4 * d + t) = a_termModes (4 * d + t)) →
      post (f_draftId, f_editId, f_firstStay, f_n, f_m, f_allVariables, f_nextStamp, f_live, f_liveCount, f_marked, 0, f_enforced, f_execCount, f_walkKnown, f_peelCount, f_planCount, a_values, a_before, upd a_kinds c (a_kinds 20), upd a_strengths c (a_strengths 20), upd a_constants c (a_constants 20), tc', tv', ts', tm', vm', om', a_stamps, us', mk', a_ranked, a_atStrength, a_execIds, a_outputs, a_feeders, a_determiner, a_upstream, a_walk, a_agenda, a_peelIds, a_peelVars, a_plan)) : wpX_moveDraftTo post (f_draftId, f_editId, f_firstStay, f_n, f_m, f_allVariables, f_nextStamp, f_live, f_liveCount, f_marked, f_draftOpen, f_enforced, f_execCount, f_walkKnown, f_peelCount, f_planCount, a_values, a_before, a_kinds, a_strengths, a_constants, a_termCounts, a_termVars, a_termSigns, a_termModes, a_variableMasks, a_outputMasks, a_stamps, a_users, a_makers, a_ranked, a_atStrength, a_execIds, a_outputs, a_feeders, a_determiner, a_upstream, a_walk, a_agenda, a_peelIds, a_peelVars, a_plan) (nI c) := by
  obtain ⟨q1, hq1, eq1, hv0, hd0, _⟩ := R 20 (by omega)
  have e : q1 = q0 := by rw [eq0, nI_eq (by omega) (by omega)] at eq1; exact eq1.symm
  subst e
  unfold wpX_moveDraftTo
  refine xs_open (c := c) hn hN _ (by omega) _ _ _ fun us' mk' hu hk => ?_
  refine nm_r (e' := nI q1) (by rw [pk_un (by omega)]; exact eq0) (Exists.intro (q1 + 1) ?_)
  exact xl_move hn hN post hc hq0 hv0 hd0 (tc0 := a_termCounts) (ts0 := a_termSigns) (tm0 := a_termModes) (fun tc' tv' ts' tm' vm' om' us2 mk2 R' g1 g2 g3 g4 => H tc' tv' ts' tm' vm' om' us2 mk2 R' g1 g2 g3 g4) q1 0 _ _ _ _ _ _ _ _ (q1 + 1) (by omega) (by omega) (rx_clear R hu hk) pk_us (fun t ht => by omega) (fun d hd => pk_un hd) (fun d hd t ht => ⟨rfl, rfl, rfl⟩)
theorem yl_copy (post : Int32 → SY → Prop) {c : Nat} (hc : c < 20) {tV0 tS0 tM0 : Nat → Int32}
    (H : ∀ tV' tS' tM', (∀ t, t < 4 → tV' (4 * c + t) = tV0 (4 * 20 + t) ∧ tS' (4 * c + t) = tS0 (4 * 20 + t) ∧ tM' (4 * c + t) = tM0 (4 * 20 + t)) → (∀ d, d ≠ c → ∀ t, t < 4 → tV' (4 * d + t) = tV0 (4 * d + t) ∧ tS' (4 * d + t) = tS0 (4 * d + t) ∧ tM' (4 * d + t) = tM0 (4 * d + t)) →
      wpY_renew (fun u => match u with | (g_n, g_m, g_planLen, g_clock, b_cKind, b_cStrength, b_cK, b_cCount, b_tVar, b_tSign, b_tMode, b_born, b_here, b_marked, b_out, b_inSet, b_left, b_last, b_passed, b_was, b_member, b_val, b_old, b_known, b_plan) => post (nI c) (g_n, g_m, g_planLen, g_clock, b_cKind, b_cStrength, b_cK, b_cCount, b_tVar, b_tSign, b_tMode, b_born, b_here, b_marked, b_out, b_inSet, b_left, b_last, b_passed, b_was, b_member, b_val, b_old, b_known, b_plan)) (g_n, g_m, g_planLen, g_clock + 1, b_cKind, b_cStrength, b_cK, b_cCount, tV', tS', tM', vp_updL b_born c g_clock, upd (upd b_here c 1) 20 0, upd b_marked c 0, b_out, b_inSet, b_left, b_last, b_passed, b_was, b_member, b_val, b_old, b_known, b_plan)) :
    ∀ d i tV' tS' tM' fuel, i + d = 4 → d < fuel → (∀ t, t < i → tV' (4 * c + t) = tV0 (4 * 20 + t) ∧ tS' (4 * c + t) = tS0 (4 * 20 + t) ∧ tM' (4 * c + t) = tM0 (4 * 20 + t)) → (∀ d, d ≠ c → ∀ t, t < 4 → tV' (4 * d + t) = tV0 (4 * d + t) ∧ tS' (4 * d + t) = tS0 (4 * d + t) ∧ tM' (4 * d + t) = tM0 (4 * d + t)) →
      wY_commit_143 post (nI c) g_n g_m g_planLen g_clock fuel (nI i) b_cKind b_cStrength b_cK b_cCount tV' tS' tM' b_born b_here b_marked b_out b_inSet b_left b_last b_passed b_was b_member b_val b_old b_known b_plan := by
  have ec : (nI c).toNatClampNeg = c := nI_clamp (by omega)
  have vc : vp_in (nI c) 32 := vp_in_nI (by omega) (by omega)
  intro d
  induction d with
  | zero =>
    intro i tV' tS' tM' fuel hi hf h1 h2
    have e : i = 4 := by omega
    subst e
    cases fuel with
    | zero => omega
    | succ fuel => exact br_t (by decide) (And.intro vc (nm_r (e' := upd b_here c 1) (by rw [ec, vb1]) (nm_r (e' := upd (upd b_here c 1) 20 0) (by rw [vb0]) (And.intro vc (nm_r (e' := upd b_marked c 0) (by rw [ec, vb0]) (And.intro vc (nm_r (e' := vp_updL b_born c g_clock) (by rw [ec]) (nm_e (H tV' tS' tM' h1 h2)))))))))
  | succ d ih =>
    intro i tV' tS' tM' fuel hi hf h1 h2
    cases fuel with
    | zero => omega
    | succ fuel =>
      have e8 : 80 + nI i = nI (4 * 20 + i) := nI_add 80 i
      have v8 : vp_in (nI (4 * 20 + i)) 128 := vp_in_nI (by omega) (by omega)
      have v4 : vp_in (nI (4 * c + i)) 128 := vp_in_nI (by omega) (by omega)
      have c8 : (nI (4 * 20 + i)).toNatClampNeg = 4 * 20 + i := nI_clamp (by omega)
      have c4 : (nI (4 * c + i)).toNatClampNeg = 4 * c + i := nI_clamp (by omega)
      obtain ⟨g1, g2, g3⟩ := h2 20 (by omega) i (by omega)
      refine br_f (nI_ge (b := 4) (by omega) (by decide)) ?_
      rw [e8, ix_y]
      refine And.intro v8 (And.intro v4 (nm_r (e' := upd tV' (4 * c + i) (tV0 (4 * 20 + i))) (by rw [c8, c4, g1]) (And.intro v8 (And.intro v4 (nm_r (e' := upd tS' (4 * c + i) (tS0 (4 * 20 + i))) (by rw [c8, c4, g2]) (And.intro v8 (And.intro v4 (nm_r (e' := upd tM' (4 * c + i) (tM0 (4 * 20 + i))) (by rw [c8, c4, g3]) (nm_r (nI_1 i) (ih (i + 1) _ _ _ fuel (by omega) (by omega) (fun t ht => ?_) (fun d hd t ht => ?_)))))))))))
      · rcases Nat.lt_or_ge t i with y | y
        · rw [pk_un (by omega), pk_un (by omega), pk_un (by omega)]; exact h1 t y
        · have : t = i := by omega
          subst this
          rw [pk_us, pk_us, pk_us]; exact ⟨rfl, rfl, rfl⟩
      · rw [pk_un (by omega), pk_un (by omega), pk_un (by omega)]; exact h2 d hd t ht
/-- the reference's search for a free slot, downwards -/
theorem yl_slot (gm : g_m = nI M) (hM : M ≤ 20) (post : Int32 → SY → Prop) (H : ∀ x1, ((x1 = nI M ∧ ∀ c, c < M → ¬ b_here c = 0) ∨ (∃ c, c < M ∧ x1 = nI c ∧ b_here c = 0 ∧ ∀ d, d < c → ¬ b_here d = 0)) →
      ((x1 < g_m → ((b_cStrength 20 = 0 → wpY_requiredFits (fun r u => match u with | (g_n, g_m, g_planLen, g_clock, b_cKind, b_cStrength, b_cK, b_cCount, b_tVar, b_tSign, b_tMode, b_born, b_here, b_marked, b_out, b_inSet, b_left, b_last, b_passed, b_was, b_member, b_val, b_old, b_known, b_plan) => (r = 0 → post (-6) (g_n, g_m, g_planLen, g_clock, b_cKind, b_cStrength, b_cK, b_cCount, b_tVar, b_tSign, b_tMode, b_born, b_here, b_marked, b_out, b_inSet, b_left, b_last, b_passed, b_was, b_member, b_val, b_old, b_known, b_plan)) ∧ (¬ r = 0 → wY_commit_89 post x1 g_n g_m g_planLen g_clock b_cKind b_cStrength b_cK b_cCount b_tVar b_tSign b_tMode b_born b_here b_marked b_out b_inSet b_left b_last b_passed b_was b_member b_val b_old b_known b_plan)) (g_n, g_m, g_planLen, g_clock, b_cKind, b_cStrength, b_cK, b_cCount, b_tVar, b_tSign, b_tMode, b_born, b_here, b_marked, b_out, b_inSet, b_left, b_last, b_passed, b_was, b_member, b_val, b_old, b_known, b_plan) 20) ∧ (¬ b_cStrength 20 = 0 → wY_commit_89 post x1 g_n g_m g_planLen g_clock b_cKind b_cStrength b_cK b_cCount b_tVar b_tSign b_tMode b_born b_here b_marked b_out b_inSet b_left b_last b_passed b_was b_member b_val b_old b_known b_plan))) ∧ (¬ x1 < g_m → post (-4) (g_n, g_m, g_planLen, g_clock, b_cKind, b_cStrength, b_cK, b_cCount, b_tVar, b_tSign, b_tMode, b_born, b_here, b_marked, b_out, b_inSet, b_left, b_last, b_passed, b_was, b_member, b_val, b_old, b_known, b_plan)))) :
    ∀ s x1 fuel, s ≤ M → s < fuel → ((x1 = nI M ∧ ∀ c, s ≤ c → c < M → ¬ b_here c = 0) ∨ (∃ c, s ≤ c ∧ c < M ∧ x1 = nI c ∧ b_here c = 0 ∧ ∀ d, s ≤ d → d < c → ¬ b_here d = 0)) → wY_commit_35 post g_n g_m g_planLen g_clock b_cKind b_cStrength b_cK b_cCount b_tVar b_tSign b_tMode b_born b_here b_marked b_out b_inSet b_left b_last b_passed b_was b_member b_val b_old b_known b_plan fuel x1 (nI s + (-1)) := by
  intro s
  induction s with
  | zero =>
    intro x1 fuel hs hf h
    cases fuel with
    | zero => omega
    | succ fuel =>
      refine br_t (by decide) (H x1 ?_)
      rcases h with ⟨e, h⟩ | ⟨c, _, h1, e, h2, h3⟩
      · exact Or.inl ⟨e, fun c hc => h c (by omega) hc⟩
      · exact Or.inr ⟨c, h1, e, h2, fun d hd => h3 d (by omega) hd⟩
  | succ s ih =>
    intro x1 fuel hs hf h
    cases fuel with
    | zero => omega
    | succ fuel =>
      rw [pk_m1]
      refine br_f (nI_pos (by omega)) (And.intro (vp_in_nI (by omega) (by omega)) ?_)
      rw [nI_clamp (n := s) (by omega)]
      refine br_c (fun z => nm_e (ih (nI s) fuel (by omega) (by omega) (Or.inr ⟨s, by omega, by omega, rfl, z, fun d h1 h2 => by omega⟩))) (fun z => nm_e (ih x1 fuel (by omega) (by omega) ?_))
      have lo : ∀ c, s ≤ c → c = s ∨ s + 1 ≤ c := fun c hc => by omega
      rcases h with ⟨e, h⟩ | ⟨c, h0, h1, e, h2, h3⟩
      · exact Or.inl ⟨e, fun c g1 g2 => (lo c g1).elim (fun y => y ▸ z) fun y => h c y g2⟩
      · exact Or.inr ⟨c, by omega, h1, e, h2, fun d g1 g2 => (lo d g1).elim (fun y => y ▸ z) fun y => h3 d y g2⟩
end
end
section
/-! commit -/
section
variable {f_draftId f_editId f_firstStay f_n f_m f_allVariables f_live f_liveCount f_marked f_draftOpen f_enforced f_execCount f_walkKnown f_peelCount f_planCount : Int32} {f_nextStamp : Int64} {a_values a_before a_kinds a_strengths a_constants a_termCounts a_termVars a_termSigns a_termModes a_variableMasks a_outputMasks a_users a_makers a_ranked a_atStrength a_execIds a_outputs a_feeders a_determiner a_upstream a_walk a_agenda a_peelIds a_peelVars a_plan : Nat → Int32} {a_stamps : Nat → Int64}
variable {g_n g_m g_planLen : Int32} {g_clock : Int64} {b_cKind b_cStrength b_cK b_cCount b_tVar b_tSign b_tMode b_here b_marked b_out b_inSet b_left b_last b_passed b_was b_member b_val b_old b_known b_plan : Nat → Int32} {b_born : Nat → Int64}
variable {N M L q p : Nat} {tc' tv' ts' tm' vm' om' us' mk' ra' tV' tS' tM' : Nat → Int32} {live' marked' : Int32}
theorem key_new {st : Nat → Int32} {sp : Nat → Int64} {c s q : Nat} (hc : c < 20) (hs : s < 7) (hq : q ≤ 2050) {x : Int32} {y : Int64} (ex : x = nI s) (ey : y = lN q) : keyR (upd st c x) (vp_updL sp c y) c = s * 65536 + q := by
  unfold keyR
  rw [if_pos hc, pk_us, pk_uLs, ex, ey, tn_nI (by omega), ln_lN (by omega)]
theorem key_old {st : Nat → Int32} {sp : Nat → Int64} {c d : Nat} {x : Int32} {y : Int64} (h : d ≠ c) : keyR (upd st c x) (vp_updL sp c y) d = keyR st sp d := key_congr (fun _ => pk_un h) (fun _ => pk_uLn h)
/-- slots against the new youngest of strength s -/
theorem key_vs (S : STR N M L q f_live f_marked f_draftOpen f_liveCount f_nextStamp g_clock a_kinds a_strengths a_constants a_termCounts a_termVars a_termSigns a_termModes a_variableMasks a_outputMasks a_users a_makers a_ranked a_atStrength a_stamps b_cKind b_cStrength b_cK b_cCount b_tVar b_tSign b_tMode b_born b_here b_marked) (hM : M ≤ 20) (hq : q ≤ 2050) {s : Nat} (hs : s < 7) {d : Nat} (hd : DX N f_live d) : (keyR a_strengths a_stamps d < s * 65536 + q ↔ d < 20 ∧ tn (a_strengths d) ≤ s) ∧ keyR a_strengths a_stamps d ≠ s * 65536 + q := by
  rcases hd with h | h
  · have := S.2.1.1 d h
    obtain ⟨s', hs', es'⟩ := S.1.2.2.2.2.1 d (Or.inl h)
    obtain ⟨b, hb, eb, _⟩ := S.2.2.2.2.2.2.1 d h
    unfold keyR
    rw [if_pos (by omega), es', eb, tn_nI (by omega), ln_lN (by omega)]
    omega
  · unfold keyR
    rw [if_neg (by omega)]
    omega
theorem s_commit (S : STR N M L q f_live f_marked f_draftOpen f_liveCount f_nextStamp g_clock a_kinds a_strengths a_constants a_termCounts a_termVars a_termSigns a_termModes a_variableMasks a_outputMasks a_users a_makers a_ranked a_atStrength a_stamps b_cKind b_cStrength b_cK b_cCount b_tVar b_tSign b_tMode b_born b_here b_marked) (hN : N ≤ 10) (hM : M ≤ 20) (hq : q ≤ 2050) (hd : ¬ f_draftOpen = 0) {c s r q0 : Nat} (hcM : c < M) (hnl : ¬ Hb f_live c) (hs : s < 7) (es : a_strengths 20 = nI s) (eq0 : a_termCounts 20 = nI q0) (hq0 : q0 ≤ 4) (hom : ¬ a_outputMasks 20 = 0)
    (R' : RX N tc' tv' tm' vm' om' us' mk') (g1 : tc' c = nI q0) (g2 : ∀ t, t < q0 → tv' (4 * c + t) = a_termVars (4 * 20 + t) ∧ ts' (4 * c + t) = a_termSigns (4 * 20 + t) ∧ tm' (4 * c + t) = a_termModes (4 * 20 + t)) (g3 : ∀ d, d ≠ c → d ≠ 20 → tc' d = a_termCounts d) (g4 : ∀ d, d ≠ c → ∀ t, t < 4 → tv' (4 * d + t) = a_termVars (4 * d + t) ∧ ts' (4 * d + t) = a_termSigns (4 * d + t) ∧ tm' (4 * d + t) = a_termModes (4 * d + t))
    (hl : ∀ d, Hb live' d ↔ Hb f_live d ∨ d = c) (hmk : ∀ d, Hb marked' d ↔ Hb f_marked d ∧ d ≠ c) (hr : r ≤ L) (hrk : ∀ j, j < L → (tn (a_strengths (tn (a_ranked j))) ≤ s ↔ j < r)) (p1 : ∀ j, j < r → ra' j = a_ranked j) (p0 : ra' r = nI c) (p2 : ∀ j, r < j → j ≤ L → ra' j = a_ranked (j - 1))
    (y1 : ∀ t, t < 4 → tV' (4 * c + t) = b_tVar (4 * 20 + t) ∧ tS' (4 * c + t) = b_tSign (4 * 20 + t) ∧ tM' (4 * c + t) = b_tMode (4 * 20 + t)) (y2 : ∀ d, d ≠ c → ∀ t, t < 4 → tV' (4 * d + t) = b_tVar (4 * d + t) ∧ tS' (4 * d + t) = b_tSign (4 * d + t) ∧ tM' (4 * d + t) = b_tMode (4 * d + t)) :
    STR N M (L + 1) (q + 1) live' marked' 0 (nI (L + 1)) (f_nextStamp + 1) (g_clock + 1) (upd a_kinds c (a_kinds 20)) (upd a_strengths c (a_strengths 20)) (upd a_constants c (a_constants 20)) tc' tv' ts' tm' vm' om' us' mk' ra' (upd a_atStrength s (a_atStrength s ||| ((1 : Int32) <<< (nI c &&& 31)))) (vp_updL a_stamps c f_nextStamp) (upd b_cKind c (b_cKind 20)) (upd b_cStrength c (b_cStrength 20)) (upd b_cK c (b_cK 20)) (upd b_cCount c (b_cCount 20)) tV' tS' tM' (vp_updL b_born c g_clock) (upd (upd b_here c 1) 20 0) (upd b_marked c 0) := by
  have SS := S
  obtain ⟨⟨r1, r2, r3, r4, r5, r6⟩, ⟨l1, l2, l3, l4, l5, l6, l7⟩, kk, ⟨t1, t2⟩, ⟨m1, m2, m3, m4⟩⟩ := S
  have hV20 : Vd N f_live f_draftOpen 20 := Or.inr (Or.inl ⟨rfl, hd⟩)
  obtain ⟨⟨a1, a2, a3, a4, a5⟩, ak1, ak2⟩ := r2 20 hV20
  have eqt : tn (a_termCounts 20) = q0 := by rw [eq0]; exact tn_nI (by omega)
  rw [eqt] at a5 ak2
  have nl : ∀ d, Hb f_live d → d ≠ c ∧ d ≠ 20 := fun d h => ⟨fun e => hnl (e ▸ h), by have := l1 d h; omega⟩
  have hV : ∀ d, Vd N live' 0 d → d = c ∨ (d ≠ c ∧ d ≠ 20 ∧ Vd N f_live f_draftOpen d) := fun d h => by
    rcases h with h | h | h
    · rcases (hl d).mp h with y | y
      · exact Or.inr ⟨(nl d y).1, (nl d y).2, Or.inl y⟩
      · exact Or.inl y
    · exact absurd rfl h.2
    · exact Or.inr ⟨by omega, by omega, Or.inr (Or.inr h)⟩
  have eqc : tn (tc' c) = q0 := by rw [g1]; exact tn_nI (by omega)
  obtain ⟨k1, k2, k3, k4⟩ := kk
  refine ⟨⟨R', fun d hd' => ?_, fun v hv => ?_, fun d hd' => ?_, fun d hd' => ?_, fun d hd' => ?_⟩, ⟨fun d hd' => ?_, fun d hd' => ?_, fun d hd' => ?_, fun d hd' => ?_, ⟨fun _ => rfl, fun _ => by rw [pk_us]⟩, ?_, fun d w1 w2 => ?_⟩, ?_, ⟨fun s' hs' d => ?_, fun d => ?_⟩, ⟨?_, ?_, fun d hd' => ?_, fun v hv => ?_⟩⟩
  · rcases hV d hd' with z | ⟨z1, z2, z3⟩
    · subst z
      refine ⟨⟨by rw [pk_us, pk_us]; exact a1, by rw [pk_us, pk_us]; exact a2, by rw [pk_us, pk_us]; exact a3, by rw [g1, pk_us, ← a4]; exact eq0.symm, fun t ht => ?_⟩, by rw [pk_us]; exact ak1, fun h t ht e => ?_⟩
      · rw [eqc] at ht
        obtain ⟨b1, b2, b3⟩ := g2 t ht
        obtain ⟨d1, d2, d3⟩ := y1 t (by omega)
        obtain ⟨e1, e2, e3⟩ := a5 t ht
        exact ⟨by rw [b1, d1]; exact e1, by rw [b2, d2]; exact e2, by rw [b3, d3]; exact e3⟩
      · rw [eqc] at ht
        rw [pk_us] at h
        rw [(g2 t ht).2.2] at e
        exact ak2 h t ht e
    · have h32 := vd_32 SS hN z3
      obtain ⟨q1, hq1, eq1, _⟩ := r1 d h32
      obtain ⟨⟨b1, b2, b3, b4, b5⟩, bk1, bk2⟩ := r2 d z3
      have eqd : tn (a_termCounts d) = q1 := by rw [eq1]; exact tn_nI (by omega)
      rw [eqd] at b5 bk2
      refine ⟨⟨by rw [pk_un z1, pk_un z1]; exact b1, by rw [pk_un z1, pk_un z1]; exact b2, by rw [pk_un z1, pk_un z1]; exact b3, by rw [g3 d z1 z2, pk_un z1]; exact b4, fun t ht => ?_⟩, by rw [pk_un z1]; exact bk1, fun h t ht e => ?_⟩
      · rw [g3 d z1 z2, eqd] at ht
        obtain ⟨w1, w2, w3⟩ := g4 d z1 t (by omega)
        obtain ⟨x1, x2, x3⟩ := y2 d z1 t (by omega)
        obtain ⟨e1, e2, e3⟩ := b5 t ht
        exact ⟨by rw [w1, x1]; exact e1, by rw [w2, x2]; exact e2, by rw [w3, x3]; exact e3⟩
      · rw [g3 d z1 z2, eqd] at ht
        rw [pk_un z1] at h
        rw [(g4 d z1 t (by omega)).2.2] at e
        exact bk2 h t ht e
  · obtain ⟨b1, b2, b3, b4, b5⟩ := r3 v hv
    obtain ⟨w1, w2, w3⟩ := g4 (22 + v) (by omega) 0 (by omega)
    rw [Nat.add_zero] at w1 w2 w3
    exact ⟨by rw [pk_un (by omega)]; exact b1, by rw [g3 (22 + v) (by omega) (by omega)]; exact b2, by rw [w1]; exact b3, by rw [w3]; exact b4, by rw [pk_un (by omega)]; exact b5⟩
  · rcases Classical.em (d = c) with z | z
    · rw [z, pk_us]; exact r4 20 (by omega)
    · rw [pk_un z]; exact r4 d hd'
  · rcases hd' with h | h
    · rcases (hl d).mp h with y | y
      · rw [pk_un (nl d y).1]; exact r5 d (Or.inl y)
      · rw [y, pk_us]; exact ⟨s, hs, es⟩
    · exact absurd rfl h.2
  · rcases (hl d).mp hd' with y | y
    · obtain ⟨v, hv⟩ := r6 d y
      obtain ⟨n1, n2⟩ := nl d y
      exact ⟨v, ((rx_same hN r1 R' (g3 d n1 n2) (fun t ht => ⟨(g4 d n1 t ht).1, (g4 d n1 t ht).2.2⟩) v).2).mp hv⟩
    · obtain ⟨v, hv⟩ := hb_nz.mp hom
      obtain ⟨q1, hq1, eq1, _, _, _, _, _, h8⟩ := r1 20 (by omega)
      have : q1 = q0 := by rw [eq0, nI_eq (by omega) (by omega)] at eq1; exact eq1.symm
      subst this
      obtain ⟨hvN, t, ht, et, em⟩ := (h8 v).mp hv
      refine ⟨v, (rx_k hN R').mpr ⟨by omega, hvN, t, by rw [y, eqc]; exact ht, ?_, ?_⟩⟩
      · rw [y, (g2 t ht).1]; exact et
      · rw [y, (g2 t ht).2.2]; exact em
  · rcases (hl d).mp hd' with y | y
    · exact l1 d y
    · omega
  · obtain ⟨w1, w2⟩ := (hmk d).mp hd'
    exact (hl d).mpr (Or.inl (l2 d w1))
  · rw [hmk d]
    rcases Classical.em (d = c) with z | z
    · rw [z, pk_us]; exact ⟨fun y => absurd rfl y.2, fun y => absurd rfl y⟩
    · rw [pk_un z, ← l3 d (((hl d).mp hd').elim id fun y => absurd y z)]
      exact ⟨fun y => y.1, fun y => ⟨y, z⟩⟩
  · rw [pk_un (by omega), hl d]
    rcases Classical.em (d = c) with z | z
    · rw [z, pk_us]; exact ⟨fun _ => Or.inr rfl, fun _ => by decide⟩
    · rw [pk_un z, l4 d hd']; exact ⟨Or.inl, fun y => y.elim id fun y => absurd y z⟩
  · rw [pk_un (by omega), pk_un (by omega)]; exact l6
  · rw [pk_un (by omega), pk_un (by omega)]; exact l7 d w1 w2
  · have kn := key_new (st := a_strengths) (sp := a_stamps) (c := c) (by omega) hs hq es m1
    have ne : ∀ j, j < L → tn (a_ranked j) ≠ c := fun j hj => (nl _ (k2 j hj).1).1
    refine rk_ins ⟨k1, k2, k3, k4⟩ hr (by omega) hl p1 p0 p2 rfl (fun j hj => key_old (ne j hj)) (fun j hj => ?_) (fun j hj1 hj2 => ?_)
    · rw [key_old (ne j (by omega)), kn]
      exact ((key_vs SS hM hq hs (Or.inl (k2 j (by omega)).1)).1).mpr ⟨by have := l1 _ (k2 j (show j < L by omega)).1; omega, (hrk j (by omega)).mpr hj⟩
    · rw [key_old (ne j hj2), kn]
      obtain ⟨v1, v2⟩ := key_vs SS hM hq hs (Or.inl (k2 j hj2).1)
      rcases Nat.lt_trichotomy (s * 65536 + q) (keyR a_strengths a_stamps (tn (a_ranked j))) with z | z | z
      · exact z
      · exact absurd z.symm v2
      · have := (hrk j hj2).mp (v1.mp z).2
        omega
  · rw [hl d]
    rcases Classical.em (s' = s) with z | z
    · subst z
      rw [pk_us, hb_or, hb_one (by omega), t1 s' hs' d]
      constructor
      · rintro (y | y)
        · exact ⟨Or.inl y.1, by rw [pk_un (nl d y.1).1]; exact y.2⟩
        · exact ⟨Or.inr y, by rw [y, pk_us]; exact es⟩
      · rintro ⟨y | y, e⟩
        · exact Or.inl ⟨y, by rw [pk_un (nl d y).1] at e; exact e⟩
        · exact Or.inr y
    · rw [pk_un z, t1 s' hs' d]
      constructor
      · exact fun y => ⟨Or.inl y.1, by rw [pk_un (nl d y.1).1]; exact y.2⟩
      · rintro ⟨y | y, e⟩
        · exact ⟨y, by rw [pk_un (nl d y).1] at e; exact e⟩
        · rw [y, pk_us, es, nI_eq (by omega) (by omega)] at e
          exact absurd e.symm z
  · rw [pk_un (by omega)]; exact t2 d
  · rw [m1, lN_1]
  · rw [m2, lN_1]
  · rcases (hl d).mp hd' with y | y
    · obtain ⟨b, hb, e1, e2⟩ := m3 d y
      rw [pk_uLn (nl d y).1, pk_uLn (nl d y).1]
      exact ⟨b, by omega, e1, e2⟩
    · rw [y, pk_uLs, pk_uLs]
      exact ⟨q, by omega, m1, m2⟩
  · rw [pk_uLn (by omega)]; exact m4 v hv
end
end
section
/-! choosing anew behind a rank, and with a new one at a rank -/
section
variable {f_draftId f_editId f_firstStay f_n f_m f_allVariables f_live f_liveCount f_marked f_draftOpen f_enforced f_execCount f_walkKnown f_peelCount f_planCount : Int32} {f_nextStamp : Int64} {a_values a_before a_kinds a_strengths a_constants a_termCounts a_termVars a_termSigns a_termModes a_variableMasks a_outputMasks a_users a_makers a_ranked a_atStrength a_execIds a_outputs a_feeders a_determiner a_upstream a_walk a_agenda a_peelIds a_peelVars a_plan : Nat → Int32} {a_stamps : Nat → Int64}
variable {g_n g_m g_planLen : Int32} {g_clock : Int64} {b_cKind b_cStrength b_cK b_cCount b_tVar b_tSign b_tMode b_here b_marked b_out b_inSet b_left b_last b_passed b_was b_member b_val b_old b_known b_plan : Nat → Int32} {b_born : Nat → Int64}
variable {N M L q p : Nat}
theorem xr_anew (D : DIM N M f_n f_m f_allVariables g_n g_m) (S : STR N M L q f_live f_marked f_draftOpen f_liveCount f_nextStamp g_clock a_kinds a_strengths a_constants a_termCounts a_termVars a_termSigns a_termModes a_variableMasks a_outputMasks a_users a_makers a_ranked a_atStrength a_stamps b_cKind b_cStrength b_cK b_cCount b_tVar b_tSign b_tMode b_born b_here b_marked) (hq : q ≤ 2050) {r : Nat} {base : Int32} (hr : r ≤ L) (hc : Chs (UX N a_users) (UX N a_makers) (keyR a_strengths a_stamps) (fun d => ∃ j, j < r ∧ d = tn (a_ranked j)) (Hb base)) (hS : Slv (UX N a_users) (UX N a_makers) (Hb base))
    (hold : (∀ c, Hb f_enforced c → DX N f_live c) → ∃ p, f_execCount = nI p ∧ FX N (UX N a_users) (UX N a_makers) f_enforced p a_execIds a_outputs a_feeders a_determiner a_upstream) (post : SX → Prop)
    (H : ∀ E ec p ex ou fd de up pc ag pi pv, Chs (UX N a_users) (UX N a_makers) (keyR a_strengths a_stamps) (DX N f_live) (Hb E) → Slv (UX N a_users) (UX N a_makers) (Hb E) → ec = nI p → FX N (UX N a_users) (UX N a_makers) E p ex ou fd de up → post (f_draftId, f_editId, f_firstStay, f_n, f_m, f_allVariables, f_nextStamp, f_live, f_liveCount, f_marked, f_draftOpen, E, ec, 0, pc, f_planCount, a_values, a_before, a_kinds, a_strengths, a_constants, a_termCounts, a_termVars, a_termSigns, a_termModes, a_variableMasks, a_outputMasks, a_stamps, a_users, a_makers, a_ranked, a_atStrength, ex, ou, fd, de, up, a_walk, ag, pi, pv, a_plan)) : wpX_rechoose post (f_draftId, f_editId, f_firstStay, f_n, f_m, f_allVariables, f_nextStamp, f_live, f_liveCount, f_marked, f_draftOpen, f_enforced, f_execCount, f_walkKnown, f_peelCount, f_planCount, a_values, a_before, a_kinds, a_strengths, a_constants, a_termCounts, a_termVars, a_termSigns, a_termModes, a_variableMasks, a_outputMasks, a_stamps, a_users, a_makers, a_ranked, a_atStrength, a_execIds, a_outputs, a_feeders, a_determiner, a_upstream, a_walk, a_agenda, a_peelIds, a_peelVars, a_plan) base (nI r) := by
  obtain ⟨hn, hN2, hN, hm, hM2, hM, hall, gn, gm⟩ := D
  have hLM := st_L S hM
  obtain ⟨k1, k2, k3, k4⟩ := S.2.2.1
  refine xr_rechoose (key := keyR a_strengths a_stamps) (D := fun d => ∃ j, j < r ∧ d = tn (a_ranked j)) (rk := fun j => tn (a_ranked j)) hn hN hall S.1.1 _ k1 (by omega) hr (fun j hj => ⟨hb_lt (k2 j hj).1, (k2 j hj).2⟩) (fun d hd j g3 g4 => ?_) k4 (fun d hd w _ => ?_) (fun j hj w _ => st_kl S hM hq (k2 j hj).1) (fun _ _ h _ => k_st h) hc hS (fun d => ?_) (fun w hw => st_stay S hN hw) hold H
  · obtain ⟨i, hi, e⟩ := hd
    rw [e]
    exact k4 i j (by omega) g4
  · obtain ⟨i, hi, e⟩ := hd
    rw [e]
    exact st_kl S hM hq (k2 i (by omega)).1
  · unfold DX
    constructor
    · rintro ((⟨j, hj, e⟩ | ⟨j, g3, g4, e⟩) | ⟨w, hw, e⟩)
      · exact Or.inl (e ▸ (k2 j (by omega)).1)
      · exact Or.inl (e ▸ (k2 j g4).1)
      · exact Or.inr ⟨by omega, by omega⟩
    · rintro (h | h)
      · obtain ⟨j, hj, e⟩ := k3 d h
        rcases Nat.lt_or_ge j r with a | a
        · exact Or.inl (Or.inl ⟨j, a, e.symm⟩)
        · exact Or.inl (Or.inr ⟨j, a, hj, e.symm⟩)
      · exact Or.inr ⟨d - 22, by omega, by omega⟩
/-- the ranks ahead of c -/
theorem rk_pre (S : STR N M L q f_live f_marked f_draftOpen f_liveCount f_nextStamp g_clock a_kinds a_strengths a_constants a_termCounts a_termVars a_termSigns a_termModes a_variableMasks a_outputMasks a_users a_makers a_ranked a_atStrength a_stamps b_cKind b_cStrength b_cK b_cCount b_tVar b_tSign b_tMode b_born b_here b_marked) (hM : M ≤ 20) (hq : q ≤ 2050) {c r : Nat} (hr : r < L) (erc : tn (a_ranked r) = c) (d : Nat) : (∃ j, j < r ∧ d = tn (a_ranked j)) ↔ (DX N f_live d ∧ d ≠ c ∧ keyR a_strengths a_stamps d < keyR a_strengths a_stamps c) := by
  obtain ⟨k1, k2, k3, k4⟩ := S.2.2.1
  constructor
  · rintro ⟨j, hj, e⟩
    have := k4 j r hj hr
    rw [erc, ← e] at this
    exact ⟨Or.inl (e ▸ (k2 j (by omega)).1), fun y => by rw [y] at this; omega, this⟩
  · rintro ⟨hd, hne, hlt⟩
    rcases hd with h | h
    · obtain ⟨j, hj, e⟩ := k3 d h
      rcases Nat.lt_trichotomy j r with z | z | z
      · exact ⟨j, z, e.symm⟩
      · rw [z, erc] at e
        exact absurd e.symm hne
      · have := k4 r j z hj
        rw [erc, e] at this
        omega
    · obtain ⟨w, rfl⟩ : ∃ w, d = 22 + w := ⟨d - 22, by omega⟩
      have := st_kl (v := w) S hM hq (k2 r hr).1
      rw [erc] at this
      omega
theorem xr_enter (D : DIM N M f_n f_m f_allVariables g_n g_m) (S : STR N M L q f_live f_marked f_draftOpen f_liveCount f_nextStamp g_clock a_kinds a_strengths a_constants a_termCounts a_termVars a_termSigns a_termModes a_variableMasks a_outputMasks a_users a_makers a_ranked a_atStrength a_stamps b_cKind b_cStrength b_cK b_cCount b_tVar b_tSign b_tMode b_born b_here b_marked) (hq : q ≤ 2050) {c s r : Nat} {pre : Int32} {C : Nat → Prop} (hr : r < L) (erc : tn (a_ranked r) = c) (hC : Chs (UX N a_users) (UX N a_makers) (keyR a_strengths a_stamps) (fun d => DX N f_live d ∧ d ≠ c) C)
    (hpre : ∀ d, Hb pre d ↔ C d ∧ d < 20 ∧ tn (a_strengths d) ≤ s) (hkc : ∀ d, DX N f_live d → d ≠ c → (keyR a_strengths a_stamps d < keyR a_strengths a_stamps c ↔ d < 20 ∧ tn (a_strengths d) ≤ s)) (hfit : Slv (UX N a_users) (UX N a_makers) (fun d => Hb pre d ∨ d = c))
    (hold : (∀ c, Hb f_enforced c → DX N f_live c) → ∃ p, f_execCount = nI p ∧ FX N (UX N a_users) (UX N a_makers) f_enforced p a_execIds a_outputs a_feeders a_determiner a_upstream) (post : SX → Prop)
    (H : ∀ E ec p ex ou fd de up pc ag pi pv, Chs (UX N a_users) (UX N a_makers) (keyR a_strengths a_stamps) (DX N f_live) (Hb E) → Slv (UX N a_users) (UX N a_makers) (Hb E) → ec = nI p → FX N (UX N a_users) (UX N a_makers) E p ex ou fd de up → post (f_draftId, f_editId, f_firstStay, f_n, f_m, f_allVariables, f_nextStamp, f_live, f_liveCount, f_marked, f_draftOpen, E, ec, 0, pc, f_planCount, a_values, a_before, a_kinds, a_strengths, a_constants, a_termCounts, a_termVars, a_termSigns, a_termModes, a_variableMasks, a_outputMasks, a_stamps, a_users, a_makers, a_ranked, a_atStrength, ex, ou, fd, de, up, a_walk, ag, pi, pv, a_plan)) : wpX_rechoose post (f_draftId, f_editId, f_firstStay, f_n, f_m, f_allVariables, f_nextStamp, f_live, f_liveCount, f_marked, f_draftOpen, f_enforced, f_execCount, f_walkKnown, f_peelCount, f_planCount, a_values, a_before, a_kinds, a_strengths, a_constants, a_termCounts, a_termVars, a_termSigns, a_termModes, a_variableMasks, a_outputMasks, a_stamps, a_users, a_makers, a_ranked, a_atStrength, a_execIds, a_outputs, a_feeders, a_determiner, a_upstream, a_walk, a_agenda, a_peelIds, a_peelVars, a_plan) (pre ||| ((1 : Int32) <<< (nI c &&& 31))) (nI r + 1) := by
  have DD := D
  obtain ⟨hn, hN2, hN, hm, hM2, hM, hall, gn, gm⟩ := D
  have hLM := st_L S hM
  have c32 : c < 32 := by rw [← erc]; exact hb_lt (S.2.2.1.2.1 r hr).1
  have hp := rk_pre S hM hq hr erc
  rw [nI_1]
  have eb : ∀ d, Hb pre d ∨ d = c ↔ Hb (pre ||| ((1 : Int32) <<< (nI c &&& 31))) d := fun d => by rw [hb_or, hb_one c32]
  have s1 : Chs (UX N a_users) (UX N a_makers) (keyR a_strengths a_stamps) (fun d => ∃ j, j < r ∧ d = tn (a_ranked j)) (fun d => C d ∧ ∃ j, j < r ∧ d = tn (a_ranked j)) :=
    ch_sub hC (fun d hd => ⟨((hp d).mp hd).1, ((hp d).mp hd).2.1⟩) (fun d x hd hx hlt => (hp x).mpr ⟨(hC.1 x hx).1, (hC.1 x hx).2, by have := ((hp d).mp hd).2.2; omega⟩)
  have e1 : ∀ d, (C d ∧ ∃ j, j < r ∧ d = tn (a_ranked j)) ↔ Hb pre d := fun d => by
    rw [hpre d, hp d]
    constructor
    · rintro ⟨a, b1, b2, b3⟩
      exact ⟨a, (hkc d b1 b2).mp b3⟩
    · rintro ⟨a, b⟩
      exact ⟨a, (hC.1 d a).1, (hC.1 d a).2, (hkc d (hC.1 d a).1 (hC.1 d a).2).mpr b⟩
  have s2 := ch_yes (a := c) s1 (fun d hd => ((hp d).mp hd).2.2) ((sv_eq fun d => ⟨fun h => h.imp (e1 d).mpr id, fun h => h.imp (e1 d).mp id⟩).mp hfit)
  refine xr_anew DD S hq (by omega) (ch_congr s2 (fun d => ?_) (fun d => ?_) (fun _ _ _ _ => Iff.rfl) (fun _ _ _ => Iff.rfl) (fun _ _ _ => Iff.rfl)) ((sv_eq eb).mp hfit) hold post H
  · constructor
    · rintro (⟨j, hj, e⟩ | e)
      · exact ⟨j, by omega, e⟩
      · exact ⟨r, by omega, by rw [erc]; exact e⟩
    · rintro ⟨j, hj, e⟩
      rcases Nat.lt_or_ge j r with z | z
      · exact Or.inl ⟨j, z, e⟩
      · have : j = r := by omega
        subst this
        exact Or.inr (by rw [e, erc])
  · rw [← eb d]
    exact ⟨fun h => h.imp (e1 d).mp id, fun h => h.imp (e1 d).mpr id⟩
def cpF (c : Nat) (g : Nat → Int32) : Nat → Int32 := fun i => if 4 * c ≤ i ∧ i < 4 * c + 4 then g (4 * 20 + (i - 4 * c)) else g i
theorem cp_1 {c t : Nat} {g : Nat → Int32} (ht : t < 4) : cpF c g (4 * c + t) = g (4 * 20 + t) := by
  unfold cpF
  rw [if_pos ⟨by omega, by omega⟩, show 4 * c + t - 4 * c = t by omega]
theorem cp_2 {c d t : Nat} {g : Nat → Int32} (ht : t < 4) (hd : d ≠ c) : cpF c g (4 * d + t) = g (4 * d + t) := by
  unfold cpF
  rw [if_neg (by omega)]
end
end
section
/-! the call commit -/
section
variable {f_draftId f_editId f_firstStay f_n f_m f_allVariables f_live f_liveCount f_marked f_draftOpen f_enforced f_execCount f_walkKnown f_peelCount f_planCount : Int32} {f_nextStamp : Int64} {a_values a_before a_kinds a_strengths a_constants a_termCounts a_termVars a_termSigns a_termModes a_variableMasks a_outputMasks a_users a_makers a_ranked a_atStrength a_execIds a_outputs a_feeders a_determiner a_upstream a_walk a_agenda a_peelIds a_peelVars a_plan : Nat → Int32} {a_stamps : Nat → Int64}
variable {g_n g_m g_planLen : Int32} {g_clock : Int64} {b_cKind b_cStrength b_cK b_cCount b_tVar b_tSign b_tMode b_here b_marked b_out b_inSet b_left b_last b_passed b_was b_member b_val b_old b_known b_plan : Nat → Int32} {b_born : Nat → Int64}
variable {N M L q p : Nat}
theorem i_vc_commit {k : Nat} {u : SX} {v : SY} (I : i_Rel k u v) (hk : k + 4 ≤ 2050) : wpX_commit (fun r u' => wpY_commit (fun r' v' => r' = r ∧ i_Rel (k + 4) u' v') v) u := by
  refine zz_el (P := fun u v => wpX_commit (fun r u' => wpY_commit (fun r' v' => r' = r ∧ i_Rel (k + 4) u' v') v) u) ?_ I
  intro f_draftId f_editId f_firstStay f_n f_m f_allVariables f_live f_liveCount f_marked f_draftOpen f_enforced f_execCount f_walkKnown f_peelCount f_planCount f_nextStamp a_values a_before a_kinds a_strengths a_constants a_termCounts a_termVars a_termSigns a_termModes a_variableMasks a_outputMasks a_users a_makers a_ranked a_atStrength a_execIds a_outputs a_feeders a_determiner a_upstream a_walk a_agenda a_peelIds a_peelVars a_plan a_stamps g_n g_m g_planLen g_clock b_cKind b_cStrength b_cK b_cCount b_tVar b_tSign b_tMode b_here b_marked b_out b_inSet b_left b_last b_passed b_was b_member b_val b_old b_known b_plan b_born N M L q h1 h2 h3 h4 h5 h6
  have II : i_Rel (k + 4) (f_draftId, f_editId, f_firstStay, f_n, f_m, f_allVariables, f_nextStamp, f_live, f_liveCount, f_marked, f_draftOpen, f_enforced, f_execCount, f_walkKnown, f_peelCount, f_planCount, a_values, a_before, a_kinds, a_strengths, a_constants, a_termCounts, a_termVars, a_termSigns, a_termModes, a_variableMasks, a_outputMasks, a_stamps, a_users, a_makers, a_ranked, a_atStrength, a_execIds, a_outputs, a_feeders, a_determiner, a_upstream, a_walk, a_agenda, a_peelIds, a_peelVars, a_plan) (g_n, g_m, g_planLen, g_clock, b_cKind, b_cStrength, b_cK, b_cCount, b_tVar, b_tSign, b_tMode, b_born, b_here, b_marked, b_out, b_inSet, b_left, b_last, b_passed, b_was, b_member, b_val, b_old, b_known, b_plan) := zz_mk (by omega) h2 h3 h4 h5 h6
  have DD := h2
  obtain ⟨hn, hN2, hN, hm, hM2, hM, hall, gn, gm⟩ := h2
  have hh := h3.2.1.2.2.2.2.1
  have hE := h4.1.1
  refine br_c (fun z => br_t (hh.mpr z) ⟨rfl, II⟩) (fun z => ?_)
  have zy : ¬ b_here 20 = 0 := fun y => z (hh.mp y)
  have hV : Vd N f_live f_draftOpen 20 := Or.inr (Or.inl ⟨rfl, z⟩)
  refine br_c (fun y => br_f zy ?_) (fun y => ?_)
  · refine yr_can h3 hN z _ (fun a => absurd y a) (fun _ => ?_)
    exact br_t rfl ⟨rfl, II⟩
  have hom : ¬ a_outputMasks 20 = 0 := y
  -- the reference up to its slot
  have yslot : ∀ post' : Int32 → SY → Prop, (∀ x1, ((x1 = nI M ∧ ∀ c, c < M → ¬ b_here c = 0) ∨ (∃ c, c < M ∧ x1 = nI c ∧ b_here c = 0 ∧ ∀ d, d < c → ¬ b_here d = 0)) → ((x1 < g_m → ((b_cStrength 20 = 0 → wpY_requiredFits (fun r u => match u with | (g_n, g_m, g_planLen, g_clock, b_cKind, b_cStrength, b_cK, b_cCount, b_tVar, b_tSign, b_tMode, b_born, b_here, b_marked, b_out, b_inSet, b_left, b_last, b_passed, b_was, b_member, b_val, b_old, b_known, b_plan) => (r = 0 → post' (-6) (g_n, g_m, g_planLen, g_clock, b_cKind, b_cStrength, b_cK, b_cCount, b_tVar, b_tSign, b_tMode, b_born, b_here, b_marked, b_out, b_inSet, b_left, b_last, b_passed, b_was, b_member, b_val, b_old, b_known, b_plan)) ∧ (¬ r = 0 → wY_commit_89 post' x1 g_n g_m g_planLen g_clock b_cKind b_cStrength b_cK b_cCount b_tVar b_tSign b_tMode b_born b_here b_marked b_out b_inSet b_left b_last b_passed b_was b_member b_val b_old b_known b_plan)) (g_n, g_m, g_planLen, g_clock, b_cKind, b_cStrength, b_cK, b_cCount, b_tVar, b_tSign, b_tMode, b_born, b_here, b_marked, b_out, b_inSet, b_left, b_last, b_passed, b_was, b_member, b_val, b_old, b_known, b_plan) 20) ∧ (¬ b_cStrength 20 = 0 → wY_commit_89 post' x1 g_n g_m g_planLen g_clock b_cKind b_cStrength b_cK b_cCount b_tVar b_tSign b_tMode b_born b_here b_marked b_out b_inSet b_left b_last b_passed b_was b_member b_val b_old b_known b_plan))) ∧ (¬ x1 < g_m → post' (-4) (g_n, g_m, g_planLen, g_clock, b_cKind, b_cStrength, b_cK, b_cCount, b_tVar, b_tSign, b_tMode, b_born, b_here, b_marked, b_out, b_inSet, b_left, b_last, b_passed, b_was, b_member, b_val, b_old, b_known, b_plan)))) → wpY_commit post' (g_n, g_m, g_planLen, g_clock, b_cKind, b_cStrength, b_cK, b_cCount, b_tVar, b_tSign, b_tMode, b_born, b_here, b_marked, b_out, b_inSet, b_left, b_last, b_passed, b_was, b_member, b_val, b_old, b_known, b_plan) := by
    intro post' H
    refine br_f zy ?_
    refine yr_can h3 hN z _ (fun _ => ?_) (fun a => absurd a hom)
    refine br_f (by decide) (nm_r (e' := nI M + (-1)) (by rw [gm]; exact Int32.sub_eq_add_neg _ _) (Exists.intro (M + 1) ?_))
    exact yl_slot gm hM post' H M g_m (M + 1) (Nat.le_refl _) (by omega) (Or.inl ⟨gm, fun c h1 h2 => by omega⟩)
  have hl4 := h3.2.1.2.2.2.1
  refine xs_free hm hM _ (fun c hcM hnl hlow => ?_) (fun hfull => ?_)
  case refine_2 =>
    refine br_f (by decide) (yslot _ fun x1 hx => ?_)
    rcases hx with ⟨e, _⟩ | ⟨c, hc, _, h0, _⟩
    · subst e
      exact br_f (by rw [gm]; exact nI_nlt (Nat.le_refl _) (by omega)) ⟨rfl, II⟩
    · exact absurd h0 ((hl4 c (by omega)).mpr (hfull c hc))
  have c20 : c < 20 := by omega
  have vc : vp_in (nI c) 32 := vp_in_nI (by omega) (by omega)
  have ecl : (nI c).toNatClampNeg = c := nI_clamp (by omega)
  have yslot' : ∀ post' : Int32 → SY → Prop, ((b_cStrength 20 = 0 → wpY_requiredFits (fun r u => match u with | (g_n, g_m, g_planLen, g_clock, b_cKind, b_cStrength, b_cK, b_cCount, b_tVar, b_tSign, b_tMode, b_born, b_here, b_marked, b_out, b_inSet, b_left, b_last, b_passed, b_was, b_member, b_val, b_old, b_known, b_plan) => (r = 0 → post' (-6) (g_n, g_m, g_planLen, g_clock, b_cKind, b_cStrength, b_cK, b_cCount, b_tVar, b_tSign, b_tMode, b_born, b_here, b_marked, b_out, b_inSet, b_left, b_last, b_passed, b_was, b_member, b_val, b_old, b_known, b_plan)) ∧ (¬ r = 0 → wY_commit_89 post' (nI c) g_n g_m g_planLen g_clock b_cKind b_cStrength b_cK b_cCount b_tVar b_tSign b_tMode b_born b_here b_marked b_out b_inSet b_left b_last b_passed b_was b_member b_val b_old b_known b_plan)) (g_n, g_m, g_planLen, g_clock, b_cKind, b_cStrength, b_cK, b_cCount, b_tVar, b_tSign, b_tMode, b_born, b_here, b_marked, b_out, b_inSet, b_left, b_last, b_passed, b_was, b_member, b_val, b_old, b_known, b_plan) 20) ∧ (¬ b_cStrength 20 = 0 → wY_commit_89 post' (nI c) g_n g_m g_planLen g_clock b_cKind b_cStrength b_cK b_cCount b_tVar b_tSign b_tMode b_born b_here b_marked b_out b_inSet b_left b_last b_passed b_was b_member b_val b_old b_known b_plan)) → wpY_commit post' (g_n, g_m, g_planLen, g_clock, b_cKind, b_cStrength, b_cK, b_cCount, b_tVar, b_tSign, b_tMode, b_born, b_here, b_marked, b_out, b_inSet, b_left, b_last, b_passed, b_was, b_member, b_val, b_old, b_known, b_plan) := by
    intro post' H
    refine yslot post' fun x1 hx => ?_
    rcases hx with ⟨_, h⟩ | ⟨c', hc', e, h0, hlow'⟩
    · exact absurd (Classical.byContradiction fun y' => hnl ((hl4 c (by omega)).mp y')) (h c hcM)
    · have : c' = c := by
        rcases Nat.lt_trichotomy c' c with a | a | a
        · exact absurd h0 ((hl4 c' (by omega)).mpr (hlow c' a))
        · exact a
        · exact absurd (Classical.byContradiction fun y' => hnl ((hl4 c (by omega)).mp y')) (hlow' c a)
      subst this
      subst e
      exact br_t (by rw [gm]; exact nI_lt hcM (by omega)) H
  obtain ⟨s, hs, es⟩ := h3.1.2.2.2.2.1 20 (Or.inr ⟨rfl, z⟩)
  have eY : b_cStrength 20 = nI s := by rw [← (h3.1.2.1 20 hV).1.2.1]; exact es
  refine br_t (nI_pos' (by omega)) (nm_r es ?_)
  refine xs_upTo _ (by omega) fun pre hpre => ?_
  have hpm : ∀ d, Hb pre d ↔ Hb f_enforced d ∧ d < 20 ∧ tn (a_strengths d) ≤ s := fun d => (hpre d).trans (up_mask h3 hM hE hs d)
  refine xs_fits (c := 20) hn hN hall h3.1.1 _ (by omega) (sv_mono (fun d hd => ((hpm d).mp hd).1) h4.2.1) (fun hd => by have := ((hpm 20).mp hd).2.1; omega) fun fit pc0 ag0 pi0 pv0 hfit => ?_
  -- required ones
  have hreq : ∀ d, Hb f_live d → a_strengths d = 0 → Hb f_enforced d := h4.2.2.1
  have ereq : s = 0 → ∀ d, ((Hb f_live d ∧ a_strengths d = 0) ∨ d = 20) ↔ (Hb pre d ∨ d = 20) := fun h0 d => by
    rw [hpm d]
    constructor
    · rintro (⟨a, b⟩ | a)
      · have := h3.2.1.1 d a
        exact Or.inl ⟨hreq d a b, by omega, by rw [b, h0]; exact Nat.le_refl _⟩
      · exact Or.inr a
    · rintro (⟨a, b, e⟩ | a)
      · have hl : Hb f_live d := (hE d a).elim id fun y' => absurd y'.1 (by omega)
        obtain ⟨s', hs', es'⟩ := h3.1.2.2.2.2.1 d (Or.inl hl)
        rw [es', tn_nI (by omega)] at e
        refine Or.inl ⟨hl, ?_⟩
        rw [es', show s' = 0 by omega]; rfl
      · exact Or.inr a
  -- conflict
  have conf : s = 0 → fit = 0 → wpY_commit (fun r' v' => r' = -6 ∧ i_Rel (k + 4) (f_draftId, f_editId, f_firstStay, f_n, f_m, f_allVariables, f_nextStamp, f_live, f_liveCount, f_marked, f_draftOpen, f_enforced, f_execCount, f_walkKnown, pc0, f_planCount, a_values, a_before, a_kinds, a_strengths, a_constants, a_termCounts, a_termVars, a_termSigns, a_termModes, a_variableMasks, a_outputMasks, a_stamps, a_users, a_makers, a_ranked, a_atStrength, a_execIds, a_outputs, a_feeders, a_determiner, a_upstream, a_walk, ag0, pi0, pv0, a_plan) v') (g_n, g_m, g_planLen, g_clock, b_cKind, b_cStrength, b_cK, b_cCount, b_tVar, b_tSign, b_tMode, b_born, b_here, b_marked, b_out, b_inSet, b_left, b_last, b_passed, b_was, b_member, b_val, b_old, b_known, b_plan) := by
    intro h0 hf0
    refine yslot' _ (br_t (by rw [eY, h0]; rfl) ?_)
    refine yr_req (e := 20) h3 hN hM hV _ fun r inS le la hr => ?_
    rcases hr with ⟨_, hs1⟩ | ⟨e, _⟩
    · exact absurd hf0 (hfit.mpr ((sv_eq (ereq h0)).mp hs1))
    · subst e
      exact br_t rfl ⟨rfl, zz_mk (by omega) DD h3 h4 h5 h6⟩
  -- no conflict: the draft moves
  have good : ¬ (s = 0 ∧ fit = 0) → wX_commit_70 (fun r u' => wpY_commit (fun r' v' => r' = r ∧ i_Rel (k + 4) u' v') (g_n, g_m, g_planLen, g_clock, b_cKind, b_cStrength, b_cK, b_cCount, b_tVar, b_tSign, b_tMode, b_born, b_here, b_marked, b_out, b_inSet, b_left, b_last, b_passed, b_was, b_member, b_val, b_old, b_known, b_plan)) (nI c) pre fit f_draftId f_editId f_firstStay f_n f_m f_allVariables f_nextStamp f_live f_liveCount f_marked f_draftOpen f_enforced f_execCount f_walkKnown pc0 f_planCount a_values a_before a_kinds a_strengths a_constants a_termCounts a_termVars a_termSigns a_termModes a_variableMasks a_outputMasks a_stamps a_users a_makers a_ranked a_atStrength a_execIds a_outputs a_feeders a_determiner a_upstream a_walk ag0 pi0 pv0 a_plan := by
    intro hng
    have ygood : ∀ post' : Int32 → SY → Prop, (∀ inS le la, wY_commit_89 post' (nI c) g_n g_m g_planLen g_clock b_cKind b_cStrength b_cK b_cCount b_tVar b_tSign b_tMode b_born b_here b_marked b_out inS le la b_passed b_was b_member b_val b_old b_known b_plan) → wpY_commit post' (g_n, g_m, g_planLen, g_clock, b_cKind, b_cStrength, b_cK, b_cCount, b_tVar, b_tSign, b_tMode, b_born, b_here, b_marked, b_out, b_inSet, b_left, b_last, b_passed, b_was, b_member, b_val, b_old, b_known, b_plan) := by
      intro post' H
      refine yslot' _ (br_c (fun a => ?_) (fun a => H b_inSet b_left b_last))
      have h0 : s = 0 := by rw [eY, show (0 : Int32) = nI 0 from rfl, nI_eq (by omega) (by omega)] at a; exact a
      refine yr_req (e := 20) h3 hN hM hV _ fun r inS le la hr => ?_
      rcases hr with ⟨e, _⟩ | ⟨_, hs1⟩
      · subst e
        exact br_f (by decide) (H inS le la)
      · exact absurd (fun y' => hng ⟨h0, y'⟩) (fun y' => hs1 ((sv_eq (ereq h0)).mpr (hfit.mp y')))
    obtain ⟨q0, hq0, eq0, _⟩ := h3.1.1 20 (by omega)
    unfold wX_commit_70
    refine xs_move hn hN h3.1.1 _ c20 hq0 eq0 fun tc' tv' ts' tm' vm' om' us' mk' R' g1 g2 g3 g4 => ?_
    refine nm_e (nm_e ?_)
    obtain ⟨k1, k2, k3, k4⟩ := h3.2.2.1
    have nl : ∀ d, Hb f_live d → d ≠ c ∧ d ≠ 20 := fun d h => ⟨fun e => hnl (e ▸ h), by have := h3.2.1.1 d h; omega⟩
    have hL20 : L < 20 := by
      have : L + 1 ≤ M := by
        refine pg_in (f := fun i => if i = L then c else tn (a_ranked i)) (fun i hi => ?_) (fun i j hij hj e => ?_)
        · show (if i = L then c else tn (a_ranked i)) < M
          by_cases hi' : i = L
          · rw [if_pos hi']; exact hcM
          · rw [if_neg hi']; exact h3.2.1.1 _ (k2 i (by omega)).1
        · have e' : (if i = L then c else tn (a_ranked i)) = (if j = L then c else tn (a_ranked j)) := e
          rw [if_neg (by omega)] at e'
          by_cases hj' : j = L
          · rw [if_pos hj'] at e'
            exact (nl _ (k2 i (by omega)).1).1 e'
          · rw [if_neg hj'] at e'
            have := k4 i j hij (by omega)
            rw [e'] at this
            omega
      omega
    have stk : ∀ j, j < L → tn (upd a_strengths c (a_strengths 20) (tn (a_ranked j))) = tn (a_strengths (tn (a_ranked j))) := fun j hj => by rw [pk_un (nl _ (k2 j hj).1).1]
    have stn : ∀ j, j < L → ∃ s', s' < 7 ∧ a_strengths (tn (a_ranked j)) = nI s' := fun j hj => h3.1.2.2.2.2.1 _ (Or.inl (k2 j hj).1)
    refine xs_ins (L := L) (rk := fun j => tn (a_ranked j)) (s := s) k1 hL20 (fun j hj => ⟨hb_lt (k2 j hj).1, (k2 j hj).2⟩) (fun j hj => ?_) (fun i j hij hj => ?_) _ (by omega) (by omega) (by rw [pk_us]; exact es) fun r ra' hrL hrk p1 p0 p2 => ?_
    · show tn (upd a_strengths c (a_strengths 20) (tn (a_ranked j))) < 8 ∧ upd a_strengths c (a_strengths 20) (tn (a_ranked j)) = nI (tn (upd a_strengths c (a_strengths 20) (tn (a_ranked j))))
      obtain ⟨s', hs', es'⟩ := stn j hj
      rw [pk_un (nl _ (k2 j hj).1).1, es', tn_nI (by omega)]
      exact ⟨by omega, rfl⟩
    · show tn (upd a_strengths c (a_strengths 20) (tn (a_ranked i))) ≤ tn (upd a_strengths c (a_strengths 20) (tn (a_ranked j)))
      rw [stk i (by omega), stk j hj]
      have hlt := k4 i j hij hj
      obtain ⟨s1, hs1, es1⟩ := stn i (by omega)
      obtain ⟨s2, hs2, es2⟩ := stn j hj
      obtain ⟨b1, hb1, eb1, _⟩ := h3.2.2.2.2.2.2.1 _ (k2 i (by omega)).1
      obtain ⟨b2, hb2, eb2, _⟩ := h3.2.2.2.2.2.2.1 _ (k2 j hj).1
      have i20 := h3.2.1.1 _ (k2 i (show i < L by omega)).1
      have j20 := h3.2.1.1 _ (k2 j hj).1
      unfold keyR at hlt
      rw [if_pos (by omega), if_pos (by omega), es1, es2, eb1, eb2, tn_nI (by omega), tn_nI (by omega), ln_lN (by omega), ln_lN (by omega)] at hlt
      rw [es1, es2, tn_nI (by omega), tn_nI (by omega)]
      omega
    have hrk' : ∀ j, j < L → (tn (a_strengths (tn (a_ranked j))) ≤ s ↔ j < r) := fun j hj => by
      have := hrk j hj
      rw [stk j hj] at this
      exact this
    have hl' : ∀ d, Hb (f_live ||| ((1 : Int32) <<< (nI c &&& 31))) d ↔ Hb f_live d ∨ d = c := fun d => by rw [hb_or, hb_one (by omega)]
    have hmk' : ∀ d, Hb (f_marked &&& (((1 : Int32) <<< (nI c &&& 31)) ^^^ (-1))) d ↔ Hb f_marked d ∧ d ≠ c := fun d => by rw [hb_andn, hb_one (by omega)]
    have SY' := fun (tV' tS' tM' : Nat → Int32) y1 y2 => s_commit (tV' := tV') (tS' := tS') (tM' := tM') h3 hN hM (by omega) z hcM hnl hs es eq0 hq0 hom R' g1 g2 g3 g4 hl' hmk' hrL hrk' p1 p0 p2 y1 y2
    have S' := SY' (cpF c b_tVar) (cpF c b_tSign) (cpF c b_tMode) (fun t ht => ⟨cp_1 ht, cp_1 ht, cp_1 ht⟩) (fun d hd t ht => ⟨cp_2 ht hd, cp_2 ht hd, cp_2 ht hd⟩)
    have dx' : ∀ d, DX N (f_live ||| ((1 : Int32) <<< (nI c &&& 31))) d ↔ DX N f_live d ∨ d = c := fun d => by
      unfold DX
      rw [hl' d]
      constructor
      · rintro ((h | h) | h)
        · exact Or.inl (Or.inl h)
        · exact Or.inr h
        · exact Or.inl (Or.inr h)
      · rintro ((h | h) | h)
        · exact Or.inl (Or.inl h)
        · exact Or.inr h
        · exact Or.inl (Or.inr h)
    have dne : ∀ d, DX N f_live d → d ≠ c ∧ d ≠ 20 := fun d hd => hd.elim (nl d) fun h => by omega
    have rs : ∀ d w, DX N f_live d → (UX N a_users d w ↔ UX N us' d w) ∧ (UX N a_makers d w ↔ UX N mk' d w) := fun d w hd => by
      obtain ⟨n1, n2⟩ := dne d hd
      exact rx_same hN h3.1.1 R' (g3 d n1 n2) (fun t ht => ⟨(g4 d n1 t ht).1, (g4 d n1 t ht).2.2⟩) w
    have eqt : tn (a_termCounts 20) = q0 := by rw [eq0]; exact tn_nI (by omega)
    have eqc : tn (tc' c) = q0 := by rw [g1]; exact tn_nI (by omega)
    have uc : ∀ w, UX N a_users 20 w ↔ UX N us' c w := fun w => by
      rw [rx_u hN h3.1.1, rx_u hN R', eqt, eqc]
      constructor
      · rintro ⟨_, a, t, ht, e⟩
        exact ⟨by omega, a, t, ht, by rw [(g2 t ht).1]; exact e⟩
      · rintro ⟨_, a, t, ht, e⟩
        exact ⟨by omega, a, t, ht, by rw [← (g2 t ht).1]; exact e⟩
    have kc : ∀ w, UX N a_makers 20 w ↔ UX N mk' c w := fun w => by
      rw [rx_k hN h3.1.1, rx_k hN R', eqt, eqc]
      constructor
      · rintro ⟨_, a, t, ht, e, e2⟩
        exact ⟨by omega, a, t, ht, by rw [(g2 t ht).1]; exact e, by rw [(g2 t ht).2.2]; exact e2⟩
      · rintro ⟨_, a, t, ht, e, e2⟩
        exact ⟨by omega, a, t, ht, by rw [← (g2 t ht).1]; exact e, by rw [← (g2 t ht).2.2]; exact e2⟩
    have knew := key_new (st := a_strengths) (sp := a_stamps) (c := c) c20 hs (show q ≤ 2050 by omega) es h3.2.2.2.2.1
    have kold : ∀ d, DX N f_live d → keyR (upd a_strengths c (a_strengths 20)) (vp_updL a_stamps c f_nextStamp) d = keyR a_strengths a_stamps d := fun d hd => key_old (dne d hd).1
    have kvs := fun d (hd : DX N f_live d) => key_vs h3 hM (show q ≤ 2050 by omega) hs hd
    -- the draft fits just if the new one does
    have hpE : ∀ d, Hb pre d → DX N f_live d := fun d hd => hE d ((hpm d).mp hd).1
    have npc : ¬ Hb pre c := fun h => (dne c (hpE c h)).1 rfl
    have np20 : ¬ Hb pre 20 := fun h => (dne 20 (hpE 20 h)).2 rfl
    have fitc : ¬ fit = 0 ↔ Slv (UX N us') (UX N mk') (fun d => Hb pre d ∨ d = c) := by
      rw [hfit]
      exact ⟨sv_ren np20 npc (fun d w hd => (rs d w (hpE d hd)).1) (fun d w hd => (rs d w (hpE d hd)).2) uc kc, sv_ren npc np20 (fun d w hd => (rs d w (hpE d hd)).1.symm) (fun d w hd => (rs d w (hpE d hd)).2.symm) (fun w => (uc w).symm) (fun w => (kc w).symm)⟩
    -- the old choice over the others
    have hC0 : Chs (UX N us') (UX N mk') (keyR (upd a_strengths c (a_strengths 20)) (vp_updL a_stamps c f_nextStamp)) (DX N f_live) (Hb f_enforced) :=
      ch_congr h4.1 (fun _ => Iff.rfl) (fun _ => Iff.rfl) (fun d x hd hx => by rw [kold d hd, kold x hx]) (fun d w hd => (rs d w hd).1) (fun d w hd => (rs d w hd).2)
    have hS0 : Slv (UX N us') (UX N mk') (Hb f_enforced) := sv_congr (fun d w hd => (rs d w (hE d hd)).1) (fun d w hd => (rs d w (hE d hd)).2) h4.2.1
    obtain ⟨p, ep, F⟩ := h4.2.2.2.1
    have F0 : FX N (UX N us') (UX N mk') f_enforced p a_execIds a_outputs a_feeders a_determiner a_upstream := fx_congr F (fun d w hd => (rs d w (hE d hd)).1) (fun d w hd => (rs d w (hE d hd)).2)
    -- the required ones are solvable together
    have hR : Slv (UX N us') (UX N mk') (fun x => Hb (f_live ||| ((1 : Int32) <<< (nI c &&& 31))) x ∧ upd a_strengths c (a_strengths 20) x = 0) := by
      rcases Classical.em (s = 0) with a | a
      · have hf : ¬ fit = 0 := fun y' => hng ⟨a, y'⟩
        refine sv_mono (fun x hx => ?_) (fitc.mp hf)
        rcases (hl' x).mp hx.1 with b | b
        · have e := hx.2
          rw [pk_un (nl x b).1] at e
          exact ((ereq a x).mp (Or.inl ⟨b, e⟩)).elim Or.inl fun e20 => absurd e20 (nl x b).2
        · exact Or.inr b
      · refine sv_mono (fun x hx => ?_) hS0
        rcases (hl' x).mp hx.1 with b | b
        · have e := hx.2
          rw [pk_un (nl x b).1] at e
          exact hreq x b e
        · have e := hx.2
          rw [b, pk_us, es, show (0 : Int32) = nI 0 from rfl, nI_eq (by omega) (by omega)] at e
          exact absurd e a
    -- the end: update and the reference
    have tail : ∀ (E ec wkn pc : Int32) (p : Nat) (ex ou fd de up wk ag pi pv : Nat → Int32), Chs (UX N us') (UX N mk') (keyR (upd a_strengths c (a_strengths 20)) (vp_updL a_stamps c f_nextStamp)) (DX N (f_live ||| ((1 : Int32) <<< (nI c &&& 31)))) (Hb E) → Slv (UX N us') (UX N mk') (Hb E) → ec = nI p → FX N (UX N us') (UX N mk') E p ex ou fd de up → WkO N (UX N us') (UX N mk') E wkn (upd a_strengths c (a_strengths 20)) wk →
        wX_commit_126 (fun r u' => wpY_commit (fun r' v' => r' = r ∧ i_Rel (k + 4) u' v') (g_n, g_m, g_planLen, g_clock, b_cKind, b_cStrength, b_cK, b_cCount, b_tVar, b_tSign, b_tMode, b_born, b_here, b_marked, b_out, b_inSet, b_left, b_last, b_passed, b_was, b_member, b_val, b_old, b_known, b_plan)) (nI c) f_draftId f_editId f_firstStay f_n f_m f_allVariables (f_nextStamp + 1) (f_live ||| ((1 : Int32) <<< (nI c &&& 31))) (nI (L + 1)) (f_marked &&& (((1 : Int32) <<< (nI c &&& 31)) ^^^ (-1))) 0 E ec wkn pc f_planCount a_values a_before (upd a_kinds c (a_kinds 20)) (upd a_strengths c (a_strengths 20)) (upd a_constants c (a_constants 20)) tc' tv' ts' tm' vm' om' (vp_updL a_stamps c f_nextStamp) us' mk' ra' (upd a_atStrength s (a_atStrength s ||| ((1 : Int32) <<< (nI c &&& 31)))) ex ou fd de up wk ag pi pv a_plan := by
      intro E ec wkn pc p ex ou fd de up wk ag pi pv hCh hSl hec hF hWk
      unfold wX_commit_126
      refine xr_update DD S' hCh.1 hec hF _ fun val hev => ?_
      refine ygood _ fun inS0 le0 la0 => ?_
      refine And.intro vc (nm_r (e' := upd b_cKind c (b_cKind 20)) (by rw [ecl]) (And.intro vc (nm_r (e' := upd b_cStrength c (b_cStrength 20)) (by rw [ecl]) (And.intro vc (nm_r (e' := upd b_cK c (b_cK 20)) (by rw [ecl]) (And.intro vc (nm_r (e' := upd b_cCount c (b_cCount 20)) (by rw [ecl]) (Exists.intro 5 ?_))))))))
      refine yl_copy (tV0 := b_tVar) (tS0 := b_tSign) (tM0 := b_tMode) _ c20 (fun tV' tS' tM' y1 y2 => ?_) 4 0 b_tVar b_tSign b_tMode 5 (by omega) (by omega) (fun t ht => by omega) (fun d _ t _ => ⟨rfl, rfl, rfl⟩)
      have S2 := SY' tV' tS' tM' y1 y2
      refine yr_renew DD S2 (by omega) hCh hF _ fun out inS pa le la val' kn ho hev' => ?_
      have ev := ev_eq S2 hN hCh.1 hF h6 hev hev'
      refine ⟨rfl, zz_mk (by omega) DD S2 ⟨hCh, hSl, fun d hd hd0 => req_in S2 hM (by omega) hCh hR hd hd0, ⟨p, hec, hF⟩, ho, hWk⟩ (Or.inl ⟨rfl, rfl⟩) ev⟩
    have erc : tn (ra' r) = c := by rw [p0]; exact tn_nI (by omega)
    refine br_c (fun a => ?_) (fun a => ?_)
    · -- it stays loose
      refine tail f_enforced f_execCount f_walkKnown pc0 p a_execIds a_outputs a_feeders a_determiner a_upstream a_walk ag0 pi0 pv0 ?_ hS0 ep F0 (fun w hw hk1 hk2 => ?_)
      · refine ch_congr (ch_no (a := c) hC0 (fun hD => (dne c hD).1 rfl) fun y' => ?_) (fun d => (dx' d).symm) (fun _ => Iff.rfl) (fun _ _ _ _ => Iff.rfl) (fun _ _ _ => Iff.rfl) (fun _ _ _ => Iff.rfl)
        refine (fitc.mpr (sv_mono (fun d hd => ?_) y')) a
        rcases hd with hd | hd
        · have hd' := (hpm d).mp hd
          refine Or.inl ⟨hd'.1, ?_⟩
          rw [kold d (hE d hd'.1), knew]
          exact ((kvs d (hE d hd'.1)).1).mpr hd'.2
        · exact Or.inr hd
      · obtain ⟨s', e', hw'⟩ := h4.2.2.2.2.2 w hw hk1 hk2
        have hd : ∀ d, Hb f_enforced d ∨ d = 22 + w → DX N f_live d := fun d z' => z'.elim (hE d) fun e => Or.inr ⟨by omega, by omega⟩
        exact ⟨s', e', wv_congr hw' (fun d x hx => (rs d x (hd d hx)).1) (fun d x hx => (rs d x (hd d hx)).2) (fun d hx _ => pk_un (dne d (hE d hx)).1)⟩
    · -- it enters the enforced set
      refine xr_enter (s := s) (C := Hb f_enforced) DD S' (by omega) (by omega) erc ?_ (fun d => ?_) (fun d hd hne => ?_) (fitc.mp a) (fun _ => ⟨p, ep, F0⟩) _ fun E ec p ex ou fd de up pc ag pi pv q1 q2 q3 q4 => ?_
      · refine ch_congr hC0 (fun d => ?_) (fun _ => Iff.rfl) (fun _ _ _ _ => Iff.rfl) (fun _ _ _ => Iff.rfl) (fun _ _ _ => Iff.rfl)
        rw [dx' d]
        exact ⟨fun h => ⟨Or.inl h, (dne d h).1⟩, fun h => h.1.elim id fun e => absurd e h.2⟩
      · rw [hpm d]
        constructor
        · exact fun h => ⟨h.1, h.2.1, by rw [pk_un (dne d (hE d h.1)).1]; exact h.2.2⟩
        · exact fun h => ⟨h.1, h.2.1, by have := h.2.2; rw [pk_un (dne d (hE d h.1)).1] at this; exact this⟩
      · have hd' := ((dx' d).mp hd).elim id fun e => absurd e hne
        rw [kold d hd', knew, (kvs d hd').1, pk_un hne]
      · exact tail E ec 0 pc p ex ou fd de up a_walk ag pi pv q1 q2 q3 q4 (fun w _ h => absurd h hb_0)
  refine br_c (fun a => ?_) (fun a => ?_)
  · have h0 : s = 0 := by rw [show (0 : Int32) = nI 0 from rfl, nI_eq (by omega) (by omega)] at a; exact a
    exact br_c (fun b => conf h0 b) (fun b => good fun h => b h.2)
  · exact good fun h => a (by rw [h.1]; rfl)
end
end
section
/-! restrength -/
theorem om_1 {a so bc s q : Nat} (h : a < so * 65536 + bc) (hb : bc < q) (hge : ¬ s < so) : a < s * 65536 + q :=
  Nat.lt_of_lt_of_le h (Nat.add_le_add (Nat.mul_le_mul_right 65536 (Nat.le_of_not_lt hge)) (Nat.le_of_lt hb))
section
variable {f_draftId f_editId f_firstStay f_n f_m f_allVariables f_live f_liveCount f_marked f_draftOpen f_enforced f_execCount f_walkKnown f_peelCount f_planCount : Int32} {f_nextStamp : Int64} {a_values a_before a_kinds a_strengths a_constants a_termCounts a_termVars a_termSigns a_termModes a_variableMasks a_outputMasks a_users a_makers a_ranked a_atStrength a_execIds a_outputs a_feeders a_determiner a_upstream a_walk a_agenda a_peelIds a_peelVars a_plan : Nat → Int32} {a_stamps : Nat → Int64}
variable {g_n g_m g_planLen : Int32} {g_clock : Int64} {b_cKind b_cStrength b_cK b_cCount b_tVar b_tSign b_tMode b_here b_marked b_out b_inSet b_left b_last b_passed b_was b_member b_val b_old b_known b_plan : Nat → Int32} {b_born : Nat → Int64}
variable {N M L q p : Nat} {ra1 ra2 : Nat → Int32}
theorem s_restr (S : STR N M L q f_live f_marked f_draftOpen f_liveCount f_nextStamp g_clock a_kinds a_strengths a_constants a_termCounts a_termVars a_termSigns a_termModes a_variableMasks a_outputMasks a_users a_makers a_ranked a_atStrength a_stamps b_cKind b_cStrength b_cK b_cCount b_tVar b_tSign b_tMode b_born b_here b_marked) (hN : N ≤ 10) (hM : M ≤ 20) (hq : q ≤ 2050) {c so s r0 r : Nat} (hc : Hb f_live c) (hs : s < 7) (hso : so < 7) (es : a_strengths c = nI so) (hr0 : r0 < L) (erc : tn (a_ranked r0) = c) (g1 : ∀ j, j < r0 → ra1 j = a_ranked j) (g2 : ∀ j, r0 ≤ j → j + 1 < L → ra1 j = a_ranked (j + 1))
    (hr : r ≤ L - 1) (hrk : ∀ j, j < L - 1 → (tn (a_strengths (tn (ra1 j))) ≤ s ↔ j < r)) (p1 : ∀ j, j < r → ra2 j = ra1 j) (p0 : ra2 r = nI c) (p2 : ∀ j, r < j → j ≤ L - 1 → ra2 j = ra1 (j - 1)) :
    STR N M (L - 1 + 1) (q + 1) f_live f_marked f_draftOpen (nI (L - 1 + 1)) (f_nextStamp + 1) (g_clock + 1) a_kinds (upd a_strengths c (nI s)) a_constants a_termCounts a_termVars a_termSigns a_termModes a_variableMasks a_outputMasks a_users a_makers ra2 (upd (upd a_atStrength so (a_atStrength so &&& (((1 : Int32) <<< (nI c &&& 31)) ^^^ (-1)))) s (upd a_atStrength so (a_atStrength so &&& (((1 : Int32) <<< (nI c &&& 31)) ^^^ (-1))) s ||| ((1 : Int32) <<< (nI c &&& 31)))) (vp_updL a_stamps c f_nextStamp) b_cKind (upd b_cStrength c (nI s)) b_cK b_cCount b_tVar b_tSign b_tMode (vp_updL b_born c g_clock) b_here b_marked := by
  have SS := S
  obtain ⟨⟨r1, r2, r3, r4, r5, r6⟩, ll, kk, ⟨t1, t2⟩, ⟨m1, m2, m3, m4⟩⟩ := S
  have l1 := ll.1
  have c20 := l1 c hc
  have hl1 : ∀ d, Hb (f_live &&& (((1 : Int32) <<< (nI c &&& 31)) ^^^ (-1))) d ↔ Hb f_live d ∧ d ≠ c := fun d => by rw [hb_andn, hb_one (by omega)]
  have K1 := rk_rem (lc' := nI (L - 1)) kk hr0 erc hl1 g1 g2 rfl
  obtain ⟨k1, k2, k3, k4⟩ := K1
  have ne : ∀ j, j < L - 1 → tn (ra1 j) ≠ c := fun j hj => ((hl1 _).mp (k2 j hj).1).2
  refine ⟨⟨r1, fun d hd => ?_, fun v hv => ?_, r4, fun d hd => ?_, r6⟩, ll, ?_, ⟨fun s' hs' d => ?_, fun d => ?_⟩, ⟨by rw [m1, lN_1], by rw [m2, lN_1], fun d hd => ?_, fun v hv => ?_⟩⟩
  · obtain ⟨⟨a1, a2, a3⟩, a4⟩ := r2 d hd
    refine ⟨⟨a1, ?_, a3⟩, a4⟩
    rcases Classical.em (d = c) with z | z
    · rw [z, pk_us, pk_us]
    · rw [pk_un z, pk_un z]; exact a2
  · obtain ⟨b1, b2⟩ := r3 v hv
    exact ⟨by rw [pk_un (by omega)]; exact b1, b2⟩
  · rcases Classical.em (d = c) with z | z
    · rw [z, pk_us]; exact ⟨s, hs, rfl⟩
    · rw [pk_un z]; exact r5 d hd
  · have kn := key_new (st := a_strengths) (sp := a_stamps) (c := c) (x := nI s) (by omega) hs hq rfl m1
    refine rk_ins ⟨k1, k2, k3, k4⟩ hr (by omega) (fun d => ?_) p1 p0 p2 rfl (fun j hj => key_old (ne j hj)) (fun j hj => ?_) (fun j hj1 hj2 => ?_)
    · rw [hl1 d]
      constructor
      · intro h
        rcases Classical.em (d = c) with z | z
        · exact Or.inr z
        · exact Or.inl ⟨h, z⟩
      · rintro (h | h)
        · exact h.1
        · rw [h]; exact hc
    · have hlv := ((hl1 _).mp (k2 j (by omega)).1).1
      rw [key_old (ne j (by omega)), kn]
      exact ((key_vs SS hM hq hs (Or.inl hlv)).1).mpr ⟨by have := l1 _ hlv; omega, (hrk j (by omega)).mpr hj⟩
    · have hlv := ((hl1 _).mp (k2 j hj2).1).1
      rw [key_old (ne j hj2), kn]
      obtain ⟨v1, v2⟩ := key_vs SS hM hq hs (Or.inl hlv)
      rcases Nat.lt_trichotomy (s * 65536 + q) (keyR a_strengths a_stamps (tn (ra1 j))) with z | z | z
      · exact z
      · exact absurd z.symm v2
      · have := (hrk j hj2).mp (v1.mp z).2
        omega
  · -- the sets by strength
    have old : ∀ x, x < 7 → (Hb (upd a_atStrength so (a_atStrength so &&& (((1 : Int32) <<< (nI c &&& 31)) ^^^ (-1))) x) d ↔ Hb f_live d ∧ a_strengths d = nI x ∧ d ≠ c) := fun x hx => by
      rcases Classical.em (x = so) with z | z
      · subst z
        rw [pk_us, hb_andn, hb_one (by omega), t1 x hx d]
        exact ⟨fun h => ⟨h.1.1, h.1.2, h.2⟩, fun h => ⟨⟨h.1, h.2.1⟩, h.2.2⟩⟩
      · rw [pk_un z, t1 x hx d]
        refine ⟨fun h => ⟨h.1, h.2, fun e => z ?_⟩, fun h => ⟨h.1, h.2.1⟩⟩
        rw [e, es, nI_eq (by omega) (by omega)] at h
        exact h.2.symm
    rcases Classical.em (s' = s) with z | z
    · subst z
      rw [pk_us, hb_or, hb_one (by omega), old s' hs']
      constructor
      · rintro (h | h)
        · exact ⟨h.1, by rw [pk_un h.2.2]; exact h.2.1⟩
        · rw [h, pk_us]; exact ⟨hc, rfl⟩
      · rintro ⟨h, e⟩
        rcases Classical.em (d = c) with y | y
        · exact Or.inr y
        · rw [pk_un y] at e
          exact Or.inl ⟨h, e, y⟩
    · rw [pk_un z, old s' hs']
      constructor
      · exact fun h => ⟨h.1, by rw [pk_un h.2.2]; exact h.2.1⟩
      · rintro ⟨h, e⟩
        rcases Classical.em (d = c) with y | y
        · rw [y, pk_us, nI_eq (by omega) (by omega)] at e
          exact absurd e.symm z
        · rw [pk_un y] at e
          exact ⟨h, e, y⟩
  · rw [pk_un (by omega), pk_un (by omega)]; exact t2 d
  · rcases Classical.em (d = c) with z | z
    · rw [z, pk_uLs, pk_uLs]; exact ⟨q, by omega, m1, m2⟩
    · rw [pk_uLn z, pk_uLn z]
      obtain ⟨b, hb, e⟩ := m3 d hd
      exact ⟨b, by omega, e⟩
  · rw [pk_uLn (by omega)]; exact m4 v hv
theorem i_vc_restrength {k : Nat} {u : SX} {v : SY} (I : i_Rel k u v) (hk : k + 4 ≤ 2050) (v1 : Int32) (v2 : Int32) : wpX_restrength (fun r u' => wpY_restrength (fun r' v' => r' = r ∧ i_Rel (k + 4) u' v') v v1 v2) u v1 v2 := by
  refine zz_el (P := fun u v => wpX_restrength (fun r u' => wpY_restrength (fun r' v' => r' = r ∧ i_Rel (k + 4) u' v') v v1 v2) u v1 v2) ?_ I
  intro f_draftId f_editId f_firstStay f_n f_m f_allVariables f_live f_liveCount f_marked f_draftOpen f_enforced f_execCount f_walkKnown f_peelCount f_planCount f_nextStamp a_values a_before a_kinds a_strengths a_constants a_termCounts a_termVars a_termSigns a_termModes a_variableMasks a_outputMasks a_users a_makers a_ranked a_atStrength a_execIds a_outputs a_feeders a_determiner a_upstream a_walk a_agenda a_peelIds a_peelVars a_plan a_stamps g_n g_m g_planLen g_clock b_cKind b_cStrength b_cK b_cCount b_tVar b_tSign b_tMode b_here b_marked b_out b_inSet b_left b_last b_passed b_was b_member b_val b_old b_known b_plan b_born N M L q h1 h2 h3 h4 h5 h6
  have II : i_Rel (k + 4) (f_draftId, f_editId, f_firstStay, f_n, f_m, f_allVariables, f_nextStamp, f_live, f_liveCount, f_marked, f_draftOpen, f_enforced, f_execCount, f_walkKnown, f_peelCount, f_planCount, a_values, a_before, a_kinds, a_strengths, a_constants, a_termCounts, a_termVars, a_termSigns, a_termModes, a_variableMasks, a_outputMasks, a_stamps, a_users, a_makers, a_ranked, a_atStrength, a_execIds, a_outputs, a_feeders, a_determiner, a_upstream, a_walk, a_agenda, a_peelIds, a_peelVars, a_plan) (g_n, g_m, g_planLen, g_clock, b_cKind, b_cStrength, b_cK, b_cCount, b_tVar, b_tSign, b_tMode, b_born, b_here, b_marked, b_out, b_inSet, b_left, b_last, b_passed, b_was, b_member, b_val, b_old, b_known, b_plan) := zz_mk (by omega) h2 h3 h4 h5 h6
  have DD := h2
  obtain ⟨hn, hN2, hN, hm, hM2, hM, hall, gn, gm⟩ := h2
  unfold wpX_restrength
  rcases lv_case M hM f_live v1 with z | ⟨c, hcM, rfl, hl⟩
  · unfold wpY_restrength
    refine xs_live_f hm hM _ z ?_
    refine br_t rfl ?_
    refine ys_live_f gm hM _ h3 z ?_
    exact br_t rfl ⟨rfl, II⟩
  have vc : vp_in (nI c) 32 := vp_in_nI (by omega) (by omega)
  have ecl : (nI c).toNatClampNeg = c := nI_clamp (by omega)
  have he := st_here h3 hM hcM hl
  have hE := h4.1.1
  have hV : Vd N f_live f_draftOpen c := Or.inl hl
  have ylive : ∀ post' : Int32 → SY → Prop, ((v2 < 0 → post' (-2) (g_n, g_m, g_planLen, g_clock, b_cKind, b_cStrength, b_cK, b_cCount, b_tVar, b_tSign, b_tMode, b_born, b_here, b_marked, b_out, b_inSet, b_left, b_last, b_passed, b_was, b_member, b_val, b_old, b_known, b_plan)) ∧ (¬ v2 < 0 → ((v2 ≤ 6 → (vp_in (nI c) 32 ∧ ((v2 = b_cStrength c → post' 0 (g_n, g_m, g_planLen, g_clock, b_cKind, b_cStrength, b_cK, b_cCount, b_tVar, b_tSign, b_tMode, b_born, b_here, b_marked, b_out, b_inSet, b_left, b_last, b_passed, b_was, b_member, b_val, b_old, b_known, b_plan)) ∧ (¬ v2 = b_cStrength c → ((v2 = 0 → wpY_requiredFits (fun r u => match u with | (g_n, g_m, g_planLen, g_clock, b_cKind, b_cStrength, b_cK, b_cCount, b_tVar, b_tSign, b_tMode, b_born, b_here, b_marked, b_out, b_inSet, b_left, b_last, b_passed, b_was, b_member, b_val, b_old, b_known, b_plan) => (r = 0 → post' (-6) (g_n, g_m, g_planLen, g_clock, b_cKind, b_cStrength, b_cK, b_cCount, b_tVar, b_tSign, b_tMode, b_born, b_here, b_marked, b_out, b_inSet, b_left, b_last, b_passed, b_was, b_member, b_val, b_old, b_known, b_plan)) ∧ (¬ r = 0 → wY_restrength_48 post' (nI c) v2 g_n g_m g_planLen g_clock b_cKind b_cStrength b_cK b_cCount b_tVar b_tSign b_tMode b_born b_here b_marked b_out b_inSet b_left b_last b_passed b_was b_member b_val b_old b_known b_plan)) (g_n, g_m, g_planLen, g_clock, b_cKind, b_cStrength, b_cK, b_cCount, b_tVar, b_tSign, b_tMode, b_born, b_here, b_marked, b_out, b_inSet, b_left, b_last, b_passed, b_was, b_member, b_val, b_old, b_known, b_plan) (nI c)) ∧ (¬ v2 = 0 → wY_restrength_48 post' (nI c) v2 g_n g_m g_planLen g_clock b_cKind b_cStrength b_cK b_cCount b_tVar b_tSign b_tMode b_born b_here b_marked b_out b_inSet b_left b_last b_passed b_was b_member b_val b_old b_known b_plan)))))) ∧ (¬ v2 ≤ 6 → post' (-2) (g_n, g_m, g_planLen, g_clock, b_cKind, b_cStrength, b_cK, b_cCount, b_tVar, b_tSign, b_tMode, b_born, b_here, b_marked, b_out, b_inSet, b_left, b_last, b_passed, b_was, b_member, b_val, b_old, b_known, b_plan))))) → wpY_restrength post' (g_n, g_m, g_planLen, g_clock, b_cKind, b_cStrength, b_cK, b_cCount, b_tVar, b_tSign, b_tMode, b_born, b_here, b_marked, b_out, b_inSet, b_left, b_last, b_passed, b_was, b_member, b_val, b_old, b_known, b_plan) (nI c) v2 := by
    intro post' H
    unfold wpY_restrength
    refine ys_live_t gm hM _ hcM he ?_
    refine br_f (by decide) ?_
    rw [ecl]
    exact H
  refine xs_live_t hm hM _ hcM hl ?_
  refine br_f (by decide) ?_
  rcases pk_ix v2 (n := 7) (by omega) with a | a | ⟨s, hs, rfl⟩
  · refine xs_str_f _ (Or.inl a) ?_
    refine br_t rfl ?_
    refine ylive _ (br_t a ⟨rfl, II⟩)
  · obtain ⟨a1, a2⟩ := i_gt a (by omega)
    refine xs_str_f _ (Or.inr a) ?_
    refine br_t rfl ?_
    refine ylive _ (br_c (fun _ => ⟨rfl, II⟩) (fun _ => br_f a2 ⟨rfl, II⟩))
  have s0 : ¬ nI s < 0 := nI_pos (by omega)
  have s6 : nI s ≤ 6 := nI_le (b := 6) (by omega) (by decide)
  obtain ⟨so, hso, es⟩ := h3.1.2.2.2.2.1 c (Or.inl hl)
  have eY : b_cStrength c = nI so := by rw [← (h3.1.2.1 c hV).1.2.1]; exact es
  refine xs_str_t _ hs ?_
  refine br_f (by decide) ?_
  refine And.intro vc (nm_r (e' := nI so) (by rw [ecl]; exact es) ?_)
  refine pk_eq s so (fun e => ylive _ (br_f s0 (br_t s6 (And.intro vc (br_t (by rw [eY, e]) ⟨rfl, II⟩))))) (fun hne => ?_) rfl rfl (by omega) (by omega)
  have hneY : ¬ nI s = b_cStrength c := by rw [eY, nI_eq (by omega) (by omega)]; exact hne
  have hreq : ∀ d, Hb f_live d → a_strengths d = 0 → Hb f_enforced d := h4.2.2.1
  have c20 : c < 20 := by omega
  -- the reference, no conflict
  have ygood : (s = 0 → Slv (UX N a_users) (UX N a_makers) (fun d => (Hb f_live d ∧ a_strengths d = 0) ∨ d = c)) → ∀ post' : Int32 → SY → Prop, (∀ inS le la, wY_restrength_48 post' (nI c) (nI s) g_n g_m g_planLen g_clock b_cKind b_cStrength b_cK b_cCount b_tVar b_tSign b_tMode b_born b_here b_marked b_out inS le la b_passed b_was b_member b_val b_old b_known b_plan) → wpY_restrength post' (g_n, g_m, g_planLen, g_clock, b_cKind, b_cStrength, b_cK, b_cCount, b_tVar, b_tSign, b_tMode, b_born, b_here, b_marked, b_out, b_inSet, b_left, b_last, b_passed, b_was, b_member, b_val, b_old, b_known, b_plan) (nI c) (nI s) := by
    intro hg post' H
    refine ylive _ (br_f s0 (br_t s6 (And.intro vc (br_f hneY (br_c (fun b => ?_) (fun b => H b_inSet b_left b_last))))))
    have h0 : s = 0 := by rw [show (0 : Int32) = nI 0 from rfl, nI_eq (by omega) (by omega)] at b; exact b
    refine yr_req (e := c) h3 hN hM hV _ fun r inS le la hr => ?_
    rcases hr with ⟨e, _⟩ | ⟨_, hs1⟩
    · subst e
      exact br_f (by decide) (H inS le la)
    · exact absurd (hg h0) hs1
  -- the ranking moves
  have hLM := st_L h3 hM
  obtain ⟨k1, k2, k3, k4⟩ := h3.2.2.1
  obtain ⟨r0, hr0, erc⟩ := k3 c hl
  have hrc : ∀ j, j < L → (a_ranked j = nI c ↔ j = r0) := fun j hj => by
    constructor
    · intro e
      have e' : tn (a_ranked j) = c := by rw [e]; exact tn_nI (by omega)
      rcases Nat.lt_trichotomy j r0 with y | y | y
      · have := k4 j r0 y hr0; rw [e', erc] at this; omega
      · exact y
      · have := k4 r0 j y hj; rw [e', erc] at this; omega
    · rintro rfl
      rw [(k2 j hj).2, erc]
  have hl1 : ∀ d, Hb (f_live &&& (((1 : Int32) <<< (nI c &&& 31)) ^^^ (-1))) d ↔ Hb f_live d ∧ d ≠ c := fun d => by rw [hb_andn, hb_one (by omega)]
  obtain ⟨p, ep, F⟩ := h4.2.2.2.1
  have knew := key_new (st := a_strengths) (sp := a_stamps) (c := c) (x := nI s) c20 hs (show q ≤ 2050 by omega) rfl h3.2.2.2.2.1
  have kvs := fun d (hd : DX N f_live d) => key_vs h3 hM (show q ≤ 2050 by omega) hs hd
  obtain ⟨bc, hbc, ebc, _⟩ := h3.2.2.2.2.2.2.1 c hl
  have kcold : keyR a_strengths a_stamps c = so * 65536 + bc := by
    unfold keyR
    rw [if_pos c20, es, ebc, tn_nI (by omega), ln_lN (by omega)]
  have kold : ∀ d, d ≠ c → keyR (upd a_strengths c (nI s)) (vp_updL a_stamps c f_nextStamp) d = keyR a_strengths a_stamps d := fun d hd => key_old hd
  -- the part behind the tests: x4 whether it was enforced, x5 whether it gets stronger, x7 whether it enters
  have main : ∀ (x4 x5 x7 pre pc0 : Int32) (ag0 pi0 pv0 : Nat → Int32), (¬ x4 = 0 ↔ Hb f_enforced c) → (¬ x5 = 0 ↔ s < so) → (∀ d, Hb pre d ↔ Hb f_enforced d ∧ d < 20 ∧ tn (a_strengths d) ≤ s) →
      (x4 = 0 → ¬ x5 = 0 → (¬ x7 = 0 ↔ Slv (UX N a_users) (UX N a_makers) (fun d => Hb pre d ∨ d = c))) → (x4 = 0 → x5 = 0 → x7 = 0) → (s = 0 → Slv (UX N a_users) (UX N a_makers) (fun d => (Hb f_live d ∧ a_strengths d = 0) ∨ d = c)) →
      wX_restrength_119 (fun r u' => wpY_restrength (fun r' v' => r' = r ∧ i_Rel (k + 4) u' v') (g_n, g_m, g_planLen, g_clock, b_cKind, b_cStrength, b_cK, b_cCount, b_tVar, b_tSign, b_tMode, b_born, b_here, b_marked, b_out, b_inSet, b_left, b_last, b_passed, b_was, b_member, b_val, b_old, b_known, b_plan) (nI c) (nI s)) (nI c) (nI s) x4 x5 pre x7 f_draftId f_editId f_firstStay f_n f_m f_allVariables f_nextStamp f_live f_liveCount f_marked f_draftOpen f_enforced f_execCount f_walkKnown pc0 f_planCount a_values a_before a_kinds a_strengths a_constants a_termCounts a_termVars a_termSigns a_termModes a_variableMasks a_outputMasks a_stamps a_users a_makers a_ranked a_atStrength a_execIds a_outputs a_feeders a_determiner a_upstream a_walk ag0 pi0 pv0 a_plan := by
    intro x4 x5 x7 pre pc0 ag0 pi0 pv0 hx4 hx5 hpm hx7 hx7' hg
    unfold wX_restrength_119
    refine xs_rem k1 (by omega) _ (by omega) (by omega) es hr0 hrc fun ra1 g1 g2 => ?_
    refine And.intro vc (nm_r (e' := upd a_strengths c (nI s)) (by rw [ecl]) ?_)
    have K1 := rk_rem (lc' := nI (L - 1)) ⟨k1, k2, k3, k4⟩ hr0 erc hl1 g1 g2 rfl
    obtain ⟨q1, q2, q3, q4⟩ := K1
    have lv1 : ∀ j, j < L - 1 → Hb f_live (tn (ra1 j)) ∧ tn (ra1 j) ≠ c := fun j hj => (hl1 _).mp (q2 j hj).1
    have stn : ∀ j, j < L - 1 → ∃ s', s' < 7 ∧ a_strengths (tn (ra1 j)) = nI s' := fun j hj => h3.1.2.2.2.2.1 _ (Or.inl (lv1 j hj).1)
    have stk : ∀ j, j < L - 1 → tn (upd a_strengths c (nI s) (tn (ra1 j))) = tn (a_strengths (tn (ra1 j))) := fun j hj => by rw [pk_un (lv1 j hj).2]
    refine xs_ins (L := L - 1) (rk := fun j => tn (ra1 j)) (s := s) rfl (by omega) (fun j hj => ⟨hb_lt (lv1 j hj).1, (q2 j hj).2⟩) (fun j hj => ?_) (fun i j hij hj => ?_) _ (by omega) (by omega) pk_us fun r ra2 hrL hrk p1 p0 p2 => ?_
    · show tn (upd a_strengths c (nI s) (tn (ra1 j))) < 8 ∧ upd a_strengths c (nI s) (tn (ra1 j)) = nI (tn (upd a_strengths c (nI s) (tn (ra1 j))))
      obtain ⟨s', hs', es'⟩ := stn j hj
      rw [pk_un (lv1 j hj).2, es', tn_nI (by omega)]
      exact ⟨by omega, rfl⟩
    · show tn (upd a_strengths c (nI s) (tn (ra1 i))) ≤ tn (upd a_strengths c (nI s) (tn (ra1 j)))
      rw [stk i (by omega), stk j hj]
      have hlt := q4 i j hij hj
      obtain ⟨s1, hs1, es1⟩ := stn i (by omega)
      obtain ⟨s2, hs2, es2⟩ := stn j hj
      obtain ⟨b1, hb1, eb1, _⟩ := h3.2.2.2.2.2.2.1 _ (lv1 i (by omega)).1
      obtain ⟨b2, hb2, eb2, _⟩ := h3.2.2.2.2.2.2.1 _ (lv1 j hj).1
      have i20 := h3.2.1.1 _ (lv1 i (show i < L - 1 by omega)).1
      have j20 := h3.2.1.1 _ (lv1 j hj).1
      unfold keyR at hlt
      rw [if_pos (by omega), if_pos (by omega), es1, es2, eb1, eb2, tn_nI (by omega), tn_nI (by omega), ln_lN (by omega), ln_lN (by omega)] at hlt
      rw [es1, es2, tn_nI (by omega), tn_nI (by omega)]
      omega
    have hrk' : ∀ j, j < L - 1 → (tn (a_strengths (tn (ra1 j))) ≤ s ↔ j < r) := fun j hj => by
      have := hrk j hj
      rw [stk j hj] at this
      exact this
    have S' := s_restr h3 hN hM (by omega) hl hs hso es hr0 erc g1 g2 hrL hrk' p1 p0 p2
    have erc2 : tn (ra2 r) = c := by rw [p0]; exact tn_nI (by omega)
    have preE : s = 0 → ∀ d, Hb f_live d → a_strengths d = 0 → Hb pre d := fun h0 d hd hd0 => (hpm d).mpr ⟨hreq d hd hd0, by have := h3.2.1.1 d hd; omega, by rw [hd0, h0]; exact Nat.le_refl _⟩
    have hR : Slv (UX N a_users) (UX N a_makers) (fun x => Hb f_live x ∧ upd a_strengths c (nI s) x = 0) := by
      rcases Classical.em (s = 0) with a | a
      · refine sv_mono (fun x hx => ?_) (hg a)
        rcases Classical.em (x = c) with b | b
        · exact Or.inr b
        · have e := hx.2
          rw [pk_un b] at e
          exact Or.inl ⟨hx.1, e⟩
      · refine sv_mono (fun x hx => ?_) h4.2.1
        rcases Classical.em (x = c) with b | b
        · have e := hx.2
          rw [b, pk_us, show (0 : Int32) = nI 0 from rfl, nI_eq (by omega) (by omega)] at e
          exact absurd e a
        · have e := hx.2
          rw [pk_un b] at e
          exact hreq x hx.1 e
    have tail : ∀ (E ec wkn pc : Int32) (p : Nat) (ex ou fd de up wk ag pi pv : Nat → Int32), Chs (UX N a_users) (UX N a_makers) (keyR (upd a_strengths c (nI s)) (vp_updL a_stamps c f_nextStamp)) (DX N f_live) (Hb E) → Slv (UX N a_users) (UX N a_makers) (Hb E) → ec = nI p → FX N (UX N a_users) (UX N a_makers) E p ex ou fd de up → WkO N (UX N a_users) (UX N a_makers) E wkn (upd a_strengths c (nI s)) wk →
        wX_restrength_196 (fun r u' => wpY_restrength (fun r' v' => r' = r ∧ i_Rel (k + 4) u' v') (g_n, g_m, g_planLen, g_clock, b_cKind, b_cStrength, b_cK, b_cCount, b_tVar, b_tSign, b_tMode, b_born, b_here, b_marked, b_out, b_inSet, b_left, b_last, b_passed, b_was, b_member, b_val, b_old, b_known, b_plan) (nI c) (nI s)) f_draftId f_editId f_firstStay f_n f_m f_allVariables (f_nextStamp + 1) f_live (nI (L - 1 + 1)) f_marked f_draftOpen E ec wkn pc f_planCount a_values a_before a_kinds (upd a_strengths c (nI s)) a_constants a_termCounts a_termVars a_termSigns a_termModes a_variableMasks a_outputMasks (vp_updL a_stamps c f_nextStamp) a_users a_makers ra2 (upd (upd a_atStrength so (a_atStrength so &&& (((1 : Int32) <<< (nI c &&& 31)) ^^^ (-1)))) s (upd a_atStrength so (a_atStrength so &&& (((1 : Int32) <<< (nI c &&& 31)) ^^^ (-1))) s ||| ((1 : Int32) <<< (nI c &&& 31)))) ex ou fd de up wk ag pi pv a_plan := by
      intro E ec wkn pc p ex ou fd de up wk ag pi pv hCh hSl hec hF hWk
      unfold wX_restrength_196
      refine xr_update DD S' hCh.1 hec hF _ fun val hev => ?_
      refine ygood hg _ fun inS0 le0 la0 => ?_
      refine And.intro vc (nm_r (e' := upd b_cStrength c (nI s)) (by rw [ecl]) (And.intro vc (nm_r (e' := vp_updL b_born c g_clock) (by rw [ecl]) (nm_e ?_))))
      refine yr_renew DD S' (by omega) hCh hF _ fun out inS pa le la val' kn ho hev' => ?_
      have ev := ev_eq S' hN hCh.1 hF h6 hev hev'
      exact ⟨rfl, zz_mk (by omega) DD S' ⟨hCh, hSl, fun d hd hd0 => req_in S' hM (by omega) hCh hR hd hd0, ⟨p, hec, hF⟩, ho, hWk⟩ (Or.inl ⟨rfl, rfl⟩) ev⟩
    refine br_c (fun y4 => ?_) (fun y4 => ?_)
    · -- a loose one
      have hnE : ¬ Hb f_enforced c := fun y => hx4.mpr y y4
      have neE : ∀ d, Hb f_enforced d → d ≠ c := fun d hd e => hnE (e ▸ hd)
      have hC0 : Chs (UX N a_users) (UX N a_makers) (keyR (upd a_strengths c (nI s)) (vp_updL a_stamps c f_nextStamp)) (fun d => DX N f_live d ∧ d ≠ c) (Hb f_enforced) :=
        ch_congr (ch_drop (D' := fun d => DX N f_live d ∧ d ≠ c) h4.1 (fun d hd => hd.1) (fun d hd => ⟨hE d hd, neE d hd⟩)) (fun _ => Iff.rfl) (fun _ => Iff.rfl) (fun d x hd hx => by rw [kold d hd.2, kold x hx.2]) (fun _ _ _ => Iff.rfl) (fun _ _ _ => Iff.rfl)
      have ke : ∀ d, Hb f_enforced d → (keyR (upd a_strengths c (nI s)) (vp_updL a_stamps c f_nextStamp) d < keyR (upd a_strengths c (nI s)) (vp_updL a_stamps c f_nextStamp) c ↔ d < 20 ∧ tn (a_strengths d) ≤ s) := fun d hd => by
        rw [kold d (neE d hd), knew]; exact (kvs d (hE d hd)).1
      refine br_c (fun y7 => ?_) (fun y7 => ?_)
      · -- and it stays loose
        refine tail f_enforced f_execCount f_walkKnown pc0 p a_execIds a_outputs a_feeders a_determiner a_upstream a_walk ag0 pi0 pv0 ?_ h4.2.1 ep F (fun w hw hk1 hk2 => ?_)
        · refine ch_congr (ch_no (a := c) hC0 (fun hD => hD.2 rfl) fun y' => ?_) (fun d => ⟨fun h => h.elim (fun h => h.1) fun h => h ▸ Or.inl hl, fun h => (Classical.em (d = c)).elim Or.inr fun h' => Or.inl ⟨h, h'⟩⟩) (fun _ => Iff.rfl) (fun _ _ _ _ => Iff.rfl) (fun _ _ _ => Iff.rfl) (fun _ _ _ => Iff.rfl)
          rcases Classical.em (x5 = 0) with y5 | y5
          · -- weaker: it did not fit before
            have hge : ¬ s < so := fun h => hx5.mpr h y5
            refine hnE ((h4.1.2 c (Or.inl hl)).mpr (sv_mono (fun d hd => ?_) y'))
            rcases hd with hd | hd
            · refine Or.inl ⟨hd.1, ?_⟩
              have h2 := hd.2
              rw [kcold] at h2
              rw [kold d (neE d hd.1), knew]
              exact om_1 h2 hbc hge
            · exact Or.inr hd
          · refine (hx7 y4 y5).mpr (sv_mono (fun d hd => ?_) y') y7
            rcases hd with hd | hd
            · have hd' := (hpm d).mp hd
              exact Or.inl ⟨hd'.1, (ke d hd'.1).mpr hd'.2⟩
            · exact Or.inr hd
        · obtain ⟨s', e', hw'⟩ := h4.2.2.2.2.2 w hw hk1 hk2
          exact ⟨s', e', wv_congr hw' (fun _ _ _ => Iff.rfl) (fun _ _ _ => Iff.rfl) (fun d hx _ => pk_un (neE d hx))⟩
      · -- it enters
        have y5 : ¬ x5 = 0 := fun y5 => y7 (hx7' y4 y5)
        refine xr_enter (s := s) (C := Hb f_enforced) DD S' (by omega) (by omega) erc2 hC0 (fun d => ?_) (fun d hd hne' => ?_) ((hx7 y4 y5).mp y7) (fun _ => ⟨p, ep, F⟩) _ fun E ec p ex ou fd de up pc ag pi pv w1 w2 w3 w4 => ?_
        · rw [hpm d]
          constructor
          · exact fun h => ⟨h.1, h.2.1, by rw [pk_un (neE d h.1)]; exact h.2.2⟩
          · exact fun h => ⟨h.1, h.2.1, by have := h.2.2; rw [pk_un (neE d h.1)] at this; exact this⟩
        · rw [kold d hne', knew, (kvs d hd).1, pk_un hne']
        · exact tail E ec 0 pc p ex ou fd de up a_walk ag pi pv w1 w2 w3 w4 (fun w _ h => absurd h hb_0)
    · -- an enforced one
      have hcE := hx4.mp y4
      refine br_c (fun y5 => ?_) (fun y5 => ?_)
      · -- weaker: choose anew from its old rank
        have hge : ¬ s < so := fun h => hx5.mpr h y5
        have K2 := S'.2.2.1
        obtain ⟨w1, w2, w3, w4⟩ := K2
        have r0r : r0 ≤ r := by
          rcases Nat.eq_zero_or_pos r0 with y | y
          · omega
          · have hj : r0 - 1 < L - 1 := by omega
            have := (hrk' (r0 - 1) hj).mp (by
              have hlt := k4 (r0 - 1) r0 (by omega) hr0
              rw [g1 (r0 - 1) (by omega)]
              have hlv := (k2 (r0 - 1) (by omega)).1
              obtain ⟨s1, hs1, es1⟩ := h3.1.2.2.2.2.1 _ (Or.inl hlv)
              obtain ⟨b1, hb1, eb1, _⟩ := h3.2.2.2.2.2.2.1 _ hlv
              have l20 := h3.2.1.1 _ hlv
              rw [erc, kcold] at hlt
              unfold keyR at hlt
              rw [if_pos (by omega), es1, eb1, tn_nI (by omega), ln_lN (by omega)] at hlt
              rw [es1, tn_nI (by omega)]
              omega)
            omega
        have eq0 : ∀ j, j < r0 → ra2 j = a_ranked j := fun j hj => by rw [p1 j (by omega), g1 j hj]
        refine xs_before (rk := fun j => tn (ra2 j)) _ (by omega) (fun j hj => ⟨hb_lt (w2 j (by omega)).1, (w2 j (by omega)).2⟩) fun base hb => ?_
        have hb' : ∀ d, Hb base d ↔ Hb f_enforced d ∧ ∃ j, j < r0 ∧ d = tn (ra2 j) := hb
        have hp : ∀ d, (∃ j, j < r0 ∧ d = tn (ra2 j)) ↔ (DX N f_live d ∧ d ≠ c ∧ keyR a_strengths a_stamps d < keyR a_strengths a_stamps c) := fun d => by
          rw [← rk_pre h3 hM (by omega) hr0 erc d]
          exact ⟨fun ⟨j, hj, e⟩ => ⟨j, hj, by rw [e, eq0 j hj]⟩, fun ⟨j, hj, e⟩ => ⟨j, hj, by rw [e, eq0 j hj]⟩⟩
        have hsub := ch_sub (D' := fun d => ∃ j, j < r0 ∧ d = tn (ra2 j)) h4.1 (fun d hd => ((hp d).mp hd).1) (fun d x hd hx hlt => by
          have hd' := (hp d).mp hd
          exact (hp x).mpr ⟨hE x hx, fun e => by rw [e] at hlt; omega, by omega⟩)
        refine xr_anew DD S' (by omega) (by omega) (ch_congr hsub (fun _ => Iff.rfl) (fun d => (hb' d).symm) (fun d x hd hx => by rw [kold d ((hp d).mp hd).2.1, kold x ((hp x).mp hx).2.1]) (fun _ _ _ => Iff.rfl) (fun _ _ _ => Iff.rfl)) (sv_mono (fun d hd => ((hb' d).mp hd).1) h4.2.1) (fun _ => ⟨p, ep, F⟩) _ fun E ec p ex ou fd de up pc ag pi pv z1 z2 z3 z4 => ?_
        exact tail E ec 0 pc p ex ou fd de up a_walk ag pi pv z1 z2 z3 z4 (fun w _ h => absurd h hb_0)
      · -- stronger: the enforced set stays as it is
        have hlt := hx5.mp y5
        refine tail f_enforced f_execCount 0 pc0 p a_execIds a_outputs a_feeders a_determiner a_upstream a_walk ag0 pi0 pv0 (ch_up (a := c) h4.1 h4.2.1 hcE (fun d hd => kold d hd) (by rw [knew, kcold]; omega)) h4.2.1 ep F (fun w _ h => absurd h hb_0)
  -- the tests
  have h107 : ∀ (x4 x5 x7 pre pc0 : Int32) (ag0 pi0 pv0 : Nat → Int32), (¬ x4 = 0 ↔ Hb f_enforced c) → (¬ x5 = 0 ↔ s < so) → (∀ d, Hb pre d ↔ Hb f_enforced d ∧ d < 20 ∧ tn (a_strengths d) ≤ s) →
      (x4 = 0 → ¬ x5 = 0 → (¬ x7 = 0 ↔ Slv (UX N a_users) (UX N a_makers) (fun d => Hb pre d ∨ d = c))) → (x4 = 0 → x5 = 0 → x7 = 0) → (s = 0 → Slv (UX N a_users) (UX N a_makers) (fun d => (Hb f_live d ∧ a_strengths d = 0) ∨ d = c)) →
      wX_restrength_107 (fun r u' => wpY_restrength (fun r' v' => r' = r ∧ i_Rel (k + 4) u' v') (g_n, g_m, g_planLen, g_clock, b_cKind, b_cStrength, b_cK, b_cCount, b_tVar, b_tSign, b_tMode, b_born, b_here, b_marked, b_out, b_inSet, b_left, b_last, b_passed, b_was, b_member, b_val, b_old, b_known, b_plan) (nI c) (nI s)) (nI c) (nI s) x4 x5 pre x7 f_draftId f_editId f_firstStay f_n f_m f_allVariables f_nextStamp f_live f_liveCount f_marked f_draftOpen f_enforced f_execCount f_walkKnown pc0 f_planCount a_values a_before a_kinds a_strengths a_constants a_termCounts a_termVars a_termSigns a_termModes a_variableMasks a_outputMasks a_stamps a_users a_makers a_ranked a_atStrength a_execIds a_outputs a_feeders a_determiner a_upstream a_walk ag0 pi0 pv0 a_plan := by
    intro x4 x5 x7 pre pc0 ag0 pi0 pv0 hx4 hx5 hpm hx7 hx7' hg
    refine br_c (fun a => main x4 x5 x7 pre pc0 ag0 pi0 pv0 hx4 hx5 hpm hx7 hx7' hg) (fun a => br_c (fun b => main x4 x5 0 pre pc0 ag0 pi0 pv0 hx4 hx5 hpm (fun h => absurd h a) (fun _ _ => rfl) hg) (fun b => main x4 x5 x7 pre pc0 ag0 pi0 pv0 hx4 hx5 hpm hx7 hx7' hg))
  have h64 : ∀ x4 x5 : Int32, (¬ x4 = 0 ↔ Hb f_enforced c) → (¬ x5 = 0 ↔ s < so) → wX_restrength_64 (fun r u' => wpY_restrength (fun r' v' => r' = r ∧ i_Rel (k + 4) u' v') (g_n, g_m, g_planLen, g_clock, b_cKind, b_cStrength, b_cK, b_cCount, b_tVar, b_tSign, b_tMode, b_born, b_here, b_marked, b_out, b_inSet, b_left, b_last, b_passed, b_was, b_member, b_val, b_old, b_known, b_plan) (nI c) (nI s)) (nI c) (nI s) x4 x5 f_draftId f_editId f_firstStay f_n f_m f_allVariables f_nextStamp f_live f_liveCount f_marked f_draftOpen f_enforced f_execCount f_walkKnown f_peelCount f_planCount a_values a_before a_kinds a_strengths a_constants a_termCounts a_termVars a_termSigns a_termModes a_variableMasks a_outputMasks a_stamps a_users a_makers a_ranked a_atStrength a_execIds a_outputs a_feeders a_determiner a_upstream a_walk a_agenda a_peelIds a_peelVars a_plan := by
    intro x4 x5 hx4 hx5
    unfold wX_restrength_64
    refine xs_upTo _ (by omega) fun pre hpre => ?_
    have hpm : ∀ d, Hb pre d ↔ Hb f_enforced d ∧ d < 20 ∧ tn (a_strengths d) ≤ s := fun d => (hpre d).trans (up_mask h3 hM hE hs d)
    refine br_c (fun y4 => br_c (fun y5 => ?_) (fun y5 => ?_)) (fun y4 => ?_)
    · -- loose and weaker
      have hge : ¬ s < so := fun h => hx5.mpr h y5
      exact h107 x4 x5 0 pre f_peelCount a_agenda a_peelIds a_peelVars hx4 hx5 hpm (fun _ h => absurd y5 h) (fun _ _ => rfl) (fun h0 => by omega)
    · -- loose and stronger
      have hnE : ¬ Hb f_enforced c := fun y => hx4.mpr y y4
      refine xs_fits (c := c) hn hN hall h3.1.1 _ (by omega) (sv_mono (fun d hd => ((hpm d).mp hd).1) h4.2.1) (fun hd => hnE ((hpm c).mp hd).1) fun fit pc0 ag0 pi0 pv0 hfit => ?_
      have ereq : s = 0 → ∀ d, ((Hb f_live d ∧ a_strengths d = 0) ∨ d = c) ↔ (Hb pre d ∨ d = c) := fun h0 d => by
        rw [hpm d]
        constructor
        · rintro (⟨a, b⟩ | a)
          · have := h3.2.1.1 d a
            exact Or.inl ⟨hreq d a b, by omega, by rw [b, h0]; exact Nat.le_refl _⟩
          · exact Or.inr a
        · rintro (⟨a, b, e⟩ | a)
          · have hl : Hb f_live d := (hE d a).elim id fun y' => absurd y'.1 (by omega)
            obtain ⟨s', hs', es'⟩ := h3.1.2.2.2.2.1 d (Or.inl hl)
            rw [es', tn_nI (by omega)] at e
            refine Or.inl ⟨hl, ?_⟩
            rw [es', show s' = 0 by omega]; rfl
          · exact Or.inr a
      have go : (s = 0 → ¬ fit = 0) → wX_restrength_107 (fun r u' => wpY_restrength (fun r' v' => r' = r ∧ i_Rel (k + 4) u' v') (g_n, g_m, g_planLen, g_clock, b_cKind, b_cStrength, b_cK, b_cCount, b_tVar, b_tSign, b_tMode, b_born, b_here, b_marked, b_out, b_inSet, b_left, b_last, b_passed, b_was, b_member, b_val, b_old, b_known, b_plan) (nI c) (nI s)) (nI c) (nI s) x4 x5 pre fit f_draftId f_editId f_firstStay f_n f_m f_allVariables f_nextStamp f_live f_liveCount f_marked f_draftOpen f_enforced f_execCount f_walkKnown pc0 f_planCount a_values a_before a_kinds a_strengths a_constants a_termCounts a_termVars a_termSigns a_termModes a_variableMasks a_outputMasks a_stamps a_users a_makers a_ranked a_atStrength a_execIds a_outputs a_feeders a_determiner a_upstream a_walk ag0 pi0 pv0 a_plan := fun h =>
        h107 x4 x5 fit pre pc0 ag0 pi0 pv0 hx4 hx5 hpm (fun _ _ => hfit) (fun _ h => absurd h y5) (fun h0 => (sv_eq (ereq h0)).mpr (hfit.mp (h h0)))
      refine br_c (fun a => ?_) (fun a => go fun h0 => absurd (by rw [h0]; rfl) a)
      have h0 : s = 0 := by rw [show (0 : Int32) = nI 0 from rfl, nI_eq (by omega) (by omega)] at a; exact a
      refine br_c (fun b => ?_) (fun b => go fun _ => b)
      refine ylive _ (br_f s0 (br_t s6 (And.intro vc (br_f hneY (br_t a ?_)))))
      refine yr_req (e := c) h3 hN hM hV _ fun r inS le la hr => ?_
      rcases hr with ⟨_, hs1⟩ | ⟨e, _⟩
      · exact absurd b (hfit.mpr ((sv_eq (ereq h0)).mp hs1))
      · subst e
        exact br_t rfl ⟨rfl, zz_mk (by omega) DD h3 h4 h5 h6⟩
    · -- enforced
      have hcE := hx4.mp y4
      refine h107 x4 x5 0 pre f_peelCount a_agenda a_peelIds a_peelVars hx4 hx5 hpm (fun h => absurd h y4) (fun _ _ => rfl) (fun h0 => sv_mono (fun d hd => ?_) h4.2.1)
      rcases hd with hd | hd
      · exact hreq d hd.1 hd.2
      · rw [hd]; exact hcE
  have h52 : ∀ x4 : Int32, (¬ x4 = 0 ↔ Hb f_enforced c) → wX_restrength_52 (fun r u' => wpY_restrength (fun r' v' => r' = r ∧ i_Rel (k + 4) u' v') (g_n, g_m, g_planLen, g_clock, b_cKind, b_cStrength, b_cK, b_cCount, b_tVar, b_tSign, b_tMode, b_born, b_here, b_marked, b_out, b_inSet, b_left, b_last, b_passed, b_was, b_member, b_val, b_old, b_known, b_plan) (nI c) (nI s)) (nI c) (nI s) (nI so) x4 f_draftId f_editId f_firstStay f_n f_m f_allVariables f_nextStamp f_live f_liveCount f_marked f_draftOpen f_enforced f_execCount f_walkKnown f_peelCount f_planCount a_values a_before a_kinds a_strengths a_constants a_termCounts a_termVars a_termSigns a_termModes a_variableMasks a_outputMasks a_stamps a_users a_makers a_ranked a_atStrength a_execIds a_outputs a_feeders a_determiner a_upstream a_walk a_agenda a_peelIds a_peelVars a_plan := fun x4 hx4 =>
    pk_le so s (fun a => h64 x4 0 hx4 ⟨fun b => absurd rfl b, fun b => by omega⟩) (fun a => h64 x4 1 hx4 ⟨fun _ => a, fun _ => by decide⟩) rfl rfl (by omega) (by omega)
  refine br_c (fun a => h52 0 ⟨fun b => absurd rfl b, fun b => ?_⟩) (fun a => h52 1 ⟨fun _ => ?_, fun _ => by decide⟩)
  · rw [hb_t (by omega)] at a; exact absurd b a
  · rw [hb_t (by omega), Classical.not_not] at a; exact a
end
end
section
/-! assign -/
def uE (U : Nat → Nat → Prop) (v c w : Nat) : Prop := (c ≠ 21 ∧ U c w) ∨ (c = 21 ∧ w = v)
def dE (d : Nat → Nat → (Nat → Int32) → Int32) (x : Int32) (c o : Nat) (f : Nat → Int32) : Int32 := if c = 21 then x else d c o f
def keyE (key : Nat → Nat) (x c : Nat) : Nat := if c = 21 then x else key c
theorem ue_n {U : Nat → Nat → Prop} {v c w : Nat} (h : c ≠ 21) : uE U v c w ↔ U c w := ⟨fun y => y.elim (fun y => y.2) fun y => absurd y.1 h, fun y => Or.inl ⟨h, y⟩⟩
theorem ue_1 {U : Nat → Nat → Prop} {v w : Nat} : uE U v 21 w ↔ w = v := ⟨fun y => y.elim (fun y => absurd rfl y.1) fun y => y.2, fun y => Or.inr ⟨rfl, y⟩⟩
theorem dm21 {kd K tc tv ts f : Nat → Int32} {v : Nat} (h1 : kd 21 = 1) (h2 : tc 21 = nI 1) (h3 : tv (4 * 21) = nI v) (h4 : ts (4 * 21) = 1) : dmD kd K tc tv ts 21 v f = K 21 := by
  rw [dm_q (N := 0) (q := 1) (t0 := 0) (by omega) h2 (by omega) (by rw [Nat.add_zero]; exact h3) (fun t ht hne => by omega)]
  unfold dmV
  rw [if_pos h1, Nat.add_zero, h4, h1, dm_one, if_neg (by decide), Int32.one_mul]
theorem ev21 {N : Nat} {kd tc tv : Nat → Int32} {v : Nat} (hv : v < N) (h1 : kd 21 = 1) (h2 : tc 21 = nI 1) (h3 : tv (4 * 21) = nI v) : EvOK N kd tc tv 21 v :=
  ⟨by omega, hv, Or.inr (Or.inl h1), 1, 0, by omega, h2, by omega, by rw [Nat.add_zero]; exact h3, fun t ht => ⟨v, hv, by rw [show t = 0 by omega, Nat.add_zero]; exact h3⟩, fun t ht hne => by omega, fun _ => rfl⟩
section
variable {f_draftId f_editId f_firstStay f_n f_m f_allVariables f_live f_liveCount f_marked f_draftOpen f_enforced f_execCount f_walkKnown f_peelCount f_planCount : Int32} {f_nextStamp : Int64} {a_values a_before a_kinds a_strengths a_constants a_termCounts a_termVars a_termSigns a_termModes a_variableMasks a_outputMasks a_users a_makers a_ranked a_atStrength a_execIds a_outputs a_feeders a_determiner a_upstream a_walk a_agenda a_peelIds a_peelVars a_plan : Nat → Int32} {a_stamps : Nat → Int64}
variable {g_n g_m g_planLen : Int32} {g_clock : Int64} {b_cKind b_cStrength b_cK b_cCount b_tVar b_tSign b_tMode b_here b_marked b_out b_inSet b_left b_last b_passed b_was b_member b_val b_old b_known b_plan : Nat → Int32} {b_born : Nat → Int64}
variable {N M L q p : Nat}
theorem xl_a101 (hn : f_n = nI N) (hN : N ≤ 10) (R : RX N a_termCounts a_termVars a_termModes a_variableMasks a_outputMasks a_users a_makers) (post : Int32 → SX → Prop) {S : Nat → Prop} {v0 : Nat → Int32} (hp : p ≤ N)
    (F : Fps (UX N a_users) (UX N a_makers) S p (fun i => tn (a_peelIds (p - 1 - i))) (fun i => tn (a_peelVars (p - 1 - i)))) (hs : ∀ v, v < N → ∃ i, i < p ∧ (fun i => tn (a_peelVars (p - 1 - i))) i = v)
    (hx : ∀ i, i < p → a_peelIds i = nI (tn (a_peelIds i)) ∧ a_peelVars i = nI (tn (a_peelVars i))) (hev : ∀ i, i < p → EvOK N a_kinds a_termCounts a_termVars (tn (a_peelIds i)) (tn (a_peelVars i)))
    (H : ∀ val, VI (fun i => tn (a_peelIds (p - 1 - i))) (fun i => tn (a_peelVars (p - 1 - i))) (dmD a_kinds a_constants a_termCounts a_termVars a_termSigns) v0 p val → wpX_clearTerms (fun u => match u with | (f_draftId, f_editId, f_firstStay, f_n, f_m, f_allVariables, f_nextStamp, f_live, f_liveCount, f_marked, f_draftOpen, f_enforced, f_execCount, f_walkKnown, f_peelCount, f_planCount, a_values, a_before, a_kinds, a_strengths, a_constants, a_termCounts, a_termVars, a_termSigns, a_termModes, a_variableMasks, a_outputMasks, a_stamps, a_users, a_makers, a_ranked, a_atStrength, a_execIds, a_outputs, a_feeders, a_determiner, a_upstream, a_walk, a_agenda, a_peelIds, a_peelVars, a_plan) => wpX_update (fun u => match u with | (f_draftId, f_editId, f_firstStay, f_n, f_m, f_allVariables, f_nextStamp, f_live, f_liveCount, f_marked, f_draftOpen, f_enforced, f_execCount, f_walkKnown, f_peelCount, f_planCount, a_values, a_before, a_kinds, a_strengths, a_constants, a_termCounts, a_termVars, a_termSigns, a_termModes, a_variableMasks, a_outputMasks, a_stamps, a_users, a_makers, a_ranked, a_atStrength, a_execIds, a_outputs, a_feeders, a_determiner, a_upstream, a_walk, a_agenda, a_peelIds, a_peelVars, a_plan) => post 1 (f_draftId, f_editId, f_firstStay, f_n, f_m, f_allVariables, f_nextStamp, f_live, f_liveCount, f_marked, f_draftOpen, f_enforced, f_execCount, f_walkKnown, f_peelCount, -1, a_values, a_before, a_kinds, a_strengths, a_constants, a_termCounts, a_termVars, a_termSigns, a_termModes, a_variableMasks, a_outputMasks, a_stamps, a_users, a_makers, a_ranked, a_atStrength, a_execIds, a_outputs, a_feeders, a_determiner, a_upstream, a_walk, a_agenda, a_peelIds, a_peelVars, a_plan)) (f_draftId, f_editId, f_firstStay, f_n, f_m, f_allVariables, f_nextStamp, f_live, f_liveCount, f_marked, f_draftOpen, f_enforced, f_execCount, f_walkKnown, f_peelCount, f_planCount, a_values, a_before, a_kinds, a_strengths, a_constants, a_termCounts, a_termVars, a_termSigns, a_termModes, a_variableMasks, a_outputMasks, a_stamps, a_users, a_makers, a_ranked, a_atStrength, a_execIds, a_outputs, a_feeders, a_determiner, a_upstream, a_walk, a_agenda, a_peelIds, a_peelVars, a_plan)) (f_draftId, f_editId, f_firstStay, f_n, f_m, f_allVariables, f_nextStamp, f_live, f_liveCount, f_marked, f_draftOpen, f_enforced, f_execCount, f_walkKnown, f_peelCount, f_planCount, val, a_before, a_kinds, a_strengths, a_constants, a_termCounts, a_termVars, a_termSigns, a_termModes, a_variableMasks, a_outputMasks, a_stamps, a_users, a_makers, a_ranked, a_atStrength, a_execIds, a_outputs, a_feeders, a_determiner, a_upstream, a_walk, a_agenda, a_peelIds, a_peelVars, a_plan) 21) :
    ∀ d val fuel, d ≤ p → d < fuel → VI (fun i => tn (a_peelIds (p - 1 - i))) (fun i => tn (a_peelVars (p - 1 - i))) (dmD a_kinds a_constants a_termCounts a_termVars a_termSigns) v0 (p - d) val → wX_assign_101 post fuel (nI d + (-1)) f_draftId f_editId f_firstStay f_n f_m f_allVariables f_nextStamp f_live f_liveCount f_marked f_draftOpen f_enforced f_execCount f_walkKnown f_peelCount f_planCount val a_before a_kinds a_strengths a_constants a_termCounts a_termVars a_termSigns a_termModes a_variableMasks a_outputMasks a_stamps a_users a_makers a_ranked a_atStrength a_execIds a_outputs a_feeders a_determiner a_upstream a_walk a_agenda a_peelIds a_peelVars a_plan := by
  intro d
  induction d with
  | zero =>
    intro val fuel hd hf h
    cases fuel with
    | zero => omega
    | succ fuel => exact br_t (by decide) (H val h)
  | succ d ih =>
    intro val fuel hd hf h
    cases fuel with
    | zero => omega
    | succ fuel =>
      rw [pk_m1]
      have ed : (nI d).toNatClampNeg = d := nI_clamp (by omega)
      have vd : vp_in (nI d) 32 := vp_in_nI (by omega) (by omega)
      refine br_f (nI_pos (by omega)) (And.intro vd (And.intro vd ?_))
      rw [ed, (hx d (by omega)).1, (hx d (by omega)).2]
      have st := vi_step F (rx_rp hN R).1 (fun c v h => h.1) hs (fun i hi f g hf => dm_us hN R (hev (p - 1 - i) (by omega)) f g hf) (show p - (d + 1) < p by omega) h
      have e1 : p - 1 - (p - (d + 1)) = d := by omega
      rw [show p - (d + 1) + 1 = p - d by omega] at st
      have st' : VI (fun i => tn (a_peelIds (p - 1 - i))) (fun i => tn (a_peelVars (p - 1 - i))) (dmD a_kinds a_constants a_termCounts a_termVars a_termSigns) v0 (p - d) (upd val (tn (a_peelVars (p - 1 - (p - (d + 1))))) (dmD a_kinds a_constants a_termCounts a_termVars a_termSigns (tn (a_peelIds (p - 1 - (p - (d + 1))))) (tn (a_peelVars (p - 1 - (p - (d + 1))))) val)) := st
      rw [e1] at st'
      refine xs_run hn hN _ (hev d (by omega)) ?_
      exact nm_e (ih _ fuel (by omega) (by omega) st')
/-- what the choice with the edit gives, in terms of the state before -/
def EdF (N : Nat) (us mk : Nat → Nat → Prop) (key : Nat → Nat) (kx : Nat) (D : Nat → Prop) (v : Nat) (dd : Nat → Nat → (Nat → Int32) → Int32) (x : Int32) (v0 val : Nat → Int32) (Ch : Nat → Prop) (p : Nat) (xs os : Nat → Nat) : Prop :=
  Chs (uE us v) (uE mk v) (keyE key kx) (fun c => D c ∨ c = 21) Ch ∧ Fps (uE us v) (uE mk v) Ch p xs os ∧ p ≤ N ∧ (∀ w, w < N → ∃ i, i < p ∧ os i = w) ∧ Evl p xs os (dE dd x) v0 val
theorem xr_assign (D : DIM N M f_n f_m f_allVariables g_n g_m) (S : STR N M L q f_live f_marked f_draftOpen f_liveCount f_nextStamp g_clock a_kinds a_strengths a_constants a_termCounts a_termVars a_termSigns a_termModes a_variableMasks a_outputMasks a_users a_makers a_ranked a_atStrength a_stamps b_cKind b_cStrength b_cK b_cCount b_tVar b_tSign b_tMode b_born b_here b_marked) (E : EPR N f_live f_enforced f_execCount f_walkKnown a_strengths a_stamps a_users a_makers a_execIds a_outputs a_feeders a_determiner a_upstream a_walk b_out) (hq : q ≤ 2050) {v s sw : Nat} (hv : v < N) (hs : s < 7) (hw : WkV (UX N a_users) (UX N a_makers) f_enforced a_strengths v sw) (hlt : s < sw) (x : Int32) (post : Int32 → SX → Prop)
    (H : ∀ wkn pc wk ag pi pv tc' tv' ts' tm' vm' om' us' mk' val val2 Ch p xs os p2, EPR N f_live f_enforced f_execCount wkn a_strengths a_stamps a_users a_makers a_execIds a_outputs a_feeders a_determiner a_upstream wk b_out → RX N tc' tv' tm' vm' om' us' mk' → SmR 21 a_kinds a_strengths a_constants a_termCounts a_termVars a_termSigns a_termModes (upd a_kinds 21 1) (upd a_strengths 21 (nI s)) (upd a_constants 21 x) tc' tv' ts' tm' →
      EdF N (UX N a_users) (UX N a_makers) (keyR a_strengths a_stamps) (s * 65536 + q) (DX N f_live) v (dmD a_kinds a_constants a_termCounts a_termVars a_termSigns) x a_values val Ch p xs os → f_execCount = nI p2 → FX N (UX N a_users) (UX N a_makers) f_enforced p2 a_execIds a_outputs a_feeders a_determiner a_upstream →
      Evl p2 (fun i => tn (a_execIds i)) (fun i => tn (a_outputs (tn (a_execIds i)))) (dmD (upd a_kinds 21 1) (upd a_constants 21 x) tc' tv' ts') val val2 →
      post 1 (f_draftId, f_editId, f_firstStay, f_n, f_m, f_allVariables, f_nextStamp, f_live, f_liveCount, f_marked, f_draftOpen, f_enforced, f_execCount, wkn, pc, -1, val2, a_before, upd a_kinds 21 1, upd a_strengths 21 (nI s), upd a_constants 21 x, tc', tv', ts', tm', vm', om', a_stamps, us', mk', a_ranked, a_atStrength, a_execIds, a_outputs, a_feeders, a_determiner, a_upstream, wk, ag, pi, pv, a_plan)) : wpX_assign post (f_draftId, f_editId, f_firstStay, f_n, f_m, f_allVariables, f_nextStamp, f_live, f_liveCount, f_marked, f_draftOpen, f_enforced, f_execCount, f_walkKnown, f_peelCount, f_planCount, a_values, a_before, a_kinds, a_strengths, a_constants, a_termCounts, a_termVars, a_termSigns, a_termModes, a_variableMasks, a_outputMasks, a_stamps, a_users, a_makers, a_ranked, a_atStrength, a_execIds, a_outputs, a_feeders, a_determiner, a_upstream, a_walk, a_agenda, a_peelIds, a_peelVars, a_plan) (nI v) x (nI s) := by
  have DD := D
  obtain ⟨hn, hN2, hN, hm, hM2, hM, hall, gn, gm⟩ := D
  have hE := E.1.1
  have sw7 := hw.1
  unfold wpX_assign
  refine xs_var_t hn hN _ hv ?_
  refine br_f (by decide) ?_
  refine xs_str_t _ hs ?_
  refine br_f (by decide) ?_
  refine xr_walk DD S E hv hw _ fun wkn wk pc1 ag1 pi1 pv1 E' => ?_
  refine br_t (nI_lt hlt (by omega)) ?_
  refine xs_open (c := 21) hn hN _ (by omega) _ _ _ fun us0 mk0 hu0 hk0 => ?_
  have R0 := rx_clear S.1.1 hu0 hk0
  refine xs_add (c := 21) (q := 0) hN _ (by omega) (by omega) pk_us hv 1 1 fun us1 mk1 vm1 om1 hu1 hk1 hvm1 hom1 => ?_
  have R1 := rx_add (q := 0) (a := 21) (w := v) R0 (by omega) (by omega) hN pk_us hv (fun t ht => by omega) hu1 hk1 hvm1 hom1
  have hX1 : SmR 21 a_kinds a_strengths a_constants a_termCounts a_termVars a_termSigns a_termModes (upd a_kinds 21 1) (upd a_strengths 21 (nI s)) (upd a_constants 21 x) (upd (upd a_termCounts 21 0) 21 (nI (0 + 1))) (upd a_termVars (4 * 21 + 0) (nI v)) (upd a_termSigns (4 * 21 + 0) 1) (upd a_termModes (4 * 21 + 0) 1) := fun c hc => ⟨pk_un hc, pk_un hc, pk_un hc, by rw [pk_un hc, pk_un hc], fun t ht => ⟨pk_un (by omega), pk_un (by omega), pk_un (by omega)⟩⟩
  have S1 := s_21 S hN hM R1 hX1 sm_refl (S.1.2.2.2.1 21 (by omega))
  have dne : ∀ d, DX N f_live d → d ≠ 21 := fun d h => h.elim (fun y => by have := S.2.1.1 d y; omega) fun y => by omega
  have rs : ∀ c w, DX N f_live c → (UX N a_users c w ↔ UX N us1 c w) ∧ (UX N a_makers c w ↔ UX N mk1 c w) := fun c w hc => by
    obtain ⟨_, _, _, x4, x5⟩ := hX1 c (dne c hc)
    exact rx_same hN S.1.1 R1 x4 (fun t ht => ⟨(x5 t ht).1, (x5 t ht).2.2⟩) w
  have tc1 : tn (upd (upd a_termCounts 21 0) 21 (nI (0 + 1)) 21) = 1 := by rw [pk_us]; exact tn_nI (by decide)
  have u21 : ∀ w, UX N us1 21 w ↔ w = v := fun w => by
    rw [rx_u hN R1, tc1]
    constructor
    · rintro ⟨_, hwN, t, ht, e⟩
      have : t = 0 := by omega
      subst this
      rw [pk_us, nI_eq (by omega) (by omega)] at e
      exact e.symm
    · rintro rfl
      exact ⟨by omega, hv, 0, by omega, pk_us⟩
  have k21 : ∀ w, UX N mk1 21 w ↔ w = v := fun w => by
    rw [rx_k hN R1, tc1]
    constructor
    · rintro ⟨_, hwN, t, ht, e, _⟩
      have : t = 0 := by omega
      subst this
      rw [pk_us, nI_eq (by omega) (by omega)] at e
      exact e.symm
    · rintro rfl
      exact ⟨by omega, hv, 0, by omega, pk_us, pk_us⟩
  -- the settled part and the edit
  refine xs_upTo _ (by omega) fun pre hpre => ?_
  have hpm : ∀ d, Hb pre d ↔ Hb f_enforced d ∧ d < 20 ∧ tn (a_strengths d) ≤ s := fun d => (hpre d).trans (up_mask S hM hE hs d)
  obtain ⟨k1, k2, k3, k4⟩ := S.2.2.1
  have hLM := st_L S hM
  have stn : ∀ j, j < L → ∃ s', s' < 7 ∧ a_strengths (tn (a_ranked j)) = nI s' := fun j hj => S.1.2.2.2.2.1 _ (Or.inl (k2 j hj).1)
  have stk : ∀ j, j < L → upd a_strengths 21 (nI s) (tn (a_ranked j)) = a_strengths (tn (a_ranked j)) := fun j hj => pk_un (dne _ (Or.inl (k2 j hj).1))
  refine xs_rank (L := L) (rk := fun j => tn (a_ranked j)) k1 (by omega) (fun j hj => ⟨hb_lt (k2 j hj).1, (k2 j hj).2⟩) (fun j hj => ?_) (fun i j hij hj => ?_) _ (by omega) fun r hrL hrk => ?_
  · show tn (upd a_strengths 21 (nI s) (tn (a_ranked j))) < 8 ∧ upd a_strengths 21 (nI s) (tn (a_ranked j)) = nI (tn (upd a_strengths 21 (nI s) (tn (a_ranked j))))
    obtain ⟨s', hs', es'⟩ := stn j hj
    rw [stk j hj, es', tn_nI (by omega)]
    exact ⟨by omega, rfl⟩
  · show tn (upd a_strengths 21 (nI s) (tn (a_ranked i))) ≤ tn (upd a_strengths 21 (nI s) (tn (a_ranked j)))
    rw [stk i (by omega), stk j hj]
    have hlt := k4 i j hij hj
    obtain ⟨s1, hs1, es1⟩ := stn i (by omega)
    obtain ⟨s2, hs2, es2⟩ := stn j hj
    obtain ⟨b1, hb1, eb1, _⟩ := S.2.2.2.2.2.2.1 _ (k2 i (by omega)).1
    obtain ⟨b2, hb2, eb2, _⟩ := S.2.2.2.2.2.2.1 _ (k2 j hj).1
    have i20 := S.2.1.1 _ (k2 i (show i < L by omega)).1
    have j20 := S.2.1.1 _ (k2 j hj).1
    unfold keyR at hlt
    rw [if_pos (by omega), if_pos (by omega), es1, es2, eb1, eb2, tn_nI (by omega), tn_nI (by omega), ln_lN (by omega), ln_lN (by omega)] at hlt
    rw [es1, es2, tn_nI (by omega), tn_nI (by omega)]
    omega
  have hrk' : ∀ j, j < L → (tn (a_strengths (tn (a_ranked j))) ≤ s ↔ j < r) := fun j hj => by
    have := hrk j hj
    rw [stk j hj] at this
    exact this
  have kvs := fun d (hd : DX N f_live d) => key_vs S hM hq hs hd
  have kE1 : keyE (keyR a_strengths a_stamps) (s * 65536 + q) 21 = s * 65536 + q := if_pos rfl
  have kEn : ∀ d, DX N f_live d → keyE (keyR a_strengths a_stamps) (s * 65536 + q) d = keyR a_strengths a_stamps d := fun d hd => if_neg (dne d hd)
  have hb21 : ∀ d, Hb (pre ||| 2097152) d ↔ Hb pre d ∨ d = 21 := fun d => by
    rw [hb_or, show (2097152 : Int32) = (1 : Int32) <<< (nI 21 &&& 31) from by decide, hb_one (by omega)]
  have hpE : ∀ d, Hb pre d → DX N f_live d := fun d hd => hE d ((hpm d).mp hd).1
  have hfit : Slv (UX N us1) (UX N mk1) (fun d => Hb pre d ∨ d = 21) := by
    have h0 := hw.2.1 s hlt hs
    have h1 := (sv_eq (S := fun d => (Hb f_enforced d ∧ d < 20 ∧ tn (a_strengths d) ≤ s) ∨ d = 22 + v) (S' := fun d => Hb pre d ∨ d = 22 + v) fun d => ⟨fun h => h.imp (hpm d).mpr id, fun h => h.imp (hpm d).mp id⟩).mp h0
    exact sv_ren (fun h => by have := ((hpm _).mp h).2.1; omega) (fun h => dne _ (hpE _ h) rfl) (fun d w hd => (rs d w (hpE d hd)).1) (fun d w hd => (rs d w (hpE d hd)).2) (fun w => ((st_stay S hN hv).2 w).trans (u21 w).symm) (fun w => ((st_stay S hN hv).1 w).trans (k21 w).symm) h1
  have hC0 : Chs (UX N us1) (UX N mk1) (keyE (keyR a_strengths a_stamps) (s * 65536 + q)) (DX N f_live) (Hb f_enforced) :=
    ch_congr E.1 (fun _ => Iff.rfl) (fun _ => Iff.rfl) (fun d y hd hy => by rw [kEn d hd, kEn y hy]) (fun d w hd => (rs d w hd).1) (fun d w hd => (rs d w hd).2)
  have hp : ∀ d, (∃ j, j < r ∧ d = tn (a_ranked j)) ↔ (DX N f_live d ∧ d < 20 ∧ tn (a_strengths d) ≤ s) := fun d => by
    constructor
    · rintro ⟨j, hj, e⟩
      have hl := (k2 j (by omega)).1
      rw [← e] at hl
      exact ⟨Or.inl hl, by have := S.2.1.1 d hl; omega, by rw [e]; exact (hrk' j (by omega)).mpr hj⟩
    · rintro ⟨hd, h20, hle⟩
      have hl : Hb f_live d := hd.elim id fun y => absurd y.1 (by omega)
      obtain ⟨j, hj, e⟩ := k3 d hl
      exact ⟨j, (hrk' j hj).mp (by rw [e]; exact hle), e.symm⟩
  have s1 : Chs (UX N us1) (UX N mk1) (keyE (keyR a_strengths a_stamps) (s * 65536 + q)) (fun d => ∃ j, j < r ∧ d = tn (a_ranked j)) (fun d => Hb f_enforced d ∧ ∃ j, j < r ∧ d = tn (a_ranked j)) :=
    ch_sub hC0 (fun d hd => ((hp d).mp hd).1) (fun d y hd hy hlt' => by
      have hd' := (hp d).mp hd
      rw [kEn d hd'.1, kEn y (hE y hy)] at hlt'
      have a := ((kvs d hd'.1).1).mpr hd'.2
      have b := ((kvs y (hE y hy)).1).mp (Nat.lt_trans hlt' a)
      exact (hp y).mpr ⟨hE y hy, b⟩)
  have e1 : ∀ d, (Hb f_enforced d ∧ ∃ j, j < r ∧ d = tn (a_ranked j)) ↔ Hb pre d := fun d => by
    rw [hpm d, hp d]
    exact ⟨fun h => ⟨h.1, h.2.2⟩, fun h => ⟨h.1, hE d h.1, h.2⟩⟩
  have s2 := ch_yes (a := 21) s1 (fun d hd => by
    have hd' := (hp d).mp hd
    rw [kEn d hd'.1, kE1]
    exact ((kvs d hd'.1).1).mpr hd'.2) ((sv_eq fun d => ⟨fun h => h.imp (e1 d).mpr id, fun h => h.imp (e1 d).mp id⟩).mp hfit)
  have s3 : Chs (UX N us1) (UX N mk1) (keyE (keyR a_strengths a_stamps) (s * 65536 + q)) (fun d => (∃ j, j < r ∧ d = tn (a_ranked j)) ∨ d = 21) (Hb (pre ||| 2097152)) :=
    ch_congr s2 (fun _ => Iff.rfl) (fun d => by rw [hb21 d]; exact ⟨fun h => h.imp (e1 d).mp id, fun h => h.imp (e1 d).mpr id⟩) (fun _ _ _ _ => Iff.rfl) (fun _ _ _ => Iff.rfl) (fun _ _ _ => Iff.rfl)
  have kst : ∀ w, w < N → keyE (keyR a_strengths a_stamps) (s * 65536 + q) (22 + w) = keyR a_strengths a_stamps (22 + w) := fun w hwN => kEn _ (Or.inr ⟨by omega, by omega⟩)
  have ka : ∀ j, j < L → keyE (keyR a_strengths a_stamps) (s * 65536 + q) (tn (a_ranked j)) = keyR a_strengths a_stamps (tn (a_ranked j)) := fun j hj => kEn _ (Or.inl (k2 j hj).1)
  have k21w : ∀ w, w < N → s * 65536 + q < keyR a_strengths a_stamps (22 + w) := fun w hwN => by
    unfold keyR
    rw [if_neg (by omega)]
    omega
  refine xs_choose (key := keyE (keyR a_strengths a_stamps) (s * 65536 + q)) (D := fun d => (∃ j, j < r ∧ d = tn (a_ranked j)) ∨ d = 21) (rk := fun j => tn (a_ranked j)) hn hN hall R1 _ k1 (by omega) hrL (fun j hj => ⟨hb_lt (k2 j hj).1, (k2 j hj).2⟩) (fun d hd j g3 g4 => ?_) (fun i j hij hj => ?_) (fun d hd w hwN => ?_) (fun j hj w hwN => ?_) (fun a b hab hb => ?_) s3 ((sv_eq hb21).mpr hfit) fun ch pc2 ag2 pi2 pv2 hCh hSl => ?_
  · show keyE (keyR a_strengths a_stamps) (s * 65536 + q) d < keyE (keyR a_strengths a_stamps) (s * 65536 + q) (tn (a_ranked j))
    rw [ka j g4]
    rcases hd with ⟨i, hi, e⟩ | e
    · rw [e, ka i (by omega)]
      exact k4 i j (by omega) g4
    · rw [e, kE1]
      obtain ⟨v1, v2⟩ := kvs _ (Or.inl (k2 j g4).1)
      rcases Nat.lt_trichotomy (s * 65536 + q) (keyR a_strengths a_stamps (tn (a_ranked j))) with y | y | y
      · exact y
      · exact absurd y.symm v2
      · have := (hrk' j g4).mp (v1.mp y).2
        omega
  · show keyE (keyR a_strengths a_stamps) (s * 65536 + q) (tn (a_ranked i)) < keyE (keyR a_strengths a_stamps) (s * 65536 + q) (tn (a_ranked j))
    rw [ka i (by omega), ka j hj]
    exact k4 i j hij hj
  · rw [kst w hwN]
    rcases hd with ⟨i, hi, e⟩ | e
    · rw [e, ka i (by omega)]
      exact st_kl S hM hq (k2 i (by omega)).1
    · rw [e, kE1]
      exact k21w w hwN
  · show keyE (keyR a_strengths a_stamps) (s * 65536 + q) (tn (a_ranked j)) < keyE (keyR a_strengths a_stamps) (s * 65536 + q) (22 + w)
    rw [kst w hwN, ka j hj]
    exact st_kl S hM hq (k2 j hj).1
  · rw [kst a (by omega), kst b hb]
    exact k_st hab
  -- the whole choice
  have hDf : ∀ d, (((∃ j, j < r ∧ d = tn (a_ranked j)) ∨ d = 21) ∨ ∃ j, r ≤ j ∧ j < L ∧ d = tn (a_ranked j)) ∨ (∃ w, w < N ∧ d = 22 + w) ↔ DX N f_live d ∨ d = 21 := fun d => by
    constructor
    · rintro (((⟨j, hj, e⟩ | e) | ⟨j, g3, g4, e⟩) | ⟨w, hwN, e⟩)
      · exact Or.inl (Or.inl (e ▸ (k2 j (by omega)).1))
      · exact Or.inr e
      · exact Or.inl (Or.inl (e ▸ (k2 j g4).1))
      · exact Or.inl (Or.inr ⟨by omega, by omega⟩)
    · rintro ((h | h) | h)
      · obtain ⟨j, hj, e⟩ := k3 d h
        rcases Nat.lt_or_ge j r with a | a
        · exact Or.inl (Or.inl (Or.inl ⟨j, a, e.symm⟩))
        · exact Or.inl (Or.inr ⟨j, a, hj, e.symm⟩)
      · exact Or.inr ⟨d - 22, by omega, by omega⟩
      · exact Or.inl (Or.inl (Or.inr h))
  have hChD : Chs (UX N us1) (UX N mk1) (keyE (keyR a_strengths a_stamps) (s * 65536 + q)) (fun d => DX N f_live d ∨ d = 21) (Hb ch) := ch_congr hCh hDf (fun _ => Iff.rfl) (fun _ _ _ _ => Iff.rfl) (fun _ _ _ => Iff.rfl) (fun _ _ _ => Iff.rfl)
  refine xs_peel hn hN (rx_rp hN R1) _ (fun w h => (hall w).mp h) (fun w hwN hno => absurd ((hall w).mpr hwN) hno) fun rest p3 ag3 pi3 pv3 hP hstk hp3 => ?_
  have e0 := (pe_slv hP hstk).mpr hSl
  subst e0
  have F3 := pe_fps hP
  have sur : ∀ w, w < N → ∃ i, i < p3 ∧ (fun i => tn (pv3 (p3 - 1 - i))) i = w := fun w hwN => fp_cmp F3 (ch_max hChD (Or.inl (Or.inr ⟨by omega, by omega⟩))) (fun y => (((rs (22 + w) y (Or.inr ⟨by omega, by omega⟩)).2).symm.trans ((st_stay S hN hwN).1 y))) (fun y hy => ((st_stay S hN hwN).2 y).mp (((rs (22 + w) y (Or.inr ⟨by omega, by omega⟩)).1).mpr hy))
  refine nm_r (e' := nI p3 + (-1)) (Int32.sub_eq_add_neg _ _) (Exists.intro (p3 + 1) ?_)
  have hmem : ∀ i, i < p3 → DX N f_live (tn (pi3 i)) ∨ tn (pi3 i) = 21 := fun i hi => hChD.1 _ (hP.1 i hi).1
  have hev3 : ∀ i, i < p3 → EvOK N (upd a_kinds 21 1) (upd (upd a_termCounts 21 0) 21 (nI (0 + 1))) (upd a_termVars (4 * 21 + 0) (nI v)) (tn (pi3 i)) (tn (pv3 i)) := fun i hi => by
    rcases hmem i hi with h | h
    · exact ev_X S1 hN (dx_vd h) (hP.1 i hi).2.2.1
    · have hmk := (hP.1 i hi).2.2.1
      rw [h] at hmk ⊢
      rw [(k21 _).mp hmk]
      exact ev21 hv pk_us pk_us pk_us
  refine xl_a101 hn hN R1 post (v0 := a_values) hp3 F3 sur (fun i hi => ⟨(hP.1 i hi).2.2.2.1, (hP.1 i hi).2.2.2.2⟩) hev3 (fun val hVI => ?_) p3 a_values (p3 + 1) (Nat.le_refl _) (by omega) (by rw [Nat.sub_self]; exact ⟨fun j hj => by omega, fun _ _ => rfl⟩)
  refine xs_clear (c := 21) hn hN _ (by omega) fun us2 mk2 hu2 hk2 => ?_
  have R2 := rx_clear R1 hu2 hk2
  have hX2 : SmR 21 a_kinds a_strengths a_constants a_termCounts a_termVars a_termSigns a_termModes (upd a_kinds 21 1) (upd a_strengths 21 (nI s)) (upd a_constants 21 x) (upd (upd (upd a_termCounts 21 0) 21 (nI (0 + 1))) 21 0) (upd a_termVars (4 * 21 + 0) (nI v)) (upd a_termSigns (4 * 21 + 0) 1) (upd a_termModes (4 * 21 + 0) 1) := fun c hc => ⟨pk_un hc, pk_un hc, pk_un hc, by rw [pk_un hc, pk_un hc, pk_un hc], fun t ht => ⟨pk_un (by omega), pk_un (by omega), pk_un (by omega)⟩⟩
  have S2 := s_21 S hN hM R2 hX2 sm_refl (S.1.2.2.2.1 21 (by omega))
  obtain ⟨p2, ep2, F2⟩ := E.2.2.2.1
  have rs2 : ∀ c w, DX N f_live c → (UX N a_users c w ↔ UX N us2 c w) ∧ (UX N a_makers c w ↔ UX N mk2 c w) := fun c w hc => by
    obtain ⟨_, _, _, x4, x5⟩ := hX2 c (dne c hc)
    exact rx_same hN S.1.1 R2 x4 (fun t ht => ⟨(x5 t ht).1, (x5 t ht).2.2⟩) w
  have F2' := fx_congr F2 (fun c w hc => (rs2 c w (hE c hc)).1) (fun c w hc => (rs2 c w (hE c hc)).2)
  refine xr_update DD S2 hE ep2 F2' _ fun val2 hev2 => ?_
  have ueU : ∀ c w, (DX N f_live c ∨ c = 21) → (UX N us1 c w ↔ uE (UX N a_users) v c w) := fun c w hc => by
    rcases hc with h | h
    · rw [ue_n (dne c h)]; exact (rs c w h).1.symm
    · subst h; rw [ue_1]; exact u21 w
  have ueK : ∀ c w, (DX N f_live c ∨ c = 21) → (UX N mk1 c w ↔ uE (UX N a_makers) v c w) := fun c w hc => by
    rcases hc with h | h
    · rw [ue_n (dne c h)]; exact (rs c w h).2.symm
    · subst h; rw [ue_1]; exact k21 w
  refine H wkn (nI p3) wk ag3 pi3 pv3 _ _ _ _ _ _ us2 mk2 val val2 (Hb ch) p3 _ _ p2 E' R2 hX2 ⟨ch_congr hChD (fun _ => Iff.rfl) (fun _ => Iff.rfl) (fun _ _ _ _ => Iff.rfl) ueU ueK, fp_congr F3 (fun _ => Iff.rfl) (fun c w hc => ueU c w (hChD.1 c hc)) (fun c w hc => ueK c w (hChD.1 c hc)), hp3, sur, fun i hi => ?_⟩ ep2 F2 hev2
  rw [hVI.1 i hi]
  have hi' : p3 - 1 - i < p3 := by omega
  show dmD (upd a_kinds 21 1) (upd a_constants 21 x) (upd (upd a_termCounts 21 0) 21 (nI (0 + 1))) (upd a_termVars (4 * 21 + 0) (nI v)) (upd a_termSigns (4 * 21 + 0) 1) (tn (pi3 (p3 - 1 - i))) (tn (pv3 (p3 - 1 - i))) _ = dE (dmD a_kinds a_constants a_termCounts a_termVars a_termSigns) x (tn (pi3 (p3 - 1 - i))) (tn (pv3 (p3 - 1 - i))) _
  rcases hmem _ hi' with h | h
  · have hne := dne _ h
    unfold dE
    rw [if_neg hne]
    obtain ⟨y1, y2, y3, y4, y5⟩ := hX1 _ hne
    have h4 := st_tc S (c := tn (pi3 (p3 - 1 - i))) (hb_lt (hP.1 _ hi').1)
    exact dm_congr (hev3 _ hi') y1 y3 y4 (fun t ht => by rw [y4] at ht; exact ⟨(y5 t (by omega)).1, (y5 t (by omega)).2.1⟩) (fun w _ => rfl) hN
  · have hmk := (hP.1 _ hi').2.2.1
    rw [h] at hmk ⊢
    rw [(k21 _).mp hmk]
    unfold dE
    rw [if_pos rfl, dm21 pk_us pk_us pk_us pk_us, pk_us]
end
end
section
/-! assign: the reference and the call -/
section
variable {f_draftId f_editId f_firstStay f_n f_m f_allVariables f_live f_liveCount f_marked f_draftOpen f_enforced f_execCount f_walkKnown f_peelCount f_planCount : Int32} {f_nextStamp : Int64} {a_values a_before a_kinds a_strengths a_constants a_termCounts a_termVars a_termSigns a_termModes a_variableMasks a_outputMasks a_users a_makers a_ranked a_atStrength a_execIds a_outputs a_feeders a_determiner a_upstream a_walk a_agenda a_peelIds a_peelVars a_plan : Nat → Int32} {a_stamps : Nat → Int64}
variable {g_n g_m g_planLen : Int32} {g_clock : Int64} {b_cKind b_cStrength b_cK b_cCount b_tVar b_tSign b_tMode b_here b_marked b_out b_inSet b_left b_last b_passed b_was b_member b_val b_old b_known b_plan : Nat → Int32} {b_born : Nat → Int64}
variable {N M L q p : Nat}
theorem yr_assign (D : DIM N M f_n f_m f_allVariables g_n g_m) (S : STR N M L q f_live f_marked f_draftOpen f_liveCount f_nextStamp g_clock a_kinds a_strengths a_constants a_termCounts a_termVars a_termSigns a_termModes a_variableMasks a_outputMasks a_users a_makers a_ranked a_atStrength a_stamps b_cKind b_cStrength b_cK b_cCount b_tVar b_tSign b_tMode b_born b_here b_marked) (E : EPR N f_live f_enforced f_execCount f_walkKnown a_strengths a_stamps a_users a_makers a_execIds a_outputs a_feeders a_determiner a_upstream a_walk b_out) (hq : q ≤ 2050) {v s sw : Nat} (hv : v < N) (hs : s < 7) (hw : WkV (UX N a_users) (UX N a_makers) f_enforced a_strengths v sw) (hlt : s < sw) {x : Int32} {v0 val : Nat → Int32} {Ch : Nat → Prop} {p2 : Nat} {xs os : Nat → Nat} (h6 : ∀ w, w < N → v0 w = b_val w)
    (hEd : EdF N (UX N a_users) (UX N a_makers) (keyR a_strengths a_stamps) (s * 65536 + q) (DX N f_live) v (dmD a_kinds a_constants a_termCounts a_termVars a_termSigns) x v0 val Ch p xs os)
    (F2 : FX N (UX N a_users) (UX N a_makers) f_enforced p2 a_execIds a_outputs a_feeders a_determiner a_upstream) (post : Int32 → SY → Prop)
    (H : ∀ ck' cs' cK' cC' tV' tS' tM' out inS pa le la val' val2' kn, SmR 21 b_cKind b_cStrength b_cK b_cCount b_tVar b_tSign b_tMode ck' cs' cK' cC' tV' tS' tM' → (∃ q, q ≤ 4 ∧ cC' 21 = nI q) → (∀ w, w < N → val w = val' w) → (∀ c, c < 32 → out c = a_outputs c) →
      Evl p2 (fun i => tn (a_execIds i)) (fun i => tn (a_outputs (tn (a_execIds i)))) (dmD ck' cK' cC' tV' tS') val' val2' →
      post 1 (g_n, g_m, -7, g_clock, ck', cs', cK', cC', tV', tS', tM', vp_updL b_born 21 g_clock, b_here, b_marked, out, inS, le, la, pa, b_was, b_member, val2', b_old, kn, b_plan)) : wpY_assign post (g_n, g_m, g_planLen, g_clock, b_cKind, b_cStrength, b_cK, b_cCount, b_tVar, b_tSign, b_tMode, b_born, b_here, b_marked, b_out, b_inSet, b_left, b_last, b_passed, b_was, b_member, b_val, b_old, b_known, b_plan) (nI v) x (nI s) := by
  have DD := D
  obtain ⟨hn, hN2, hN, hm, hM2, hM, hall, gn, gm⟩ := D
  have sw7 := hw.1
  have hE := E.1.1
  refine br_f (nI_pos (by omega)) (br_f (by rw [gn]; exact nI_ge hv (by omega)) (br_f (nI_pos (by omega)) (br_t (nI_le (b := 6) (by omega) (by decide)) ?_)))
  refine yr_walk DD S E hv hw _ fun inS0 le0 la0 => ?_
  refine br_t (nI_lt hlt (by omega)) ?_
  refine ys_single (c := 21) _ (by omega) _ _ _ _ ?_
  -- the reference's records with the temporary one
  have hY : SmR 21 b_cKind b_cStrength b_cK b_cCount b_tVar b_tSign b_tMode (upd (upd b_cKind 21 0) 21 1) (upd (upd b_cStrength 21 7) 21 (nI s)) (upd (upd b_cK 21 0) 21 x) (upd (upd b_cCount 21 1) 21 1) (upd (upd b_tVar (4 * 21) (nI v)) (4 * 21) (nI v)) (upd (upd b_tSign (4 * 21) 1) (4 * 21) 1) (upd (upd b_tMode (4 * 21) 1) (4 * 21) 1) :=
    fun c hc => ⟨by rw [pk_un hc, pk_un hc], by rw [pk_un hc, pk_un hc], by rw [pk_un hc, pk_un hc], by rw [pk_un hc, pk_un hc], fun t ht => ⟨by rw [pk_un (by omega), pk_un (by omega)], by rw [pk_un (by omega), pk_un (by omega)], by rw [pk_un (by omega), pk_un (by omega)]⟩⟩
  have S1 := s_21 S hN hM S.1.1 sm_refl hY ⟨1, by omega, pk_us⟩
  have c21 : upd (upd b_cCount 21 1) 21 1 21 = nI 1 := pk_us
  have t21 : upd (upd b_tVar (4 * 21) (nI v)) (4 * 21) (nI v) (4 * 21) = nI v := pk_us
  have m21 : upd (upd b_tMode (4 * 21) 1) (4 * 21) 1 (4 * 21) = 1 := pk_us
  have g21 : upd (upd b_tSign (4 * 21) 1) (4 * 21) 1 (4 * 21) = 1 := pk_us
  have kd21 : upd (upd b_cKind 21 0) 21 1 21 = 1 := pk_us
  have K21 : upd (upd b_cK 21 0) 21 x 21 = x := pk_us
  have cs21 : upd (upd b_cStrength 21 7) 21 (nI s) 21 = nI s := pk_us
  generalize upd (upd b_cKind 21 0) 21 1 = ck1 at *
  generalize upd (upd b_cStrength 21 7) 21 (nI s) = cs1 at *
  generalize upd (upd b_cK 21 0) 21 x = cK1 at *
  generalize upd (upd b_cCount 21 1) 21 1 = cC1 at *
  generalize upd (upd b_tVar (4 * 21) (nI v)) (4 * 21) (nI v) = tV1 at *
  generalize upd (upd b_tSign (4 * 21) 1) (4 * 21) 1 = tS1 at *
  generalize upd (upd b_tMode (4 * 21) 1) (4 * 21) 1 = tM1 at *
  have tc1 : tn (cC1 21) = 1 := by rw [c21]; exact tn_nI (by decide)
  have u21 : ∀ w, UY N cC1 tV1 21 w ↔ w = v := fun w => by
    unfold UY
    rw [tc1]
    constructor
    · rintro ⟨hwN, t, ht, e⟩
      have : t = 0 := by omega
      subst this
      rw [Nat.add_zero, t21, nI_eq (by omega) (by omega)] at e
      exact e.symm
    · rintro rfl
      exact ⟨hv, 0, by omega, t21⟩
  have k21 : ∀ w, MY N cC1 tV1 tM1 21 w ↔ w = v := fun w => by
    constructor
    · exact fun h => (u21 w).mp (ky_uy h)
    · rintro rfl
      exact ⟨hv, 0, by rw [tc1]; omega, t21, m21⟩
  have R21 : RY N cC1 tV1 21 := ⟨by omega, by rw [tc1]; omega, by rw [tc1]; exact c21, fun t ht => by
    rw [tc1] at ht
    have : t = 0 := by omega
    subst this
    exact ⟨v, hv, t21⟩⟩
  have dne : ∀ d, DX N f_live d → d ≠ 21 := fun d h => h.elim (fun y => by have := S.2.1.1 d y; omega) fun y => by omega
  have ueU : ∀ c w, (DX N f_live c ∨ c = 21) → (uE (UX N a_users) v c w ↔ UY N cC1 tV1 c w) := fun c w hc => by
    rcases hc with h | h
    · rw [ue_n (dne c h)]; exact st_u S1 hN (dx_vd h)
    · subst h; rw [ue_1]; exact (u21 w).symm
  have ueK : ∀ c w, (DX N f_live c ∨ c = 21) → (uE (UX N a_makers) v c w ↔ MY N cC1 tV1 tM1 c w) := fun c w hc => by
    rcases hc with h | h
    · rw [ue_n (dne c h)]; exact st_m S1 hN (dx_vd h)
    · subst h; rw [ue_1]; exact (k21 w).symm
  obtain ⟨k1, k2, k3, k4⟩ := x_key S1 hN hM hq (Or.inr rfl) hs (cs := cs1) (fun _ _ => rfl) cs21
  have xD := x_D S1 hN hM (e := 21) (Or.inr rfl)
  refine ys_chooseX (e := 21) _ (by omega) (fun c hc => ?_) (fun c d hc hd e => ?_) hN S1.1.2.2.2.1 fun C out inS pa le la O => ?_
  · rcases (xD c).mp hc with a | a
    · obtain ⟨s', b, g1, g2, g3, g4⟩ := st_SB S1 hN hM hq a
      exact ⟨st_RY S1 hN (dx_vd a), s', b, g1, g2, g3, by rw [pk_uLn (dne c a)]; exact g4⟩
    · subst a
      exact ⟨R21, s, q, by omega, by omega, cs21, by rw [pk_uLs]; exact S.2.2.2.2.2.1⟩
  · rcases (xD c).mp hc with a | a
    · rcases (xD d).mp hd with b | b
      · rw [k1 c a, k1 d b] at e
        exact st_inj S1 hN hM hq a b e
      · subst b
        rw [k1 c a, k2] at e
        exact absurd e (k4 c a)
    · rcases (xD d).mp hd with b | b
      · subst a
        rw [k1 d b, k2] at e
        exact absurd e.symm (k4 d b)
      · rw [a, b]
  obtain ⟨e1, e2, e3, e4, e5⟩ := hEd
  have kE1 : keyE (keyR a_strengths a_stamps) (s * 65536 + q) 21 = s * 65536 + q := if_pos rfl
  have kEn : ∀ d, DX N f_live d → keyE (keyR a_strengths a_stamps) (s * 65536 + q) d = keyR a_strengths a_stamps d := fun d hd => if_neg (dne d hd)
  have kvs := fun d (hd : DX N f_live d) => key_vs S hM hq hs hd
  have hYc : Chs (UY N cC1 tV1) (MY N cC1 tV1 tM1) (keyY cs1 (vp_updL b_born 21 g_clock)) (DY (nI 21) b_here) Ch := by
    refine ch_congr e1 (fun c => (xD c).symm) (fun _ => Iff.rfl) (fun c d hc hd => ?_) ueU ueK
    rcases hc with a | a
    · rcases hd with b | b
      · rw [kEn c a, kEn d b, k1 c a, k1 d b]
        exact st_key S1 hN hM hq a b
      · subst b
        rw [kEn c a, kE1, k1 c a, k2]
        have q1 := (kvs c a).1
        have q2 := (kvs c a).2
        have q3 := k3 c a
        have q4 := k4 c a
        constructor
        · intro h
          rcases Nat.lt_trichotomy (keyY cs1 b_born c) (s * 65536 + q) with y | y | y
          · exact absurd (q1.mpr (q3.mp y)) (Nat.not_lt.mpr (Nat.le_of_lt h))
          · exact absurd y q4
          · exact y
        · intro h
          rcases Nat.lt_trichotomy (keyR a_strengths a_stamps c) (s * 65536 + q) with y | y | y
          · exact absurd (q3.mpr (q1.mp y)) (Nat.not_lt.mpr (Nat.le_of_lt h))
          · exact absurd y q2
          · exact y
    · subst a
      rcases hd with b | b
      · rw [kEn d b, kE1, k1 d b, k2, (kvs d b).1, k3 d b]
      · subst b
        exact ⟨fun h => absurd h (Nat.lt_irrefl _), fun h => absurd h (Nat.lt_irrefl _)⟩
  have hC : ∀ c, C c ↔ Ch c := fun c => ch_uniq O.1 hYc c
  have hCD : ∀ c, Ch c → DX N f_live c ∨ c = 21 := e1.1
  have F1 : Fps (UY N cC1 tV1) (MY N cC1 tV1 tM1) Ch p xs os := fp_congr e2 (fun _ => Iff.rfl) (fun c w hc => ueU c w (hCD c hc)) (fun c w hc => ueK c w (hCD c hc))
  have oe := out_eq O hC F1 e4 (fun _ _ => ky_uy) (fun _ _ h => h.1)
  have hevX : ∀ i, i < p → xs i ≠ 21 → EvOK N a_kinds a_termCounts a_termVars (xs i) (os i) ∧ DX N f_live (xs i) := fun i hi hne => by
    have hD := (hCD _ (e2.1 i hi).1).elim id fun y => absurd y hne
    exact ⟨ev_X S hN (dx_vd hD) ((ue_n hne).mp (e2.1 i hi).2), hD⟩
  have o21 : ∀ i, i < p → xs i = 21 → os i = v := fun i hi he => by
    have := (e2.1 i hi).2
    rw [he, ue_1] at this
    exact this
  refine ys_update (S := Ch) gn hN _ e3 F1 e4 oe (fun c hc hn' => O.2.2.2 c hc fun y => hn' ((hC c).mp y)) (fun i hi => ?_) fun val' kn hev => ?_
  · rcases Classical.em (xs i = 21) with a | a
    · rw [a, o21 i hi a]
      exact ev21 hv kd21 c21 t21
    · obtain ⟨b1, b2⟩ := hevX i hi a
      exact ev_Y S1 hN (dx_vd b2) b1
  have hvv : ∀ w, w < N → val w = val' w := by
    refine ev_uniq (us := uE (UX N a_users) v) (N := N) e2 (fun c w h => h.elim (fun y => y.2.1) fun y => by rw [y.2]; exact hv) e4 (fun i hi f g hf => ?_) h6 e5 hev
    rcases Classical.em (xs i = 21) with a | a
    · rw [a, o21 i hi a]
      unfold dE
      rw [if_pos rfl, dm21 kd21 c21 t21 g21, K21]
    · obtain ⟨b1, b2⟩ := hevX i hi a
      unfold dE
      rw [if_neg a]
      exact dm_XY S1 hN (dx_vd b2) b1 f g fun w hw' => hf w ((ue_n a).mpr hw')
  have S3 := s_born (x := g_clock) S1 hM (e := 21) (Or.inr rfl)
  refine yr_renew DD S3 hq E.1 F2 _ fun out2 inS2 pa2 le2 la2 val2' kn2 ho2 hev2 => ?_
  exact H ck1 cs1 cK1 cC1 tV1 tS1 tM1 out2 inS2 pa2 le2 la2 val' val2' kn2 hY ⟨1, by omega, c21⟩ hvv ho2 hev2
theorem i_vc_assign {k : Nat} {u : SX} {v : SY} (I : i_Rel k u v) (hk : k + 4 ≤ 2050) (v1 : Int32) (v2 : Int32) (v3 : Int32) : wpX_assign (fun r u' => wpY_assign (fun r' v' => r' = r ∧ i_Rel (k + 4) u' v') v v1 v2 v3) u v1 v2 v3 := by
  refine zz_el (P := fun u v => wpX_assign (fun r u' => wpY_assign (fun r' v' => r' = r ∧ i_Rel (k + 4) u' v') v v1 v2 v3) u v1 v2 v3) ?_ I
  intro f_draftId f_editId f_firstStay f_n f_m f_allVariables f_live f_liveCount f_marked f_draftOpen f_enforced f_execCount f_walkKnown f_peelCount f_planCount f_nextStamp a_values a_before a_kinds a_strengths a_constants a_termCounts a_termVars a_termSigns a_termModes a_variableMasks a_outputMasks a_users a_makers a_ranked a_atStrength a_execIds a_outputs a_feeders a_determiner a_upstream a_walk a_agenda a_peelIds a_peelVars a_plan a_stamps g_n g_m g_planLen g_clock b_cKind b_cStrength b_cK b_cCount b_tVar b_tSign b_tMode b_here b_marked b_out b_inSet b_left b_last b_passed b_was b_member b_val b_old b_known b_plan b_born N M L q h1 h2 h3 h4 h5 h6
  have II : i_Rel (k + 4) (f_draftId, f_editId, f_firstStay, f_n, f_m, f_allVariables, f_nextStamp, f_live, f_liveCount, f_marked, f_draftOpen, f_enforced, f_execCount, f_walkKnown, f_peelCount, f_planCount, a_values, a_before, a_kinds, a_strengths, a_constants, a_termCounts, a_termVars, a_termSigns, a_termModes, a_variableMasks, a_outputMasks, a_stamps, a_users, a_makers, a_ranked, a_atStrength, a_execIds, a_outputs, a_feeders, a_determiner, a_upstream, a_walk, a_agenda, a_peelIds, a_peelVars, a_plan) (g_n, g_m, g_planLen, g_clock, b_cKind, b_cStrength, b_cK, b_cCount, b_tVar, b_tSign, b_tMode, b_born, b_here, b_marked, b_out, b_inSet, b_left, b_last, b_passed, b_was, b_member, b_val, b_old, b_known, b_plan) := zz_mk (by omega) h2 h3 h4 h5 h6
  have DD := h2
  obtain ⟨hn, hN2, hN, hm, hM2, hM, hall, gn, gm⟩ := h2
  rcases pk_ix v1 (n := N) (by omega) with z | z | ⟨v, hv, rfl⟩
  · unfold wpX_assign
    refine xs_var_f hn _ (Or.inl z) ?_
    refine br_t rfl ?_
    exact br_t z ⟨rfl, II⟩
  · unfold wpX_assign
    refine xs_var_f hn _ (Or.inr z) ?_
    refine br_t rfl ?_
    exact br_c (fun _ => ⟨rfl, II⟩) (fun _ => br_t (by rw [gn]; exact z) ⟨rfl, II⟩)
  have v0 : ¬ nI v < 0 := nI_pos (by omega)
  have vN : ¬ g_n ≤ nI v := by rw [gn]; exact nI_ge hv (by omega)
  rcases pk_ix v3 (n := 7) (by omega) with z | z | ⟨s, hs, rfl⟩
  · unfold wpX_assign
    refine xs_var_t hn hN _ hv ?_
    refine br_f (by decide) ?_
    refine xs_str_f _ (Or.inl z) ?_
    refine br_t rfl ?_
    exact br_f v0 (br_f vN (br_t z ⟨rfl, II⟩))
  · obtain ⟨z1, z2⟩ := i_gt z (by omega)
    unfold wpX_assign
    refine xs_var_t hn hN _ hv ?_
    refine br_f (by decide) ?_
    refine xs_str_f _ (Or.inr z) ?_
    refine br_t rfl ?_
    exact br_f v0 (br_f vN (br_c (fun _ => ⟨rfl, II⟩) (fun _ => br_f z2 ⟨rfl, II⟩)))
  obtain ⟨sw, hw⟩ := wv_ex (us := UX N a_users) (mk := UX N a_makers) (E := f_enforced) (st := a_strengths) (v := v)
  have sw7 := hw.1
  rcases Nat.lt_or_ge s sw with hlt | hge
  · refine xr_assign DD h3 h4 (by omega) hv hs hw hlt v2 _ fun wkn pc wk ag pi pv tc' tv' ts' tm' vm' om' us' mk' val val2 Ch p xs os p2 E' R' hX hEd ep2 F2 hev2 => ?_
    refine yr_assign DD h3 h4 (by omega) hv hs hw hlt h6 hEd F2 _ fun ck' cs' cK' cC' tV' tS' tM' out inS pa le la val' val2' kn hY hC hvv ho hev2' => ⟨rfl, ?_⟩
    have S2 := s_born (x := g_clock) (s_21 h3 hN hM R' hX hY hC) hM (e := 21) (Or.inr rfl)
    have E2 := e_21 h3 E' hN hM R' hX
    obtain ⟨p3, ep3, F3⟩ := E2.2.2.2.1
    have e32 : p3 = p2 := by
      have a1 := F3.1
      have a2 := F2.1
      rw [ep2, nI_eq (by omega) (by omega)] at ep3
      exact ep3.symm
    subst e32
    have ev := ev_eq S2 hN E2.1.1 F3 hvv hev2 hev2'
    obtain ⟨c1, c2, c3, c4, c5, c6⟩ := E2
    exact zz_mk (by omega) DD S2 ⟨c1, c2, c3, c4, ho, c6⟩ (Or.inl ⟨rfl, rfl⟩) ev
  · unfold wpX_assign
    refine xs_var_t hn hN _ hv ?_
    refine br_f (by decide) ?_
    refine xs_str_t _ hs ?_
    refine br_f (by decide) ?_
    refine xr_walk DD h3 h4 hv hw _ fun wkn wk pc ag pi pv E' => ?_
    refine br_f (nI_nlt hge (by omega)) ?_
    refine br_f v0 (br_f vN (br_f (nI_pos (by omega)) (br_t (nI_le (b := 6) (by omega) (by decide)) ?_)))
    refine yr_walk DD h3 h4 hv hw _ fun inS le la => ?_
    refine br_f (nI_nlt hge (by omega)) ⟨rfl, ?_⟩
    have S' := s_21 h3 hN hM h3.1.1 sm_refl (sm_one (x1 := 0) (x2 := 7) (x3 := 0) (x4 := 1) (x5 := nI v) (x6 := 1) (x7 := 1)) ⟨1, by omega, pk_us⟩
    exact zz_mk (by omega) DD S' E' h5 h6
end
end
section
/-! the constructors -/
def XI (N i : Nat) (kd st K tc tv ts tm vm om us mk at_ : Nat → Int32) : Prop :=
  RX N tc tv tm vm om us mk ∧ (∀ v, v < i → kd (22 + v) = 0 ∧ st (22 + v) = 7 ∧ K (22 + v) = 0 ∧ tc (22 + v) = nI 1 ∧ tv (4 * (22 + v)) = nI v ∧ ts (4 * (22 + v)) = 1 ∧ tm (4 * (22 + v)) = 1) ∧ (∀ c, Hb (at_ 7) c ↔ 22 ≤ c ∧ c < 22 + i) ∧ ∀ s, s < 7 → at_ s = 0
def YIn (N i : Nat) (ck cs cK cC tV tS tM : Nat → Int32) (bn : Nat → Int64) (he : Nat → Int32) : Prop :=
  (∀ v, v < i → ck (22 + v) = 0 ∧ cs (22 + v) = 7 ∧ cK (22 + v) = 0 ∧ cC (22 + v) = nI 1 ∧ tV (4 * (22 + v)) = nI v ∧ tS (4 * (22 + v)) = 1 ∧ tM (4 * (22 + v)) = 1 ∧ bn (22 + v) = lN v ∧ he (22 + v) = 1) ∧ (∀ c, c < 22 ∨ 22 + i ≤ c → he c = 0) ∧ ∀ c, c < 32 → ∃ q, q ≤ 4 ∧ cC c = nI q
theorem rx_0 {N : Nat} : RX N (fun _ => 0) (fun _ => 0) (fun _ => 0) (fun _ => 0) (fun _ => 0) (fun _ => 0) (fun _ => 0) := fun c _ =>
  ⟨0, by omega, rfl, fun t ht => by omega, fun t t' _ h => by omega, fun v _ => ⟨fun h => absurd h hb_0, fun ⟨t, h, _⟩ => by omega⟩, fun v _ => ⟨fun h => absurd h hb_0, fun ⟨t, h, _⟩ => by omega⟩, fun v => ⟨fun h => absurd h hb_0, fun ⟨_, t, h, _⟩ => by omega⟩, fun v => ⟨fun h => absurd h hb_0, fun ⟨_, t, h, _⟩ => by omega⟩⟩
section
variable {f_draftId f_editId f_firstStay f_n f_m f_allVariables f_live f_liveCount f_marked f_draftOpen f_enforced f_execCount f_walkKnown f_peelCount f_planCount : Int32} {f_nextStamp : Int64} {a_values a_before a_kinds a_strengths a_constants a_termCounts a_termVars a_termSigns a_termModes a_variableMasks a_outputMasks a_users a_makers a_ranked a_atStrength a_execIds a_outputs a_feeders a_determiner a_upstream a_walk a_agenda a_peelIds a_peelVars a_plan : Nat → Int32} {a_stamps : Nat → Int64}
variable {g_n g_m g_planLen : Int32} {g_clock : Int64} {b_cKind b_cStrength b_cK b_cCount b_tVar b_tSign b_tMode b_here b_marked b_out b_inSet b_left b_last b_passed b_was b_member b_val b_old b_known b_plan : Nat → Int32} {b_born : Nat → Int64}
variable {N M L q p : Nat}
theorem xl_i318 (hn : f_n = nI N) (hN : N ≤ 10) (post : SX → Prop)
    (H : ∀ kd st K tc tv ts tm vm om us mk at_, XI N N kd st K tc tv ts tm vm om us mk at_ → wpX_adopt (fun u => match u with | (f_draftId, f_editId, f_firstStay, f_n, f_m, f_allVariables, f_nextStamp, f_live, f_liveCount, f_marked, f_draftOpen, f_enforced, f_execCount, f_walkKnown, f_peelCount, f_planCount, a_values, a_before, a_kinds, a_strengths, a_constants, a_termCounts, a_termVars, a_termSigns, a_termModes, a_variableMasks, a_outputMasks, a_stamps, a_users, a_makers, a_ranked, a_atStrength, a_execIds, a_outputs, a_feeders, a_determiner, a_upstream, a_walk, a_agenda, a_peelIds, a_peelVars, a_plan) => post (f_draftId, f_editId, f_firstStay, f_n, f_m, f_allVariables, f_nextStamp, f_live, f_liveCount, f_marked, f_draftOpen, f_enforced, f_execCount, f_walkKnown, f_peelCount, f_planCount, a_values, a_before, a_kinds, a_strengths, a_constants, a_termCounts, a_termVars, a_termSigns, a_termModes, a_variableMasks, a_outputMasks, a_stamps, a_users, a_makers, a_ranked, a_atStrength, a_execIds, a_outputs, a_feeders, a_determiner, a_upstream, a_walk, a_agenda, a_peelIds, a_peelVars, a_plan)) (f_draftId, f_editId, f_firstStay, f_n, f_m, f_allVariables, f_nextStamp, f_live, f_liveCount, f_marked, f_draftOpen, f_enforced, f_execCount, f_walkKnown, f_peelCount, f_planCount, a_values, a_before, kd, st, K, tc, tv, ts, tm, vm, om, a_stamps, us, mk, a_ranked, at_, a_execIds, a_outputs, a_feeders, a_determiner, a_upstream, a_walk, a_agenda, a_peelIds, a_peelVars, a_plan) (at_ 7)) :
    ∀ d i kd st K tc tv ts tm vm om us mk at_ fuel, i + d = N → d < fuel → XI N i kd st K tc tv ts tm vm om us mk at_ → wX_init_318 post fuel (nI i) f_draftId f_editId f_firstStay f_n f_m f_allVariables f_nextStamp f_live f_liveCount f_marked f_draftOpen f_enforced f_execCount f_walkKnown f_peelCount f_planCount a_values a_before kd st K tc tv ts tm vm om a_stamps us mk a_ranked at_ a_execIds a_outputs a_feeders a_determiner a_upstream a_walk a_agenda a_peelIds a_peelVars a_plan := by
  intro d
  induction d with
  | zero =>
    intro i kd st K tc tv ts tm vm om us mk at_ fuel hi hf h
    have e : i = N := by omega
    subst e
    cases fuel with
    | zero => omega
    | succ fuel => exact br_t (by rw [hn]; exact Int32.le_refl _) (H kd st K tc tv ts tm vm om us mk at_ h)
  | succ d ih =>
    intro i kd st K tc tv ts tm vm om us mk at_ fuel hi hf h
    cases fuel with
    | zero => omega
    | succ fuel =>
      obtain ⟨R, h1, h2, h3⟩ := h
      refine pk_le N i (fun h => absurd h (by omega)) (fun _ => nm_r (nI_add 22 i) ?_) hn rfl (by omega) (by omega)
      refine xs_open (c := 22 + i) hn hN _ (by omega) _ _ _ fun us0 mk0 hu0 hk0 => ?_
      have R0 := rx_clear R hu0 hk0
      refine xs_add (c := 22 + i) (q := 0) hN _ (by omega) (by omega) pk_us (show i < N by omega) 1 1 fun us1 mk1 vm1 om1 hu1 hk1 hvm1 hom1 => ?_
      have R1 := rx_add (q := 0) (a := 22 + i) (w := i) R0 (by omega) (by omega) hN pk_us (by omega) (fun t ht => by omega) hu1 hk1 hvm1 hom1
      refine nm_e (nm_r (nI_1 i) (ih (i + 1) _ _ _ _ _ _ _ _ _ _ _ _ fuel (by omega) (by omega) ⟨R1, fun v hv => ?_, fun c => ?_, fun s hs => ?_⟩))
      · rcases Nat.lt_or_ge v i with y | y
        · have n1 : 22 + v ≠ 22 + i := by omega
          have n2 : 4 * (22 + v) ≠ 4 * (22 + i) + 0 := by omega
          rw [pk_un n1, pk_un n1, pk_un n1, pk_un n1, pk_un n1, pk_un n2, pk_un n2, pk_un n2]
          exact h1 v y
        · have : v = i := by omega
          subst this
          exact ⟨pk_us, pk_us, pk_us, pk_us, pk_us, pk_us, pk_us⟩
      · rw [pk_us, hb_or, hb_one (by omega), h2 c]
        omega
      · rw [pk_un (by omega)]; exact h3 s hs
theorem yl_i238 (hn : g_n = nI N) (hN : N ≤ 10) (post : SY → Prop)
    (H : ∀ ck cs cK cC tV tS tM bn he, YIn N N ck cs cK cC tV tS tM bn he → wpY_choose (fun u => match u with | (g_n, g_m, g_planLen, g_clock, b_cKind, b_cStrength, b_cK, b_cCount, b_tVar, b_tSign, b_tMode, b_born, b_here, b_marked, b_out, b_inSet, b_left, b_last, b_passed, b_was, b_member, b_val, b_old, b_known, b_plan) => post (g_n, g_m, g_planLen, g_clock, b_cKind, b_cStrength, b_cK, b_cCount, b_tVar, b_tSign, b_tMode, b_born, b_here, b_marked, b_out, b_inSet, b_left, b_last, b_passed, b_was, b_member, b_val, b_old, b_known, b_plan)) (g_n, g_m, g_planLen, g_clock, ck, cs, cK, cC, tV, tS, tM, bn, he, b_marked, b_out, b_inSet, b_left, b_last, b_passed, b_was, b_member, b_val, b_old, b_known, b_plan) (-1)) :
    ∀ d i ck cs cK cC tV tS tM bn he fuel, i + d = N → d < fuel → YIn N i ck cs cK cC tV tS tM bn he → wY_init_238 post fuel (nI i) g_n g_m g_planLen g_clock ck cs cK cC tV tS tM bn he b_marked b_out b_inSet b_left b_last b_passed b_was b_member b_val b_old b_known b_plan := by
  intro d
  induction d with
  | zero =>
    intro i ck cs cK cC tV tS tM bn he fuel hi hf h
    have e : i = N := by omega
    subst e
    cases fuel with
    | zero => omega
    | succ fuel => exact br_t (by rw [hn]; exact Int32.le_refl _) (H ck cs cK cC tV tS tM bn he h)
  | succ d ih =>
    intro i ck cs cK cC tV tS tM bn he fuel hi hf h
    cases fuel with
    | zero => omega
    | succ fuel =>
      obtain ⟨h1, h2, h3⟩ := h
      have e22 : 22 + nI i = nI (22 + i) := nI_add 22 i
      have v22 : vp_in (nI (22 + i)) 32 := vp_in_nI (by omega) (by omega)
      have c22 : (nI (22 + i)).toNatClampNeg = 22 + i := nI_clamp (by omega)
      refine pk_le N i (fun h => absurd h (by omega)) (fun _ => ?_) hn rfl (by omega) (by omega)
      rw [e22]
      refine ys_single (c := 22 + i) _ (by omega) _ _ _ _ ?_
      refine And.intro v22 (nm_r (e' := vp_updL bn (22 + i) (lN i)) (by rw [c22, nI_l (by omega)]) (And.intro v22 (nm_r (e' := upd he (22 + i) 1) (by rw [c22, vb1]) (nm_r (nI_1 i) (ih (i + 1) _ _ _ _ _ _ _ _ _ fuel (by omega) (by omega) ⟨fun v hv => ?_, fun c hc => ?_, fun c hc => ?_⟩)))))
      · rcases Nat.lt_or_ge v i with y | y
        · have n1 : 22 + v ≠ 22 + i := by omega
          have n2 : 4 * (22 + v) ≠ 4 * (22 + i) := by omega
          rw [pk_un n1, pk_un n1, pk_un n1, pk_un n1, pk_un n2, pk_un n2, pk_un n2, pk_uLn n1, pk_un n1]
          exact h1 v y
        · have : v = i := by omega
          subst this
          exact ⟨pk_us, pk_us, pk_us, pk_us, pk_us, pk_us, pk_us, pk_uLs, pk_us⟩
      · rw [pk_un (by omega)]; exact h2 c (by omega)
      · rcases Classical.em (c = 22 + i) with y | y
        · rw [y, pk_us]; exact ⟨1, by omega, rfl⟩
        · rw [pk_un y]; exact h3 c hc
theorem in_st {kd st K tc tv ts tm vm om us mk at_ : Nat → Int32} (hN : N ≤ 10) (h : XI N N kd st K tc tv ts tm vm om us mk at_) {v : Nat} (hv : v < N) : (∀ w, UX N mk (22 + v) w ↔ w = v) ∧ ∀ w, UX N us (22 + v) w ↔ w = v := by
  obtain ⟨R, h1, _⟩ := h
  obtain ⟨_, _, _, e1, e2, _, e3⟩ := h1 v hv
  have et : tn (tc (22 + v)) = 1 := by rw [e1]; exact tn_nI (by decide)
  refine ⟨fun w => ?_, fun w => ?_⟩
  · rw [rx_k hN R, et]
    constructor
    · rintro ⟨_, hw, t, ht, e, _⟩
      have : t = 0 := by omega
      subst this
      rw [Nat.add_zero, e2, nI_eq (by omega) (by omega)] at e
      exact e.symm
    · rintro rfl
      exact ⟨by omega, hv, 0, by omega, e2, e3⟩
  · rw [rx_u hN R, et]
    constructor
    · rintro ⟨_, hw, t, ht, e⟩
      have : t = 0 := by omega
      subst this
      rw [Nat.add_zero, e2, nI_eq (by omega) (by omega)] at e
      exact e.symm
    · rintro rfl
      exact ⟨by omega, hv, 0, by omega, e2⟩
theorem in_str {kd st K tc tv ts tm vm om us mk at_ ck cs cK cC tV tS tM he : Nat → Int32} {bn : Nat → Int64} (hN : N ≤ 10) (hX : XI N N kd st K tc tv ts tm vm om us mk at_) (hY : YIn N N ck cs cK cC tV tS tM bn he) {ra : Nat → Int32} {sp : Nat → Int64} {mkd : Nat → Int32} :
    STR N M 0 0 0 0 0 0 0 0 kd st K tc tv ts tm vm om us mk ra at_ sp ck cs cK cC tV tS tM bn he mkd := by
  obtain ⟨R, x1, x2, x3⟩ := hX
  obtain ⟨y1, y2, y3⟩ := hY
  refine ⟨⟨R, fun c hc => ?_, fun v hv => ?_, y3, fun c hc => ?_, fun c hc => absurd hc hb_0⟩, ⟨fun c hc => absurd hc hb_0, fun c hc => absurd hc hb_0, fun c hc => absurd hc hb_0, fun c hc => ?_, ⟨fun _ => rfl, fun _ => y2 20 (Or.inl (by omega))⟩, y2 21 (Or.inl (by omega)), fun c g1 g2 => ?_⟩, ⟨rfl, fun i hi => by omega, fun c hc => absurd hc hb_0, fun i j _ hj => by omega⟩, ⟨fun s hs c => ?_, x2⟩, ⟨rfl, rfl, fun c hc => absurd hc hb_0, fun v hv => (y1 v hv).2.2.2.2.2.2.2.1⟩⟩
  · rcases hc with h | h | h
    · exact absurd h hb_0
    · exact absurd rfl h.2
    · obtain ⟨v, rfl⟩ : ∃ v, c = 22 + v := ⟨c - 22, by omega⟩
      obtain ⟨a1, a2, a3, a4, a5, a6, a7⟩ := x1 v (by omega)
      obtain ⟨b1, b2, b3, b4, b5, b6, b7, _, _⟩ := y1 v (by omega)
      have et : tn (tc (22 + v)) = 1 := by rw [a4]; exact tn_nI (by decide)
      refine ⟨⟨by rw [a1, b1], by rw [a2, b2], by rw [a3, b3], by rw [a4, b4], fun t ht => ?_⟩, Or.inl a1, fun h34 => ?_⟩
      · rw [et] at ht
        have : t = 0 := by omega
        subst this
        rw [Nat.add_zero, a5, b5, a6, b6, a7, b7]
        exact ⟨rfl, rfl, rfl⟩
      · rw [a1] at h34
        exact absurd h34 (by decide)
  · obtain ⟨a1, a2, a3, a4, a5, a6, a7⟩ := x1 v hv
    exact ⟨a2, a4, a5, a7, a1⟩
  · rcases hc with h | h
    · exact absurd h hb_0
    · exact absurd rfl h.2
  · exact ⟨fun y => absurd (y2 c (Or.inl (by omega))) y, fun y => absurd y hb_0⟩
  · rcases Nat.lt_or_ge c (22 + N) with y | y
    · obtain ⟨v, rfl⟩ : ∃ v, c = 22 + v := ⟨c - 22, by omega⟩
      rw [(y1 v (by omega)).2.2.2.2.2.2.2.2]
      exact ⟨fun _ => y, fun _ => by decide⟩
    · exact ⟨fun z => absurd (y2 c (Or.inr y)) z, fun z => by omega⟩
  · rw [x3 s hs]
    exact ⟨fun y => absurd y hb_0, fun y => absurd y.1 hb_0⟩
theorem in_299 (hN2 : 2 ≤ N) (hN : N ≤ 10) (hM2 : 2 ≤ M) (hM : M ≤ 20) (post : SX → Prop)
    (H : ∀ kd st K tc tv ts tm vm om us mk at_ E ec p ex ou fd de up pc ag pi pv, XI N N kd st K tc tv ts tm vm om us mk at_ → Chs (UX N us) (UX N mk) (keyR st (fun _ => 0)) (DX N 0) (Hb E) → Slv (UX N us) (UX N mk) (Hb E) → ec = nI p → FX N (UX N us) (UX N mk) E p ex ou fd de up →
      post (20, 21, 22, nI N, nI M, ((1 : Int32) <<< (nI N &&& 31)) - 1, 0, 0, 0, 0, 0, E, ec, 0, pc, -1, fun _ => 0, fun _ => 0, kd, st, K, tc, tv, ts, tm, vm, om, fun _ => 0, us, mk, fun _ => 0, at_, ex, ou, fd, de, up, fun _ => 0, ag, pi, pv, fun _ => 0)) :
    wX_init_299 post 20 21 22 (nI N) (nI M) 0 0 0 0 0 0 0 0 0 0 0 (fun _ => 0) (fun _ => 0) (fun _ => 0) (fun _ => 0) (fun _ => 0) (fun _ => 0) (fun _ => 0) (fun _ => 0) (fun _ => 0) (fun _ => 0) (fun _ => 0) (fun _ => 0) (fun _ => 0) (fun _ => 0) (fun _ => 0) (fun _ => 0) (fun _ => 0) (fun _ => 0) (fun _ => 0) (fun _ => 0) (fun _ => 0) (fun _ => 0) (fun _ => 0) (fun _ => 0) (fun _ => 0) (fun _ => 0) := by
  refine nm_e (Exists.intro (N + 1) (xl_i318 rfl hN post (fun kd st K tc tv ts tm vm om us mk at_ h => ?_) N 0 _ _ _ _ _ _ _ _ _ _ _ _ (N + 1) (by omega) (by omega) ⟨rx_0, fun v hv => by omega, fun c => ⟨fun y => absurd y hb_0, fun y => by omega⟩, fun s _ => rfl⟩))
  have hst := fun v (hv : v < N) => in_st hN h hv
  have h2 := h.2.2.1
  have hSl : Slv (UX N us) (UX N mk) (Hb (at_ 7)) := by
    intro T hT hstk c hc
    have hc7 := (h2 c).mp (hT c hc)
    obtain ⟨v, rfl⟩ : ∃ v, c = 22 + v := ⟨c - 22, by omega⟩
    obtain ⟨d, hd, hTd, hu⟩ := hstk _ v hc (((hst v (by omega)).1 v).mpr rfl)
    have hd7 := (h2 d).mp (hT d hTd)
    obtain ⟨w, rfl⟩ : ∃ w, d = 22 + w := ⟨d - 22, by omega⟩
    have := ((hst w (by omega)).2 v).mp hu
    omega
  have hCh : Chs (UX N us) (UX N mk) (keyR st (fun _ => 0)) (DX N 0) (Hb (at_ 7)) := by
    refine ⟨fun c hc => Or.inr ((h2 c).mp hc), fun c hc => ?_⟩
    have hc7 : Hb (at_ 7) c := hc.elim (fun y => absurd y hb_0) fun y => (h2 c).mpr y
    exact ⟨fun _ => sv_mono (fun d hd => hd.elim (fun y => y.1) fun y => y ▸ hc7) hSl, fun _ => hc7⟩
  refine xs_adopt rfl hN (fun v => hb_allv hN) h.1 _ hSl (fun v hv => Or.inl ((h2 _).mpr ⟨by omega, by omega⟩)) (fun v hv => ⟨(hst v hv).1, fun w hw => ((hst v hv).2 w).mp hw⟩) (fun e => ?_) fun ec p ex ou fd de up pc ag pi pv hec hF => ?_
  · have : Hb (at_ 7) 22 := (h2 22).mpr ⟨by omega, by omega⟩
    rw [e] at this
    exact absurd this hb_0
  · exact H kd st K tc tv ts tm vm om us mk at_ (at_ 7) ec p ex ou fd de up pc ag pi pv h hCh hSl hec hF
/-- the clamp of a size -/
theorem in_cl (x : Int32) {a : Nat} (ha : a < 1000) : (¬ 2 ≤ x) ∨ (2 ≤ x ∧ x ≤ nI a ∧ ∃ n, 2 ≤ n ∧ n ≤ a ∧ x = nI n) ∨ (2 ≤ x ∧ ¬ x ≤ nI a) := by
  by_cases h : 2 ≤ x
  · by_cases h' : x ≤ nI a
    · have hx : ¬ x < 0 := fun y => by
        rw [Int32.le_iff_toInt_le] at h
        rw [Int32.lt_iff_toInt_lt] at y
        have h2 : (2 : Int32).toInt = 2 := by decide
        have h0 : (0 : Int32).toInt = 0 := by decide
        omega
      obtain ⟨n, hn, rfl⟩ := nI_of hx
      have h1 : nI 2 ≤ nI n := h
      rw [nI_leI (by omega) hn] at h1
      have h3 := (nI_leI hn (by omega)).mp h'
      exact Or.inr (Or.inl ⟨h, h', n, h1, h3, rfl⟩)
    · exact Or.inr (Or.inr ⟨h, h'⟩)
  · exact Or.inl h
theorem i_vc0 (k0 : Int32) (k1 : Int32) : wpX_init (fun u => wpY_init (fun v => i_Rel 2 u v) k0 k1) k0 k1 := by
  -- the sizes
  have hsz : ∃ N M, 2 ≤ N ∧ N ≤ 10 ∧ 2 ≤ M ∧ M ≤ 20 ∧
      (∀ post : SX → Prop, wX_init_299 post 20 21 22 (nI N) (nI M) 0 0 0 0 0 0 0 0 0 0 0 (fun _ => 0) (fun _ => 0) (fun _ => 0) (fun _ => 0) (fun _ => 0) (fun _ => 0) (fun _ => 0) (fun _ => 0) (fun _ => 0) (fun _ => 0) (fun _ => 0) (fun _ => 0) (fun _ => 0) (fun _ => 0) (fun _ => 0) (fun _ => 0) (fun _ => 0) (fun _ => 0) (fun _ => 0) (fun _ => 0) (fun _ => 0) (fun _ => 0) (fun _ => 0) (fun _ => 0) (fun _ => 0) (fun _ => 0) → wpX_init post k0 k1) ∧
      (∀ post : SY → Prop, (∃ n238, wY_init_238 post n238 0 (nI N) (nI M) (-7) 0 (fun _ => 0) (fun _ => 0) (fun _ => 0) (fun _ => 0) (fun _ => 0) (fun _ => 0) (fun _ => 0) (fun _ => 0) (fun _ => 0) (fun _ => 0) (fun _ => 0) (fun _ => 0) (fun _ => 0) (fun _ => 0) (fun _ => 0) (fun _ => 0) (fun _ => 0) (fun _ => 0) (fun _ => 0) (fun _ => 0) (fun _ => 0)) → wpY_init post k0 k1) := by
    have h210 : (2 : Int32) ≤ 10 := by decide
    have h220 : (2 : Int32) ≤ 20 := by decide
    rcases in_cl k0 (a := 10) (by omega) with n1 | ⟨n1, n2, N, n3, n4, rfl⟩ | ⟨n1, n2⟩ <;> rcases in_cl k1 (a := 20) (by omega) with m1 | ⟨m1, m2, M, m3, m4, rfl⟩ | ⟨m1, m2⟩
    · exact ⟨2, 2, by omega, by omega, by omega, by omega, fun post H => br_f n1 (br_t h210 (br_f m1 (br_t h220 H))), fun post H => br_f n1 (br_f m1 H)⟩
    · exact ⟨2, M, by omega, by omega, m3, m4, fun post H => br_f n1 (br_t h210 (br_t m1 (br_t m2 H))), fun post H => br_f n1 (br_t m1 (br_t m2 H))⟩
    · exact ⟨2, 20, by omega, by omega, by omega, by omega, fun post H => br_f n1 (br_t h210 (br_t m1 (br_f m2 H))), fun post H => br_f n1 (br_t m1 (br_f m2 H))⟩
    · exact ⟨N, 2, n3, n4, by omega, by omega, fun post H => br_t n1 (br_t n2 (br_f m1 (br_t h220 H))), fun post H => br_t n1 (br_t n2 (br_f m1 H))⟩
    · exact ⟨N, M, n3, n4, m3, m4, fun post H => br_t n1 (br_t n2 (br_t m1 (br_t m2 H))), fun post H => br_t n1 (br_t n2 (br_t m1 (br_t m2 H)))⟩
    · exact ⟨N, 20, n3, n4, by omega, by omega, fun post H => br_t n1 (br_t n2 (br_t m1 (br_f m2 H))), fun post H => br_t n1 (br_t n2 (br_t m1 (br_f m2 H)))⟩
    · exact ⟨10, 2, by omega, by omega, by omega, by omega, fun post H => br_t n1 (br_f n2 (br_f m1 (br_t h220 H))), fun post H => br_t n1 (br_f n2 (br_f m1 H))⟩
    · exact ⟨10, M, by omega, by omega, m3, m4, fun post H => br_t n1 (br_f n2 (br_t m1 (br_t m2 H))), fun post H => br_t n1 (br_f n2 (br_t m1 (br_t m2 H)))⟩
    · exact ⟨10, 20, by omega, by omega, by omega, by omega, fun post H => br_t n1 (br_f n2 (br_t m1 (br_f m2 H))), fun post H => br_t n1 (br_f n2 (br_t m1 (br_f m2 H)))⟩
  obtain ⟨N, M, hN2, hN, hM2, hM, hX, hY⟩ := hsz
  refine hX _ (in_299 hN2 hN hM2 hM _ fun kd st K tc tv ts tm vm om us mk at_ E ec p ex ou fd de up pc ag pi pv hXI hCh hSl hec hF => ?_)
  refine hY _ (Exists.intro (N + 1) (yl_i238 rfl hN _ (fun ck cs cK cC tV tS tM bn he hYI => ?_) N 0 _ _ _ _ _ _ _ _ _ (N + 1) (by omega) (by omega) ⟨fun v hv => by omega, fun c _ => rfl, fun c _ => ⟨0, by omega, rfl⟩⟩))
  have S := in_str (M := M) (ra := fun _ => 0) (sp := fun _ => 0) (mkd := fun _ => 0) hN hXI hYI
  refine yr_choose S hN hM (by omega) hCh hF _ fun out inS pa le la ho => ?_
  exact zz_mk (N := N) (M := M) (L := 0) (q := 0) (by omega) ⟨rfl, hN2, hN, rfl, hM2, hM, fun v => hb_allv hN, rfl, rfl⟩ S ⟨hCh, hSl, fun c hc => absurd hc hb_0, ⟨p, hec, hF⟩, ho, fun w _ h => absurd h hb_0⟩ (Or.inl ⟨rfl, rfl⟩) (fun _ _ => rfl)
end
end
