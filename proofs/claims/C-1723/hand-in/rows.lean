section
/-! 01: rows of the kit's rows (starting text), bits of words, loop laws -/
theorem pk_us {f : Nat → Int32} {k : Nat} {x : Int32} : upd f k x k = x := if_pos rfl
theorem pk_un {f : Nat → Int32} {k j : Nat} {x : Int32} (h : j ≠ k) : upd f k x j = f j := if_neg h
theorem pk_uLs {f : Nat → Int64} {k : Nat} {x : Int64} : vp_updL f k x k = x := if_pos rfl
theorem pk_uLn {f : Nat → Int64} {k j : Nat} {x : Int64} (h : j ≠ k) : vp_updL f k x j = f j := if_neg h
theorem pk_sub {a b : Nat} (h : b ≤ a) : nI a - nI b = nI (a - b) := by
  obtain ⟨c, rfl⟩ : ∃ c, a = c + b := ⟨a - b, by omega⟩
  rw [← nI_add, Int32.add_sub_cancel, Nat.add_sub_cancel]
theorem pk_mul (a b : Nat) : nI a * nI b = nI (a * b) := (Int32.ofNat_mul a b).symm
theorem pk_div {a d : Nat} (ha : a < 2 ^ 31) (h0 : 0 < d) (hd : d < 2 ^ 31) : nI a / nI d = nI (a / d) := by
  apply Int32.toInt_inj.mp
  rw [lg_idiv_nonneg (by rw [nI_toInt ha]; omega) (by rw [nI_toInt hd]; omega), nI_toInt ha, nI_toInt hd, nI_toInt (Nat.lt_of_le_of_lt (Nat.div_le_self a d) ha)]
  first | rfl | exact (Int.natCast_ediv _ _).symm
theorem pk_rem {a d : Nat} (ha : a < 2 ^ 31) (h0 : 0 < d) (hd : d < 2 ^ 31) : nI a - nI a / nI d * nI d = nI (a % d) := by
  rw [pk_div ha h0 hd, pk_mul, pk_sub (Nat.div_mul_le_self a d)]
  exact congrArg nI (by have := Nat.div_add_mod' a d; omega)
theorem pk_sub_toInt {a b : Nat} (ha : a < 2 ^ 30) (hb : b < 2 ^ 30) : (nI a - nI b).toInt = (a : Int) - b := by
  rw [Int32.toInt_sub, nI_toInt (by omega), nI_toInt (by omega)]
  exact Int.bmod_eq_of_le (by omega) (by omega)
theorem pk_ix (x : Int32) {n : Nat} (hn : n < 2 ^ 31) : x < 0 ∨ nI n ≤ x ∨ ∃ j : Nat, j < n ∧ x = nI j := by
  by_cases h : x < 0
  · exact Or.inl h
  · obtain ⟨j, hj, rfl⟩ := nI_of h
    by_cases h2 : j < n
    · exact Or.inr (Or.inr ⟨j, h2, rfl⟩)
    · exact Or.inr (Or.inl (nI_le (by omega) hj))
theorem ts_nf {x : Bool} (h : ¬ x = false) : x = true := by cases x <;> first | rfl | exact absurd rfl h
theorem ts_nt {x : Bool} (h : ¬ x = true) : x = false := by cases x <;> first | rfl | exact absurd rfl h
theorem ts_bit {w : Int64} {s : UInt64} {j : Nat} (hj : j < 64) (hs : s.toNat = j) : ((w.toUInt64 >>> s).toInt64 &&& 1) = 0 ↔ w.toBitVec.getLsbD j = false := by
  have e : (w.toUInt64 >>> s).toInt64.toBitVec = w.toBitVec >>> j := by
    apply BitVec.eq_of_toNat_eq
    show (w.toUInt64 >>> s).toNat = _
    rw [UInt64.toNat_shiftRight, hs, Nat.mod_eq_of_lt hj, BitVec.toNat_ushiftRight]
    rfl
  rw [← Int64.toBitVec_inj, Int64.toBitVec_and, e]
  show w.toBitVec >>> j &&& 1#64 = 0#64 ↔ _
  constructor
  · intro h
    have t := congrArg (fun x => x.getLsbD 0) h
    simpa using t
  · intro h
    apply BitVec.eq_of_getLsbD_eq
    intro i hi
    cases i with
    | zero => simp [h]
    | succ i => simp
theorem wb_c : ∀ k, k < 64 → ((nI k).toInt64 &&& 63) = lN k := by decide +kernel
theorem wb_cu : ∀ k, k < 64 → ((nI k).toInt64.toUInt64 &&& Int64.toUInt64 63) = UInt64.ofNat k := by decide +kernel
theorem ss_60 : ¬ (6 : Int32) = 0 := by decide
theorem ss_360 : ¬ (36 : Int32) = 0 := by decide
theorem ss_ge : (36 : Int32) ≤ nI 36 := by decide
theorem ss_nge {i : Nat} (h : i < 36) : ¬ (36 : Int32) ≤ nI i := nI_ge (b := 36) h (by decide)
theorem ss_in {i : Nat} (h : i < 36) : vp_in (nI i) 36 := vp_in_nI h (by decide)
theorem ss_cl {i : Nat} (h : i < 36) : (nI i).toNatClampNeg = i := nI_clamp (by omega)
theorem ss_inj {i j : Nat} (hi : i < 36) (hj : j < 36) (h : nI i = nI j) : i = j := (nI_eq (by omega) (by omega)).mp h
theorem ss_ieq {i j : Nat} (hi : i < 36) (hj : j < 36) : nI i = nI j ↔ i = j := nI_eq (by omega) (by omega)
theorem ss_n2 {i : Nat} (h : i < 36) : ¬ nI i = -2 := by
  intro e
  have := congrArg Int32.toInt e
  rw [nI_toInt (by omega), show (-2 : Int32).toInt = -2 from by decide] at this
  omega
theorem ss_n1 {i : Nat} (h : i < 36) : ¬ nI i = -1 := by
  intro e
  have := congrArg Int32.toInt e
  rw [nI_toInt (by omega), show (-1 : Int32).toInt = -1 from by decide] at this
  omega
theorem ss_p0 {i : Nat} (h : i < 36) : 0 ≤ nI i := nI_pos' (by omega)
theorem ss_pn {i : Nat} (h : i < 36) : ¬ nI i < 0 := nI_pos (by omega)
noncomputable def ss_ite {α : Type} (p : Prop) (a b : α) : α := @ite α p (Classical.propDecidable p) a b
theorem ss_it {α : Type} {p : Prop} {a b : α} (h : p) : ss_ite p a b = a := if_pos h
theorem ss_if {α : Type} {p : Prop} {a b : α} (h : ¬ p) : ss_ite p a b = b := if_neg h
theorem ss_ic {α : Type} {p q : Prop} {a b : α} (h : p ↔ q) : ss_ite p a b = ss_ite q a b := by
  by_cases c : p
  · rw [ss_it c, ss_it (h.mp c)]
  · rw [ss_if c, ss_if (fun z => c (h.mpr z))]
/-! bits -/
def ss_mb (w : Int64) (i : Nat) : Bool := w.toBitVec.getLsbD i
theorem ss_mb_big {w : Int64} {i : Nat} (h : 64 ≤ i) : ss_mb w i = false := BitVec.getLsbD_of_ge _ _ h
theorem ss_mb_ext {x y : Int64} (h : ∀ i, i < 64 → ss_mb x i = ss_mb y i) : x = y := Int64.toBitVec_inj.mp (BitVec.eq_of_getLsbD_eq h)
theorem ss_mb_or (x y : Int64) (i : Nat) : ss_mb (x ||| y) i = (ss_mb x i || ss_mb y i) := by
  unfold ss_mb; rw [Int64.toBitVec_or, BitVec.getLsbD_or]
theorem ss_mb_and (x y : Int64) (i : Nat) : ss_mb (x &&& y) i = (ss_mb x i && ss_mb y i) := by
  unfold ss_mb; rw [Int64.toBitVec_and, BitVec.getLsbD_and]
theorem ss_mb_0 (i : Nat) : ss_mb 0 i = false := by
  show (0#64).getLsbD i = false
  simp
theorem ss_bv : ∀ c, c < 36 → ((1 : Int64) <<< ((nI c).toInt64 &&& 63)).toBitVec = BitVec.twoPow 64 c := by decide +kernel
theorem ss_mb_1 {c : Nat} (hc : c < 36) (i : Nat) : ss_mb ((1 : Int64) <<< ((nI c).toInt64 &&& 63)) i = decide (i = c) := by
  unfold ss_mb
  rw [ss_bv c hc, BitVec.getLsbD_twoPow, decide_eq_true (show c < 64 by omega), Bool.true_and]
  exact decide_eq_decide.mpr ⟨fun h => h.symm, fun h => h.symm⟩
theorem ss_mb_n {c : Nat} (hc : c < 36) (w : Int64) (i : Nat) : ss_mb (w &&& (((1 : Int64) <<< ((nI c).toInt64 &&& 63)) ^^^ (-1))) i = (ss_mb w i && !decide (i = c)) := by
  have ha : (-1 : Int64).toBitVec = BitVec.allOnes 64 := by decide
  unfold ss_mb
  rw [Int64.toBitVec_and, Int64.toBitVec_xor, ss_bv c hc, ha, BitVec.getLsbD_and, BitVec.getLsbD_xor, BitVec.getLsbD_twoPow, BitVec.getLsbD_allOnes, decide_eq_true (show c < 64 by omega), Bool.true_and]
  by_cases hi : i < 64
  · rw [decide_eq_true hi, Bool.xor_true, show decide (c = i) = decide (i = c) from decide_eq_decide.mpr ⟨fun h => h.symm, fun h => h.symm⟩]
  · rw [BitVec.getLsbD_of_ge _ _ (by omega), Bool.false_and, Bool.false_and]
theorem ss_sN {c : Nat} (hc : c < 36) : ((nI c).toInt64.toUInt64 &&& Int64.toUInt64 63).toNat = c := by
  rw [wb_cu c (by omega)]
  show (BitVec.ofNat 64 c).toNat = c
  rw [BitVec.toNat_ofNat, Nat.mod_eq_of_lt (by omega)]
theorem ss_t0 {w : Int64} {c : Nat} (hc : c < 36) : (((w.toUInt64 >>> ((nI c).toInt64.toUInt64 &&& Int64.toUInt64 63)).toInt64) &&& 1) = 0 ↔ ss_mb w c = false := ts_bit (by omega) (ss_sN hc)
theorem ss_t1 {w : Int64} {c : Nat} (hc : c < 36) : (((w.toUInt64 >>> ((nI c).toInt64.toUInt64 &&& Int64.toUInt64 63)).toInt64) &&& 1) = 1 ↔ ss_mb w c = true := by
  have hs := ss_sN hc
  have e : (w.toUInt64 >>> ((nI c).toInt64.toUInt64 &&& Int64.toUInt64 63)).toInt64.toBitVec = w.toBitVec >>> c := by
    apply BitVec.eq_of_toNat_eq
    show (w.toUInt64 >>> ((nI c).toInt64.toUInt64 &&& Int64.toUInt64 63)).toNat = _
    rw [UInt64.toNat_shiftRight, hs, Nat.mod_eq_of_lt (by omega), BitVec.toNat_ushiftRight]
    rfl
  rw [← Int64.toBitVec_inj, Int64.toBitVec_and, e]
  show w.toBitVec >>> c &&& 1#64 = 1#64 ↔ w.toBitVec.getLsbD c = true
  constructor
  · intro h
    have t := congrArg (fun x => x.getLsbD 0) h
    simpa using t
  · intro h
    apply BitVec.eq_of_getLsbD_eq
    intro i hi
    cases i with
    | zero => simp [h]
    | succ i => simp
/-! a word and the set of its cells -/
def ss_WD (w : Int64) (p : Nat → Prop) : Prop := ∀ i, ss_mb w i = true ↔ (i < 36 ∧ p i)
theorem ss_bt {a b : Bool} (h : a = true ↔ b = true) : a = b := by
  cases a <;> cases b <;> simp at h ⊢
theorem ss_WD_eq {w w' : Int64} {p : Nat → Prop} (h : ss_WD w p) (h' : ss_WD w' p) : w = w' := ss_mb_ext fun i _ => ss_bt ((h i).trans (h' i).symm)
theorem ss_WD_cg {w : Int64} {p q : Nat → Prop} (h : ss_WD w p) (e : ∀ i, i < 36 → (p i ↔ q i)) : ss_WD w q := fun i => (h i).trans ⟨fun z => ⟨z.1, (e i z.1).mp z.2⟩, fun z => ⟨z.1, (e i z.1).mpr z.2⟩⟩
theorem ss_WD_0 : ss_WD 0 (fun _ => False) := fun i => by rw [ss_mb_0]; simp
theorem ss_WD_1 {c : Nat} (hc : c < 36) : ss_WD ((1 : Int64) <<< ((nI c).toInt64 &&& 63)) (fun i => i = c) := fun i => by
  rw [ss_mb_1 hc, decide_eq_true_iff]
  exact ⟨fun h => ⟨by omega, h⟩, fun h => h.2⟩
theorem ss_WD_or {w w' : Int64} {p q : Nat → Prop} (h : ss_WD w p) (h' : ss_WD w' q) : ss_WD (w ||| w') (fun i => p i ∨ q i) := fun i => by
  rw [ss_mb_or, Bool.or_eq_true, h i, h' i]
  constructor
  · rintro (z | z)
    · exact ⟨z.1, Or.inl z.2⟩
    · exact ⟨z.1, Or.inr z.2⟩
  · rintro ⟨a, z | z⟩
    · exact Or.inl ⟨a, z⟩
    · exact Or.inr ⟨a, z⟩
theorem ss_WD_and {w w' : Int64} {p q : Nat → Prop} (h : ss_WD w p) (h' : ss_WD w' q) : ss_WD (w &&& w') (fun i => p i ∧ q i) := fun i => by
  rw [ss_mb_and, Bool.and_eq_true, h i, h' i]
  exact ⟨fun z => ⟨z.1.1, z.1.2, z.2.2⟩, fun z => ⟨⟨z.1, z.2.1⟩, z.1, z.2.2⟩⟩
theorem ss_WD_o1 {w : Int64} {p : Nat → Prop} {c : Nat} (hc : c < 36) (h : ss_WD w p) : ss_WD (w ||| ((1 : Int64) <<< ((nI c).toInt64 &&& 63))) (fun i => p i ∨ i = c) := ss_WD_or h (ss_WD_1 hc)
theorem ss_WD_rm {w : Int64} {p : Nat → Prop} {c : Nat} (hc : c < 36) (h : ss_WD w p) : ss_WD (w &&& (((1 : Int64) <<< ((nI c).toInt64 &&& 63)) ^^^ (-1))) (fun i => p i ∧ i ≠ c) := fun i => by
  rw [ss_mb_n hc, Bool.and_eq_true, h i, Bool.not_eq_true', decide_eq_false_iff_not]
  exact ⟨fun z => ⟨z.1.1, z.1.2, z.2⟩, fun z => ⟨⟨z.1, z.2.1⟩, z.2.2⟩⟩
theorem ss_WD_t {w : Int64} {p : Nat → Prop} {c : Nat} (h : ss_WD w p) (hc : c < 36) : (((w.toUInt64 >>> ((nI c).toInt64.toUInt64 &&& Int64.toUInt64 63)).toInt64) &&& 1) = 1 ↔ p c := by
  rw [ss_t1 hc, h c]
  exact ⟨fun z => z.2, fun z => ⟨hc, z⟩⟩
theorem ss_z {x : Int64} : x = 0 ↔ ∀ i, i < 64 → ¬ ss_mb x i = true := by
  constructor
  · rintro rfl i _
    rw [ss_mb_0]; simp
  · intro h
    apply ss_mb_ext
    intro i hi
    rw [ss_mb_0]
    exact ts_nt (h i hi)
theorem ss_WD_z {x : Int64} {p : Nat → Prop} (h : ss_WD x p) : x = 0 ↔ ∀ i, i < 36 → ¬ p i := by
  rw [ss_z]
  exact ⟨fun z i hi hp => z i (by omega) ((h i).mpr ⟨hi, hp⟩), fun z i _ hm => z i ((h i).mp hm).1 ((h i).mp hm).2⟩
theorem ss_WD_a0 {x y : Int64} {p q : Nat → Prop} (h : ss_WD x p) (h' : ss_WD y q) : (x &&& y) = 0 ↔ ∀ i, i < 36 → p i → ¬ q i := by
  rw [ss_WD_z (ss_WD_and h h')]
  exact ⟨fun z i hi hp hq => z i hi ⟨hp, hq⟩, fun z i hi hp => z i hi hp.1 hp.2⟩
theorem ss_WD_m {x y : Int64} {p : Nat → Prop} (h : ss_WD x p) : (x &&& y) = 0 ↔ ∀ i, i < 36 → p i → ¬ ss_mb y i = true := by
  rw [ss_z]
  constructor
  · intro z i hi hp hq
    apply z i (by omega)
    rw [ss_mb_and, (h i).mpr ⟨hi, hp⟩, hq]
    rfl
  · intro z i hi hm
    rw [ss_mb_and, Bool.and_eq_true, h i] at hm
    exact z i hm.1.1 hm.1.2 hm.2
theorem ss_WD_b {w : Int64} {p : Nat → Prop} {c : Nat} (h : ss_WD w p) (hc : c < 36) : ss_mb w c = true ↔ p c := (h c).trans ⟨fun z => z.2, fun z => ⟨hc, z⟩⟩
def ss_sub (x y : Int64) : Prop := ∀ i, ss_mb x i = true → ss_mb y i = true
theorem ss_sub_r (x : Int64) : ss_sub x x := fun _ h => h
theorem ss_sub_t {x y z : Int64} (h : ss_sub x y) (h' : ss_sub y z) : ss_sub x z := fun i m => h' i (h i m)
theorem ss_sub_o (x y : Int64) : ss_sub x (x ||| y) := fun i m => by rw [ss_mb_or, m, Bool.true_or]
theorem ss_mb_s (x : Int64) {c : Nat} (hc : c < 36) : ss_mb (x ||| ((1 : Int64) <<< ((nI c).toInt64 &&& 63))) c = true := by rw [ss_mb_or, ss_mb_1 hc, decide_eq_true rfl, Bool.or_true]
/-! loop laws: a counter x0 = nI i0 up to nI e -/
theorem ss_lp1 {A1 : Type} (e i0 : Nat) (W : Nat → Int32 → A1 → Prop) (I : Nat → A1 → Prop) (hx : ∀ (n : Nat) (a1 : A1), I e a1 → W (n + 1) (nI e) a1) (hs : ∀ (n i : Nat) (a1 : A1), i0 ≤ i → i < e → I i a1 → (∀ (b1 : A1), I (i + 1) b1 → W n (nI i + 1) b1) → W (n + 1) (nI i) a1) (a1 : A1) (x0 : Int32) (hx0 : x0 = nI i0) (hle : i0 ≤ e) (h0 : I i0 a1) : ∃ n, W n x0 a1 := by
  subst hx0
  have key : ∀ (d i : Nat) (a1 : A1), i0 ≤ i → i + d = e → I i a1 → W (d + 1) (nI i) a1 := by
    intro d
    induction d with
    | zero => intro i a1 h1 h2 h; have : i = e := by omega
              subst this; exact hx _ a1 h
    | succ d ih => intro i a1 h1 h2 h
                   exact hs _ i a1 h1 (by omega) h (fun b1 h' => by rw [nI_1]; exact ih (i + 1) b1 (by omega) (by omega) h')
  exact ⟨_, key (e - i0) i0 a1 (Nat.le_refl _) (by omega) h0⟩
theorem ss_lp0 (e i0 : Nat) (W : Nat → Int32 → Prop) (I : Nat → Prop) (hx : ∀ (n : Nat), I e → W (n + 1) (nI e)) (hs : ∀ (n i : Nat), i0 ≤ i → i < e → I i → (I (i + 1) → W n (nI i + 1)) → W (n + 1) (nI i)) (x0 : Int32) (hx0 : x0 = nI i0) (hle : i0 ≤ e) (h0 : I i0) : ∃ n, W n x0 := by
  obtain ⟨n, h⟩ := ss_lp1 (A1 := Unit) e i0 (fun n x _ => W n x) (fun i _ => I i) (fun n _ h => hx n h) (fun n i _ h1 h2 h3 h4 => hs n i h1 h2 h3 (h4 ())) () x0 hx0 hle h0
  exact ⟨n, h⟩
theorem ss_lp2 {A1 A2 : Type} (e i0 : Nat) (W : Nat → Int32 → A1 → A2 → Prop) (I : Nat → A1 → A2 → Prop) (hx : ∀ (n : Nat) (a1 : A1) (a2 : A2), I e a1 a2 → W (n + 1) (nI e) a1 a2) (hs : ∀ (n i : Nat) (a1 : A1) (a2 : A2), i0 ≤ i → i < e → I i a1 a2 → (∀ (b1 : A1) (b2 : A2), I (i + 1) b1 b2 → W n (nI i + 1) b1 b2) → W (n + 1) (nI i) a1 a2) (a1 : A1) (a2 : A2) (x0 : Int32) (hx0 : x0 = nI i0) (hle : i0 ≤ e) (h0 : I i0 a1 a2) : ∃ n, W n x0 a1 a2 := by
  subst hx0
  have key : ∀ (d i : Nat) (a1 : A1) (a2 : A2), i0 ≤ i → i + d = e → I i a1 a2 → W (d + 1) (nI i) a1 a2 := by
    intro d
    induction d with
    | zero => intro i a1 a2 h1 h2 h; have : i = e := by omega
              subst this; exact hx _ a1 a2 h
    | succ d ih => intro i a1 a2 h1 h2 h
                   exact hs _ i a1 a2 h1 (by omega) h (fun b1 b2 h' => by rw [nI_1]; exact ih (i + 1) b1 b2 (by omega) (by omega) h')
  exact ⟨_, key (e - i0) i0 a1 a2 (Nat.le_refl _) (by omega) h0⟩
theorem ss_lp3 {A1 A2 A3 : Type} (e i0 : Nat) (W : Nat → Int32 → A1 → A2 → A3 → Prop) (I : Nat → A1 → A2 → A3 → Prop) (hx : ∀ (n : Nat) (a1 : A1) (a2 : A2) (a3 : A3), I e a1 a2 a3 → W (n + 1) (nI e) a1 a2 a3) (hs : ∀ (n i : Nat) (a1 : A1) (a2 : A2) (a3 : A3), i0 ≤ i → i < e → I i a1 a2 a3 → (∀ (b1 : A1) (b2 : A2) (b3 : A3), I (i + 1) b1 b2 b3 → W n (nI i + 1) b1 b2 b3) → W (n + 1) (nI i) a1 a2 a3) (a1 : A1) (a2 : A2) (a3 : A3) (x0 : Int32) (hx0 : x0 = nI i0) (hle : i0 ≤ e) (h0 : I i0 a1 a2 a3) : ∃ n, W n x0 a1 a2 a3 := by
  subst hx0
  have key : ∀ (d i : Nat) (a1 : A1) (a2 : A2) (a3 : A3), i0 ≤ i → i + d = e → I i a1 a2 a3 → W (d + 1) (nI i) a1 a2 a3 := by
    intro d
    induction d with
    | zero => intro i a1 a2 a3 h1 h2 h; have : i = e := by omega
              subst this; exact hx _ a1 a2 a3 h
    | succ d ih => intro i a1 a2 a3 h1 h2 h
                   exact hs _ i a1 a2 a3 h1 (by omega) h (fun b1 b2 b3 h' => by rw [nI_1]; exact ih (i + 1) b1 b2 b3 (by omega) (by omega) h')
  exact ⟨_, key (e - i0) i0 a1 a2 a3 (Nat.le_refl _) (by omega) h0⟩
theorem ss_lp4 {A1 A2 A3 A4 : Type} (e i0 : Nat) (W : Nat → Int32 → A1 → A2 → A3 → A4 → Prop) (I : Nat → A1 → A2 → A3 → A4 → Prop) (hx : ∀ (n : Nat) (a1 : A1) (a2 : A2) (a3 : A3) (a4 : A4), I e a1 a2 a3 a4 → W (n + 1) (nI e) a1 a2 a3 a4) (hs : ∀ (n i : Nat) (a1 : A1) (a2 : A2) (a3 : A3) (a4 : A4), i0 ≤ i → i < e → I i a1 a2 a3 a4 → (∀ (b1 : A1) (b2 : A2) (b3 : A3) (b4 : A4), I (i + 1) b1 b2 b3 b4 → W n (nI i + 1) b1 b2 b3 b4) → W (n + 1) (nI i) a1 a2 a3 a4) (a1 : A1) (a2 : A2) (a3 : A3) (a4 : A4) (x0 : Int32) (hx0 : x0 = nI i0) (hle : i0 ≤ e) (h0 : I i0 a1 a2 a3 a4) : ∃ n, W n x0 a1 a2 a3 a4 := by
  subst hx0
  have key : ∀ (d i : Nat) (a1 : A1) (a2 : A2) (a3 : A3) (a4 : A4), i0 ≤ i → i + d = e → I i a1 a2 a3 a4 → W (d + 1) (nI i) a1 a2 a3 a4 := by
    intro d
    induction d with
    | zero => intro i a1 a2 a3 a4 h1 h2 h; have : i = e := by omega
              subst this; exact hx _ a1 a2 a3 a4 h
    | succ d ih => intro i a1 a2 a3 a4 h1 h2 h
                   exact hs _ i a1 a2 a3 a4 h1 (by omega) h (fun b1 b2 b3 b4 h' => by rw [nI_1]; exact ih (i + 1) b1 b2 b3 b4 (by omega) (by omega) h')
  exact ⟨_, key (e - i0) i0 a1 a2 a3 a4 (Nat.le_refl _) (by omega) h0⟩
theorem ss_lp5 {A1 A2 A3 A4 A5 : Type} (e i0 : Nat) (W : Nat → Int32 → A1 → A2 → A3 → A4 → A5 → Prop) (I : Nat → A1 → A2 → A3 → A4 → A5 → Prop) (hx : ∀ (n : Nat) (a1 : A1) (a2 : A2) (a3 : A3) (a4 : A4) (a5 : A5), I e a1 a2 a3 a4 a5 → W (n + 1) (nI e) a1 a2 a3 a4 a5) (hs : ∀ (n i : Nat) (a1 : A1) (a2 : A2) (a3 : A3) (a4 : A4) (a5 : A5), i0 ≤ i → i < e → I i a1 a2 a3 a4 a5 → (∀ (b1 : A1) (b2 : A2) (b3 : A3) (b4 : A4) (b5 : A5), I (i + 1) b1 b2 b3 b4 b5 → W n (nI i + 1) b1 b2 b3 b4 b5) → W (n + 1) (nI i) a1 a2 a3 a4 a5) (a1 : A1) (a2 : A2) (a3 : A3) (a4 : A4) (a5 : A5) (x0 : Int32) (hx0 : x0 = nI i0) (hle : i0 ≤ e) (h0 : I i0 a1 a2 a3 a4 a5) : ∃ n, W n x0 a1 a2 a3 a4 a5 := by
  subst hx0
  have key : ∀ (d i : Nat) (a1 : A1) (a2 : A2) (a3 : A3) (a4 : A4) (a5 : A5), i0 ≤ i → i + d = e → I i a1 a2 a3 a4 a5 → W (d + 1) (nI i) a1 a2 a3 a4 a5 := by
    intro d
    induction d with
    | zero => intro i a1 a2 a3 a4 a5 h1 h2 h; have : i = e := by omega
              subst this; exact hx _ a1 a2 a3 a4 a5 h
    | succ d ih => intro i a1 a2 a3 a4 a5 h1 h2 h
                   exact hs _ i a1 a2 a3 a4 a5 h1 (by omega) h (fun b1 b2 b3 b4 b5 h' => by rw [nI_1]; exact ih (i + 1) b1 b2 b3 b4 b5 (by omega) (by omega) h')
  exact ⟨_, key (e - i0) i0 a1 a2 a3 a4 a5 (Nat.le_refl _) (by omega) h0⟩
theorem ss_lp6 {A1 A2 A3 A4 A5 A6 : Type} (e i0 : Nat) (W : Nat → Int32 → A1 → A2 → A3 → A4 → A5 → A6 → Prop) (I : Nat → A1 → A2 → A3 → A4 → A5 → A6 → Prop) (hx : ∀ (n : Nat) (a1 : A1) (a2 : A2) (a3 : A3) (a4 : A4) (a5 : A5) (a6 : A6), I e a1 a2 a3 a4 a5 a6 → W (n + 1) (nI e) a1 a2 a3 a4 a5 a6) (hs : ∀ (n i : Nat) (a1 : A1) (a2 : A2) (a3 : A3) (a4 : A4) (a5 : A5) (a6 : A6), i0 ≤ i → i < e → I i a1 a2 a3 a4 a5 a6 → (∀ (b1 : A1) (b2 : A2) (b3 : A3) (b4 : A4) (b5 : A5) (b6 : A6), I (i + 1) b1 b2 b3 b4 b5 b6 → W n (nI i + 1) b1 b2 b3 b4 b5 b6) → W (n + 1) (nI i) a1 a2 a3 a4 a5 a6) (a1 : A1) (a2 : A2) (a3 : A3) (a4 : A4) (a5 : A5) (a6 : A6) (x0 : Int32) (hx0 : x0 = nI i0) (hle : i0 ≤ e) (h0 : I i0 a1 a2 a3 a4 a5 a6) : ∃ n, W n x0 a1 a2 a3 a4 a5 a6 := by
  subst hx0
  have key : ∀ (d i : Nat) (a1 : A1) (a2 : A2) (a3 : A3) (a4 : A4) (a5 : A5) (a6 : A6), i0 ≤ i → i + d = e → I i a1 a2 a3 a4 a5 a6 → W (d + 1) (nI i) a1 a2 a3 a4 a5 a6 := by
    intro d
    induction d with
    | zero => intro i a1 a2 a3 a4 a5 a6 h1 h2 h; have : i = e := by omega
              subst this; exact hx _ a1 a2 a3 a4 a5 a6 h
    | succ d ih => intro i a1 a2 a3 a4 a5 a6 h1 h2 h
                   exact hs _ i a1 a2 a3 a4 a5 a6 h1 (by omega) h (fun b1 b2 b3 b4 b5 b6 h' => by rw [nI_1]; exact ih (i + 1) b1 b2 b3 b4 b5 b6 (by omega) (by omega) h')
  exact ⟨_, key (e - i0) i0 a1 a2 a3 a4 a5 a6 (Nat.le_refl _) (by omega) h0⟩
end
section
/-! 02: cells, rectangles, moves, content, layout -/
def ss_ins (d a b : Nat) : Prop := a / 6 ≤ d / 6 ∧ d / 6 ≤ b / 6 ∧ a % 6 ≤ d % 6 ∧ d % 6 ≤ b % 6
def ss_rec (a b : Nat) : Prop := a / 6 ≤ b / 6 ∧ a % 6 ≤ b % 6
def ss_nc (x : Int32) : Prop := x < 0 ∨ 36 ≤ x
theorem ss_cell (x : Int32) : ss_nc x ∨ ∃ j : Nat, j < 36 ∧ x = nI j := by
  rcases pk_ix x (n := 36) (by decide) with h | h | h
  · exact Or.inl (Or.inl h)
  · exact Or.inl (Or.inr h)
  · exact Or.inr h
theorem ss_d6 {a : Nat} (h : a < 36) : nI a / 6 = nI (a / 6) := pk_div (d := 6) (by omega) (by decide) (by decide)
theorem ss_r6 {a : Nat} (h : a < 36) : nI a - nI a / 6 * 6 = nI (a % 6) := pk_rem (d := 6) (by omega) (by decide) (by decide)
def ss_mv (p0 p1 p2 : Int32) : Int32 := if p0 / 6 + p1 < 0 then -1 else if 6 ≤ p0 / 6 + p1 then -1 else if (p0 - p0 / 6 * 6) + p2 < 0 then -1 else if 6 ≤ (p0 - p0 / 6 * 6) + p2 then -1 else (6 * (p0 / 6 + p1)) + ((p0 - p0 / 6 * 6) + p2)
theorem ss_3 (a b c : Nat) : nI a + (nI b - nI c) = nI (a + b) - nI c := by
  rw [← nI_add, Int32.sub_eq_add_neg, Int32.sub_eq_add_neg, Int32.add_assoc]
/-- the move of cell c by the way from y to x -/
def ss_sh (c x y : Nat) : Int32 := ss_mv (nI c) (nI x / 6 - nI y / 6) ((nI x - nI x / 6 * 6) - (nI y - nI y / 6 * 6))
theorem ss_lit (n : Nat) (h : n < 2 ^ 31) : (nI n).toInt = n := nI_toInt h
theorem ss_0i : (0 : Int32).toInt = 0 := by decide
theorem ss_6i : (6 : Int32).toInt = 6 := by decide
theorem ss_5i : (5 : Int32).toInt = 5 := by decide
theorem ss_lt0 {a b : Nat} (ha : a < 100) (hb : b < 100) : nI a - nI b < 0 ↔ a < b := by
  rw [Int32.lt_iff_toInt_lt, pk_sub_toInt (by omega) (by omega), ss_0i]; omega
theorem ss_ge6 {a b : Nat} (ha : a < 100) (hb : b < 100) : 6 ≤ nI a - nI b ↔ b + 6 ≤ a := by
  rw [Int32.le_iff_toInt_le, pk_sub_toInt (by omega) (by omega), ss_6i]; omega
theorem ss_sh_c {c x y : Nat} (hc : c < 36) (hx : x < 36) (hy : y < 36) : (∃ j, j < 36 ∧ ss_sh c x y = nI j ∧ j / 6 + y / 6 = c / 6 + x / 6 ∧ j % 6 + y % 6 = c % 6 + x % 6) ∨ (ss_sh c x y = -1 ∧ ∀ j, j < 36 → ¬ (j / 6 + y / 6 = c / 6 + x / 6 ∧ j % 6 + y % 6 = c % 6 + x % 6)) := by
  unfold ss_sh ss_mv
  rw [ss_r6 hc, ss_d6 hc, ss_r6 hx, ss_d6 hx, ss_r6 hy, ss_d6 hy, ss_3, ss_3]
  by_cases h1 : c / 6 + x / 6 < y / 6
  · right
    rw [if_pos ((ss_lt0 (by omega) (by omega)).mpr h1)]
    exact ⟨rfl, fun j _ z => by omega⟩
  rw [if_neg (fun z => h1 ((ss_lt0 (by omega) (by omega)).mp z))]
  by_cases h2 : y / 6 + 6 ≤ c / 6 + x / 6
  · right
    rw [if_pos ((ss_ge6 (by omega) (by omega)).mpr h2)]
    exact ⟨rfl, fun j _ z => by omega⟩
  rw [if_neg (fun z => h2 ((ss_ge6 (by omega) (by omega)).mp z))]
  by_cases h3 : c % 6 + x % 6 < y % 6
  · right
    rw [if_pos ((ss_lt0 (by omega) (by omega)).mpr h3)]
    exact ⟨rfl, fun j _ z => by omega⟩
  rw [if_neg (fun z => h3 ((ss_lt0 (by omega) (by omega)).mp z))]
  by_cases h4 : y % 6 + 6 ≤ c % 6 + x % 6
  · right
    rw [if_pos ((ss_ge6 (by omega) (by omega)).mpr h4)]
    exact ⟨rfl, fun j _ z => by omega⟩
  rw [if_neg (fun z => h4 ((ss_ge6 (by omega) (by omega)).mp z))]
  left
  refine ⟨6 * (c / 6 + x / 6 - y / 6) + (c % 6 + x % 6 - y % 6), by omega, ?_, by omega, by omega⟩
  rw [pk_sub (by omega), pk_sub (by omega), show (6 : Int32) = nI 6 from rfl, pk_mul, nI_add]
/-! the walk of 'moved' -/
theorem ss_xmv {post : Int32 → Prop} {p0 p1 p2 : Int32} (h : post (ss_mv p0 p1 p2)) : wpX_moved post p0 p1 p2 := by
  unfold ss_mv at h
  unfold wpX_moved
  refine ⟨ss_60, nm_e ⟨ss_60, nm_e ?_⟩⟩
  refine br_c (fun c => ?_) (fun c => br_c (fun c2 => ?_) (fun c2 => br_c (fun c3 => ?_) (fun c3 => br_c (fun c4 => ?_) (fun c4 => ?_))))
  · rw [if_pos c] at h; exact br_t rfl h
  · rw [if_neg c, if_pos c2] at h; exact br_t rfl h
  · rw [if_neg c, if_neg c2, if_pos c3] at h; exact br_t rfl h
  · rw [if_neg c, if_neg c2, if_neg c3, if_pos c4] at h; exact br_t rfl h
  · rw [if_neg c, if_neg c2, if_neg c3, if_neg c4] at h; exact br_f (by decide) h
theorem ss_5lt (x : Int32) : 5 < x ↔ 6 ≤ x := by rw [Int32.lt_iff_toInt_lt, Int32.le_iff_toInt_le, ss_5i, ss_6i]; omega
theorem ss_le5 (x : Int32) : x ≤ 5 ↔ ¬ 6 ≤ x := by rw [Int32.le_iff_toInt_le, Int32.le_iff_toInt_le, ss_5i, ss_6i]; omega
section
variable {K op o1 o2 o3 fm wk nx : Nat → Int32} {dy fa : Nat → Int64}
theorem ss_ymv {post : Int32 → Prop} {p0 p1 p2 : Int32} (h : post (ss_mv p0 p1 p2)) : wpY_moved post (K, op, o1, o2, o3, fm, dy, fa, wk, nx) p0 p1 p2 := by
  unfold ss_mv at h
  unfold wpY_moved
  refine ⟨ss_60, nm_e ⟨ss_60, nm_e ?_⟩⟩
  refine br_c (fun c => ?_) (fun c => br_c (fun c2 => ?_) (fun c2 => br_c (fun c3 => ?_) (fun c3 => br_c (fun c4 => ?_) (fun c4 => ?_))))
  · rw [if_pos c] at h; exact h
  · rw [if_neg c, if_pos ((ss_5lt _).mp c2)] at h; exact h
  · rw [if_neg c, if_neg (fun z => c2 ((ss_5lt _).mpr z)), if_pos c3] at h; exact h
  · rw [if_neg c, if_neg (fun z => c2 ((ss_5lt _).mpr z)), if_neg c3, if_neg ((ss_le5 _).mp c4)] at h; exact h
  · rw [if_neg c, if_neg (fun z => c2 ((ss_5lt _).mpr z)), if_neg c3, if_pos (Decidable.not_not.mp (fun z => c4 ((ss_le5 _).mpr z)))] at h; exact h
/-- 'inside' -/
theorem ss_yins {post : Int32 → Prop} {d a b : Nat} (hd : d < 36) (ha : a < 36) (hb : b < 36) (h1 : ss_ins d a b → post 1) (h0 : ¬ ss_ins d a b → post 0) : wpY_inside post (K, op, o1, o2, o3, fm, dy, fa, wk, nx) (nI d) (nI a) (nI b) := by
  unfold wpY_inside
  simp only [ss_r6 hd, ss_r6 ha, ss_r6 hb]
  simp only [ss_d6 hd, ss_d6 ha, ss_d6 hb, nI_ltI (show d / 6 < 2 ^ 31 by omega) (show a / 6 < 2 ^ 31 by omega), nI_ltI (show b / 6 < 2 ^ 31 by omega) (show d / 6 < 2 ^ 31 by omega), nI_ltI (show d % 6 < 2 ^ 31 by omega) (show a % 6 < 2 ^ 31 by omega), nI_ltI (show b % 6 < 2 ^ 31 by omega) (show d % 6 < 2 ^ 31 by omega)]
  unfold ss_ins at h1 h0
  refine ⟨ss_60, ss_60, br_c (fun c => h0 (by omega)) (fun c => ⟨ss_60, ss_60, br_c (fun c2 => h0 (by omega)) (fun c2 => ⟨ss_60, ss_60, br_c (fun c3 => h0 (by omega)) (fun c3 => ⟨ss_60, ss_60, br_c (fun c4 => h0 (by omega)) (fun c4 => h1 (by omega))⟩)⟩)⟩)⟩
end
/-! content: what a kind says of the three entries; what ties Y's entries to X's -/
def ss_isc (x : Int32) : Prop := ∃ j : Nat, j < 36 ∧ x = nI j
def ss_isr (x y : Int32) : Prop := ∃ a b : Nat, a < 36 ∧ b < 36 ∧ x = nI a ∧ y = nI b ∧ ss_rec a b
def ss_wf (k f s t : Int32) : Prop := k = 0 ∨ k = 1 ∨ (k = 2 ∧ ss_isc f ∧ ss_isc s ∧ ¬ t < 0) ∨ (k = 3 ∧ ss_isr f s ∧ t = 0) ∨ (k = 4 ∧ ss_isc f ∧ ss_isc s ∧ ss_isc t) ∨ (k = 5 ∧ ss_isr f s ∧ t = 0) ∨ k = 6
def ss_yc (k f s t o1 o2 o3 op : Int32) : Prop := k ≠ 6 → (o1 = f ∧ o2 = s ∧ (k = 2 → op = t ∧ o3 = 0) ∧ (k ≠ 2 → o3 = t))
def ss_WF (K F S T : Nat → Int32) : Prop := ∀ c, c < 36 → ss_wf (K c) (F c) (S c) (T c)
def ss_YC (K F S T o1 o2 o3 op : Nat → Int32) : Prop := ∀ c, c < 36 → ss_yc (K c) (F c) (S c) (T c) (o1 c) (o2 c) (o3 c) (op c)
theorem ss_wf2 {k f s t : Int32} (h : ss_wf k f s t) (e : k = 2) : ss_isc f ∧ ss_isc s ∧ ¬ t < 0 := by
  subst e
  rcases h with h | h | h | h | h | h | h
  · exact absurd h (by decide)
  · exact absurd h (by decide)
  · exact h.2
  · exact absurd h.1 (by decide)
  · exact absurd h.1 (by decide)
  · exact absurd h.1 (by decide)
  · exact absurd h (by decide)
theorem ss_wf3 {k f s t : Int32} (h : ss_wf k f s t) (e : k = 3) : ss_isr f s ∧ t = 0 := by
  subst e
  rcases h with h | h | h | h | h | h | h
  · exact absurd h (by decide)
  · exact absurd h (by decide)
  · exact absurd h.1 (by decide)
  · exact h.2
  · exact absurd h.1 (by decide)
  · exact absurd h.1 (by decide)
  · exact absurd h (by decide)
theorem ss_wf4 {k f s t : Int32} (h : ss_wf k f s t) (e : k = 4) : ss_isc f ∧ ss_isc s ∧ ss_isc t := by
  subst e
  rcases h with h | h | h | h | h | h | h
  · exact absurd h (by decide)
  · exact absurd h (by decide)
  · exact absurd h.1 (by decide)
  · exact absurd h.1 (by decide)
  · exact h.2
  · exact absurd h.1 (by decide)
  · exact absurd h (by decide)
theorem ss_wf5 {k f s t : Int32} (h : ss_wf k f s t) (e : k = 5) : ss_isr f s ∧ t = 0 := by
  subst e
  rcases h with h | h | h | h | h | h | h
  · exact absurd h (by decide)
  · exact absurd h (by decide)
  · exact absurd h.1 (by decide)
  · exact absurd h.1 (by decide)
  · exact absurd h.1 (by decide)
  · exact h.2
  · exact absurd h (by decide)
/-! layout -/
def ss_end (F S : Nat → Int32) (s : Nat) : Int32 := ss_mv (nI s) (S s / 6 - F s / 6) ((S s - S s / 6 * 6) - (F s - F s / 6 * 6))
def ss_ar (F S : Nat → Int32) (s c : Nat) : Prop := 0 ≤ ss_end F S s ∧ ss_ins c s (ss_end F S s).toNatClampNeg
def ss_op (K F S o : Nat → Int32) (s : Nat) : Prop := K s = 5 ∧ 0 ≤ ss_end F S s ∧ ∀ c, c < 36 → ss_ar F S s c → (c = s ∨ K c = 0) ∧ o c = -2
noncomputable def ss_ow (K F S : Nat → Int32) : Nat → Nat → Int32
  | 0 => fun _ => -2
  | s + 1 => fun c => ss_ite (ss_op K F S (ss_ow K F S s) s ∧ ss_ar F S s c) (nI s) (ss_ow K F S s c)
def ss_sw (F : Nat → Int32) (o : Int32) (c : Nat) : Int32 := if o = -2 then -2 else ss_mv (F o.toNatClampNeg) (nI c / 6 - o / 6) ((nI c - nI c / 6 * 6) - (o - o / 6 * 6))
theorem ss_end_c {K F S T : Nat → Int32} (w : ss_WF K F S T) {s : Nat} (hs : s < 36) (h5 : K s = 5) : ∃ a b, a < 36 ∧ b < 36 ∧ F s = nI a ∧ S s = nI b ∧ ss_rec a b ∧ ((∃ e, e < 36 ∧ ss_end F S s = nI e ∧ e / 6 + a / 6 = s / 6 + b / 6 ∧ e % 6 + a % 6 = s % 6 + b % 6) ∨ ss_end F S s = -1) := by
  obtain ⟨⟨a, b, ha, hb, ea, eb, hr⟩, _⟩ := ss_wf5 (w s hs) h5
  refine ⟨a, b, ha, hb, ea, eb, hr, ?_⟩
  have e : ss_end F S s = ss_sh s b a := by unfold ss_end ss_sh; rw [ea, eb]
  rw [e]
  rcases ss_sh_c hs hb ha with h | h
  · exact Or.inl h
  · exact Or.inr h.1
theorem ss_m1n : ¬ (0 : Int32) ≤ -1 := by decide
theorem ss_ar_s {K F S T : Nat → Int32} (w : ss_WF K F S T) {s : Nat} (hs : s < 36) (h5 : K s = 5) (h0 : 0 ≤ ss_end F S s) : ss_ar F S s s := by
  refine ⟨h0, ?_⟩
  obtain ⟨a, b, ha, hb, ea, eb, hr, h⟩ := ss_end_c w hs h5
  rcases h with ⟨e, he, ee, e1, e2⟩ | h
  · rw [ee, ss_cl he]
    unfold ss_rec at hr
    unfold ss_ins
    omega
  · rw [h] at h0; exact absurd h0 ss_m1n
theorem ss_ow_0 (K F S : Nat → Int32) (c : Nat) : ss_ow K F S 0 c = -2 := rfl
theorem ss_ow_t {K F S : Nat → Int32} {s c : Nat} (h : ss_op K F S (ss_ow K F S s) s) (h' : ss_ar F S s c) : ss_ow K F S (s + 1) c = nI s := ss_it ⟨h, h'⟩
theorem ss_ow_f {K F S : Nat → Int32} {s c : Nat} (h : ¬ (ss_op K F S (ss_ow K F S s) s ∧ ss_ar F S s c)) : ss_ow K F S (s + 1) c = ss_ow K F S s c := ss_if h
theorem ss_ow_v (K F S : Nat → Int32) (c : Nat) : ∀ s, ss_ow K F S s c = -2 ∨ ∃ j, j < s ∧ ss_ow K F S s c = nI j ∧ K j = 5 ∧ ss_ar F S j c := by
  intro s
  induction s with
  | zero => exact Or.inl rfl
  | succ s ih =>
    by_cases h : ss_op K F S (ss_ow K F S s) s ∧ ss_ar F S s c
    · exact Or.inr ⟨s, by omega, ss_ow_t h.1 h.2, h.1.1, h.2⟩
    · rw [ss_ow_f h]
      rcases ih with ih | ⟨j, hj, e⟩
      · exact Or.inl ih
      · exact Or.inr ⟨j, by omega, e⟩
theorem ss_ow_k {K F S : Nat → Int32} {s c : Nat} (hc : c < 36) (h : ¬ ss_ow K F S s c = -2) : ss_ow K F S (s + 1) c = ss_ow K F S s c :=
  ss_ow_f fun z => h (z.1.2.2 c hc z.2).2
/-- whether a cell is its own owner -/
theorem ss_ow_self {K F S T : Nat → Int32} (w : ss_WF K F S T) {s c : Nat} (hs : s < 36) (hcs : c < s) : (ss_ow K F S (s + 1) c = nI c ↔ ss_ow K F S s c = nI c) := by
  by_cases h : ss_ow K F S s c = -2
  · constructor
    · intro e
      by_cases z : ss_op K F S (ss_ow K F S s) s ∧ ss_ar F S s c
      · rw [ss_ow_t z.1 z.2] at e
        have := ss_inj hs (by omega) e
        omega
      · rw [ss_ow_f z] at e; exact e
    · intro e
      rw [h] at e
      exact absurd e.symm (ss_n2 (by omega))
  · rw [ss_ow_k (by omega) h]
theorem ss_sw_c {K F S T : Nat → Int32} (w : ss_WF K F S T) {s c : Nat} (hs : s ≤ 36) (hc : c < 36) : (ss_ow K F S s c = -2 ∧ ss_sw F (ss_ow K F S s c) c = -2) ∨ (¬ ss_ow K F S s c = -2 ∧ ∃ j, j < 36 ∧ ss_sw F (ss_ow K F S s c) c = nI j) := by
  rcases ss_ow_v K F S c s with h | ⟨j, hj, e, k5, h0, hi⟩
  · left
    rw [h]
    exact ⟨rfl, if_pos rfl⟩
  · right
    have hj6 : j < 36 := by omega
    rw [e]
    refine ⟨ss_n2 hj6, ?_⟩
    obtain ⟨a, b, ha, hb, ea, eb, hr, h⟩ := ss_end_c w hj6 k5
    rcases h with ⟨x, hx, ee, e1, e2⟩ | h
    · rw [ee, ss_cl hx] at hi
      have q : ss_sw F (nI j) c = ss_sh a c j := by
        unfold ss_sw ss_sh
        rw [if_neg (ss_n2 hj6), ss_cl hj6, ea]
      rw [q]
      rcases ss_sh_c ha hc hj6 with ⟨y, hy, ey, _⟩ | ⟨_, z⟩
      · exact ⟨y, hy, ey⟩
      · exfalso
        unfold ss_rec at hr
        unfold ss_ins at hi
        exact z (6 * (a / 6 + c / 6 - j / 6) + (a % 6 + c % 6 - j % 6)) (by omega) (by omega)
    · rw [h] at h0; exact absurd h0 ss_m1n
end
section
/-! 03: closure by stages, rank, sums, maxima, depth -/
def ss_W (D : Nat → Nat → Prop) : Nat → Nat → Nat → Prop
  | 0 => D
  | k + 1 => fun c d => ss_W D k c d ∨ (ss_W D k c k ∧ ss_W D k k d)
theorem ss_W_s (D : Nat → Nat → Prop) (k c d : Nat) : ss_W D (k + 1) c d ↔ (ss_W D k c d ∨ (ss_W D k c k ∧ ss_W D k k d)) := Iff.rfl
theorem ss_W_k (D : Nat → Nat → Prop) (k d : Nat) : ss_W D (k + 1) k d ↔ ss_W D k k d := ⟨fun h => h.elim id (fun z => z.2), fun h => Or.inl h⟩
theorem ss_W_le {D : Nat → Nat → Prop} {j c d : Nat} : ∀ k, j ≤ k → ss_W D j c d → ss_W D k c d := by
  intro k
  induction k with
  | zero => intro h z; have : j = 0 := by omega
            subst this; exact z
  | succ k ih =>
    intro h z
    by_cases e : j = k + 1
    · subst e; exact z
    · exact Or.inl (ih (by omega) z)
theorem ss_W_tr (D : Nat → Nat → Prop) : ∀ k c x d, x < k → ss_W D k c x → ss_W D k x d → ss_W D k c d := by
  intro k
  induction k with
  | zero => intro c x d h; omega
  | succ k ih =>
    intro c x d h h1 h2
    by_cases e : x = k
    · subst e
      right
      refine ⟨?_, (ss_W_k D _ d).mp h2⟩
      rcases h1 with h1 | h1
      · exact h1
      · exact h1.1
    · have hx : x < k := by omega
      rcases h1 with h1 | h1 <;> rcases h2 with h2 | h2
      · exact Or.inl (ih c x d hx h1 h2)
      · exact Or.inr ⟨ih c x k hx h1 h2.1, h2.2⟩
      · exact Or.inr ⟨h1.1, ih k x d hx h1.2 h2⟩
      · exact Or.inr ⟨h1.1, h2.2⟩
theorem ss_W_min {D R : Nat → Nat → Prop} (h1 : ∀ c d, c < 36 → d < 36 → D c d → R c d) (h2 : ∀ c x d, c < 36 → x < 36 → d < 36 → R c x → R x d → R c d) : ∀ k, k ≤ 36 → ∀ c d, c < 36 → d < 36 → ss_W D k c d → R c d := by
  intro k
  induction k with
  | zero => intro _ c d hc hd h; exact h1 c d hc hd h
  | succ k ih =>
    intro hk c d hc hd h
    rcases h with h | h
    · exact ih (by omega) c d hc hd h
    · exact h2 c k d hc (by omega) hd (ih (by omega) c k hc (by omega) h.1) (ih (by omega) k d (by omega) hd h.2)
/-! counting -/
noncomputable def ss_cn (p : Nat → Prop) : Nat → Nat
  | 0 => 0
  | n + 1 => ss_cn p n + ss_ite (p n) 1 0
theorem ss_cn_le {p q : Nat → Prop} : ∀ n, (∀ i, i < n → p i → q i) → ss_cn p n ≤ ss_cn q n := by
  intro n
  induction n with
  | zero => intro _; exact Nat.le_refl _
  | succ n ih =>
    intro h
    have a := ih fun i hi => h i (by omega)
    show ss_cn p n + ss_ite (p n) 1 0 ≤ ss_cn q n + ss_ite (q n) 1 0
    by_cases c : p n
    · rw [ss_it c, ss_it (h n (by omega) c)]; omega
    · rw [ss_if c]; omega
theorem ss_cn_lt {p q : Nat → Prop} {j : Nat} : ∀ n, (∀ i, i < n → p i → q i) → j < n → q j → ¬ p j → ss_cn p n < ss_cn q n := by
  intro n
  induction n with
  | zero => intro _ h; omega
  | succ n ih =>
    intro h hj hq hp
    show ss_cn p n + ss_ite (p n) 1 0 < ss_cn q n + ss_ite (q n) 1 0
    by_cases e : j = n
    · subst e
      rw [ss_if hp, ss_it hq]
      have := ss_cn_le (p := p) (q := q) j fun i hi => h i (by omega)
      omega
    · have a := ih (fun i hi => h i (by omega)) (by omega) hq hp
      by_cases c : p n
      · rw [ss_it c, ss_it (h n (by omega) c)]; omega
      · rw [ss_if c]; omega
theorem ss_cn_t : ∀ n, ss_cn (fun _ => True) n = n := by
  intro n
  induction n with
  | zero => rfl
  | succ n ih =>
    show ss_cn (fun _ => True) n + ss_ite True 1 0 = n + 1
    rw [ih, ss_it trivial]
/-! circles and rank -/
def ss_ac (D : Nat → Nat → Prop) (c : Nat) : Prop := ∀ d, d < 36 → (d = c ∨ ss_W D 36 c d) → ¬ ss_W D 36 d d
noncomputable def ss_rk (D : Nat → Nat → Prop) (c : Nat) : Nat := ss_cn (ss_W D 36 c) 36
theorem ss_C_1 {D : Nat → Nat → Prop} {c d : Nat} (h : D c d) : ss_W D 36 c d := ss_W_le (j := 0) 36 (by omega) h
theorem ss_C_t {D : Nat → Nat → Prop} {c x d : Nat} (hx : x < 36) (h : ss_W D 36 c x) (h' : ss_W D 36 x d) : ss_W D 36 c d := ss_W_tr D 36 c x d hx h h'
theorem ss_ac_d {D : Nat → Nat → Prop} {c d : Nat} (hd : d < 36) (h : ss_ac D c) (e : D c d) : ss_ac D d := by
  intro x hx hr
  apply h x hx
  right
  rcases hr with rfl | hr
  · exact ss_C_1 e
  · exact ss_C_t hd (ss_C_1 e) hr
theorem ss_rk_lt {D : Nat → Nat → Prop} {c d : Nat} (hd : d < 36) (h : ss_ac D c) (e : D c d) : ss_rk D d < ss_rk D c :=
  ss_cn_lt (j := d) 36 (fun i _ z => ss_C_t hd (ss_C_1 e) z) hd (ss_C_1 e) (h d hd (Or.inr (ss_C_1 e)))
theorem ss_rk_b {D : Nat → Nat → Prop} {c : Nat} (hc : c < 36) (h : ss_ac D c) : ss_rk D c < 36 := by
  have := ss_cn_lt (p := ss_W D 36 c) (q := fun _ => True) (j := c) 36 (fun _ _ _ => trivial) hc trivial (h c hc (Or.inl rfl))
  rw [ss_cn_t] at this
  exact this
/-! sums in order -/
noncomputable def ss_sm (p : Nat → Prop) (f : Nat → Int32) : Nat → Int32
  | 0 => 0
  | n + 1 => ss_ite (p n) (ss_sm p f n + f n) (ss_sm p f n)
theorem ss_sm_t {p : Nat → Prop} {f : Nat → Int32} {n : Nat} (h : p n) : ss_sm p f (n + 1) = ss_sm p f n + f n := ss_it h
theorem ss_sm_f {p : Nat → Prop} {f : Nat → Int32} {n : Nat} (h : ¬ p n) : ss_sm p f (n + 1) = ss_sm p f n := ss_if h
theorem ss_sm_cg {p : Nat → Prop} {f g : Nat → Int32} : ∀ n, (∀ i, i < n → p i → f i = g i) → ss_sm p f n = ss_sm p g n := by
  intro n
  induction n with
  | zero => intro _; rfl
  | succ n ih =>
    intro h
    have a := ih fun i hi => h i (by omega)
    by_cases c : p n
    · rw [ss_sm_t c, ss_sm_t c, a, h n (by omega) c]
    · rw [ss_sm_f c, ss_sm_f c, a]
theorem ss_sm_sk {p : Nat → Prop} {f : Nat → Int32} {m : Nat} : ∀ d, (∀ i, m ≤ i → i < m + d → ¬ p i) → ss_sm p f (m + d) = ss_sm p f m := by
  intro d
  induction d with
  | zero => intro _; rfl
  | succ d ih =>
    intro h
    rw [← Nat.add_assoc, ss_sm_f (h (m + d) (by omega) (by omega))]
    exact ih fun i h1 h2 => h i h1 (by omega)
theorem ss_sm_sk' {p : Nat → Prop} {f : Nat → Int32} {m n : Nat} (hmn : m ≤ n) (h : ∀ i, m ≤ i → i < n → ¬ p i) : ss_sm p f n = ss_sm p f m := by
  obtain ⟨d, rfl⟩ : ∃ d, n = m + d := ⟨n - m, by omega⟩
  exact ss_sm_sk d h
/-! maxima -/
noncomputable def ss_mx (p : Nat → Prop) (g : Nat → Nat) : Nat → Nat
  | 0 => 0
  | n + 1 => ss_ite (p n ∧ ss_mx p g n < g n) (g n) (ss_mx p g n)
noncomputable def ss_mi (p : Nat → Prop) (f : Nat → Int32) : Nat → Int32
  | 0 => 0
  | n + 1 => ss_ite (p n ∧ ¬ f n ≤ ss_mi p f n) (f n) (ss_mi p f n)
theorem ss_mi_t {p : Nat → Prop} {f : Nat → Int32} {n : Nat} (h : p n ∧ ¬ f n ≤ ss_mi p f n) : ss_mi p f (n + 1) = f n := ss_it h
theorem ss_mi_f {p : Nat → Prop} {f : Nat → Int32} {n : Nat} (h : ¬ (p n ∧ ¬ f n ≤ ss_mi p f n)) : ss_mi p f (n + 1) = ss_mi p f n := ss_if h
theorem ss_mx_t {p : Nat → Prop} {f : Nat → Nat} {n : Nat} (h : p n ∧ ss_mx p f n < f n) : ss_mx p f (n + 1) = f n := ss_it h
theorem ss_mx_f {p : Nat → Prop} {f : Nat → Nat} {n : Nat} (h : ¬ (p n ∧ ss_mx p f n < f n)) : ss_mx p f (n + 1) = ss_mx p f n := ss_if h
theorem ss_mx_b {p : Nat → Prop} {g : Nat → Nat} {B : Nat} : ∀ n, (∀ i, i < n → p i → g i ≤ B) → ss_mx p g n ≤ B := by
  intro n
  induction n with
  | zero => intro _; exact Nat.zero_le _
  | succ n ih =>
    intro h
    have a := ih fun i hi => h i (by omega)
    by_cases c : p n ∧ ss_mx p g n < g n
    · rw [ss_mx_t c]; exact h n (by omega) c.1
    · rw [ss_mx_f c]; exact a
theorem ss_mx_mo {p : Nat → Prop} {g g' : Nat → Nat} : ∀ n, (∀ i, i < n → p i → g i ≤ g' i) → ss_mx p g n ≤ ss_mx p g' n := by
  intro n
  induction n with
  | zero => intro _; exact Nat.le_refl _
  | succ n ih =>
    intro h
    have a := ih fun i hi => h i (by omega)
    by_cases c : p n ∧ ss_mx p g n < g n
    · rw [ss_mx_t c]
      have b := h n (by omega) c.1
      by_cases c' : p n ∧ ss_mx p g' n < g' n
      · rw [ss_mx_t c']; exact b
      · rw [ss_mx_f c']
        have : ¬ ss_mx p g' n < g' n := fun z => c' ⟨c.1, z⟩
        omega
    · rw [ss_mx_f c]
      by_cases c' : p n ∧ ss_mx p g' n < g' n
      · rw [ss_mx_t c']; omega
      · rw [ss_mx_f c']; exact a
theorem ss_mx_cg {p : Nat → Prop} {g g' : Nat → Nat} {n : Nat} (h : ∀ i, i < n → p i → g i = g' i) : ss_mx p g n = ss_mx p g' n :=
  Nat.le_antisymm (ss_mx_mo n fun i hi hp => Nat.le_of_eq (h i hi hp)) (ss_mx_mo n fun i hi hp => Nat.le_of_eq (h i hi hp).symm)
theorem ss_mi_n {p : Nat → Prop} {f : Nat → Int32} {g : Nat → Nat} : ∀ n, (∀ i, i < n → p i → f i = nI (g i) ∧ g i ≤ 100) → ss_mi p f n = nI (ss_mx p g n) := by
  intro n
  induction n with
  | zero => intro _; rfl
  | succ n ih =>
    intro h
    have a := ih fun i hi => h i (by omega)
    have b := ss_mx_b (B := 100) n fun i hi hp => (h i (by omega) hp).2
    by_cases c : p n
    · obtain ⟨e, hb⟩ := h n (by omega) c
      have q : (¬ f n ≤ ss_mi p f n) ↔ ss_mx p g n < g n := by
        rw [a, e, nI_leI (by omega) (by omega)]; omega
      by_cases z : ss_mx p g n < g n
      · rw [ss_mi_t ⟨c, q.mpr z⟩, ss_mx_t ⟨c, z⟩, e]
      · rw [ss_mi_f (fun y => z (q.mp y.2)), ss_mx_f (fun y => z y.2), a]
    · rw [ss_mi_f (fun y => c y.1), ss_mx_f (fun y => c y.1), a]
/-! depth -/
noncomputable def ss_dp (D : Nat → Nat → Prop) : Nat → Nat → Nat
  | 0 => fun _ => 1
  | n + 1 => fun c => ss_mx (D c) (ss_dp D n) 36 + 1
theorem ss_dp_b (D : Nat → Nat → Prop) : ∀ n c, 1 ≤ ss_dp D n c ∧ ss_dp D n c ≤ n + 1 := by
  intro n
  induction n with
  | zero => intro c; exact ⟨Nat.le_refl _, Nat.le_refl _⟩
  | succ n ih =>
    intro c
    have := ss_mx_b (p := D c) (g := ss_dp D n) (B := n + 1) 36 fun i _ _ => (ih i).2
    show 1 ≤ ss_mx (D c) (ss_dp D n) 36 + 1 ∧ ss_mx (D c) (ss_dp D n) 36 + 1 ≤ n + 1 + 1
    omega
theorem ss_dp_s (D : Nat → Nat → Prop) : ∀ n m c, ss_ac D c → ss_rk D c < n → ss_rk D c < m → ss_dp D n c = ss_dp D m c := by
  intro n
  induction n with
  | zero => intro m c _ h; omega
  | succ n ih =>
    intro m c ha h1 h2
    cases m with
    | zero => omega
    | succ m =>
      show ss_mx (D c) (ss_dp D n) 36 + 1 = ss_mx (D c) (ss_dp D m) 36 + 1
      rw [ss_mx_cg fun d hd e => ih m d (ss_ac_d hd ha e) (by have := ss_rk_lt hd ha e; omega) (by have := ss_rk_lt hd ha e; omega)]
theorem ss_dp_e {D : Nat → Nat → Prop} {c : Nat} (hc : c < 36) (ha : ss_ac D c) : ss_dp D 36 c = ss_mx (D c) (ss_dp D 36) 36 + 1 := by
  have h := ss_rk_b hc ha
  rw [ss_dp_s D 36 37 c ha h (by omega)]
  rfl
theorem ss_dp_37 (D : Nat → Nat → Prop) (c : Nat) : 1 ≤ ss_dp D 36 c ∧ ss_dp D 36 c ≤ 37 := ss_dp_b D 36 c
/-! the fixpoint of values is one -/
theorem ss_fx {D : Nat → Nat → Prop} {on : Nat → Prop} {ev : (Nat → Int32) → Nat → Int32} (hac : ∀ c, c < 36 → on c → ss_ac D c) (hev : ∀ c, c < 36 → on c → ∀ v v' : Nat → Int32, (∀ d, d < 36 → D c d → v d = v' d) → ev v c = ev v' c) {f g : Nat → Int32} (hf : ∀ c, c < 36 → f c = ss_ite (on c) (ev f c) 0) (hg : ∀ c, c < 36 → g c = ss_ite (on c) (ev g c) 0) : ∀ c, c < 36 → g c = f c := by
  have key : ∀ n c, c < 36 → ss_rk D c < n → g c = f c := by
    intro n
    induction n with
    | zero => intro c _ h; omega
    | succ n ih =>
      intro c hc h
      rw [hf c hc, hg c hc]
      by_cases o : on c
      · rw [ss_it o, ss_it o]
        exact hev c hc o g f fun d hd e => ih d hd (by have := ss_rk_lt hd (hac c hc o) e; omega)
      · rw [ss_if o, ss_if o]
  intro c hc
  exact key (ss_rk D c + 1) c hc (by omega)
theorem ss_up_id (f : Nat → Int32) (k : Nat) {x : Int32} (h : x = f k) : upd f k x = f := by
  funext j
  by_cases e : j = k
  · subst e; rw [pk_us, h]
  · rw [pk_un e]
theorem ss_uL_id (f : Nat → Int64) (k : Nat) {x : Int64} (h : x = f k) : vp_updL f k x = f := by
  funext j
  by_cases e : j = k
  · subst e; rw [pk_uLs, h]
  · rw [pk_uLn e]
end
section
/-! 04: what a cell depends on, its state, its value -/
def ss_ds (k f s t h : Int32) (d : Nat) : Prop := (¬ h = -2 ∧ h = nI d) ∨ (h = -2 ∧ ((k = 2 ∧ (f = nI d ∨ s = nI d)) ∨ (k = 3 ∧ ss_ins d f.toNatClampNeg s.toNatClampNeg) ∨ (k = 4 ∧ (f = nI d ∨ s = nI d ∨ t = nI d))))
def ss_cb (o a b : Int32) : Int32 := if o = 0 then a + b else if o = 1 then a - b else if o = 2 then a * b else if o = 3 then (if b ≤ a then b else a) else (if a ≤ b then b else a)
noncomputable def ss_evs (k f s t h : Int32) (v : Nat → Int32) : Int32 := if h = -2 then (if k = 1 then f else if k = 3 then ss_sm (fun d => ss_ins d f.toNatClampNeg s.toNatClampNeg) v 36 else if k = 4 then (if v f.toNatClampNeg ≤ 0 then v t.toNatClampNeg else v s.toNatClampNeg) else ss_cb t (v f.toNatClampNeg) (v s.toNatClampNeg)) else v h.toNatClampNeg
theorem ss_ev_cg {k f s t h : Int32} {v v' : Nat → Int32} (w : ss_wf k f s t) (hh : h = -2 ∨ ss_isc h) (hk : h = -2 → k ≠ 0 ∧ k ≠ 5 ∧ k ≠ 6) (hv : ∀ d, d < 36 → ss_ds k f s t h d → v d = v' d) : ss_evs k f s t h v = ss_evs k f s t h v' := by
  unfold ss_evs
  by_cases e : h = -2
  · rw [if_pos e, if_pos e]
    by_cases k1 : k = 1
    · rw [if_pos k1, if_pos k1]
    rw [if_neg k1, if_neg k1]
    by_cases k3 : k = 3
    · rw [if_pos k3, if_pos k3]
      exact ss_sm_cg 36 fun i hi hp => hv i hi (Or.inr ⟨e, Or.inr (Or.inl ⟨k3, hp⟩)⟩)
    rw [if_neg k3, if_neg k3]
    by_cases k4 : k = 4
    · rw [if_pos k4, if_pos k4]
      obtain ⟨⟨a, ha, ea⟩, ⟨b, hb, eb⟩, ⟨c, hc, ec⟩⟩ := ss_wf4 w k4
      rw [ea, eb, ec, ss_cl ha, ss_cl hb, ss_cl hc]
      rw [hv a ha (Or.inr ⟨e, Or.inr (Or.inr ⟨k4, Or.inl ea⟩)⟩), hv b hb (Or.inr ⟨e, Or.inr (Or.inr ⟨k4, Or.inr (Or.inl eb)⟩)⟩), hv c hc (Or.inr ⟨e, Or.inr (Or.inr ⟨k4, Or.inr (Or.inr ec)⟩)⟩)]
    rw [if_neg k4, if_neg k4]
    have k2 : k = 2 := by
      rcases w with h | h | h | h | h | h | h
      · exact absurd h (hk e).1
      · exact absurd h k1
      · exact h.1
      · exact absurd h.1 k3
      · exact absurd h.1 k4
      · exact absurd h.1 (hk e).2.1
      · exact absurd h (hk e).2.2
    obtain ⟨⟨a, ha, ea⟩, ⟨b, hb, eb⟩, _⟩ := ss_wf2 w k2
    rw [ea, eb, ss_cl ha, ss_cl hb]
    rw [hv a ha (Or.inr ⟨e, Or.inl ⟨k2, Or.inl ea⟩⟩), hv b hb (Or.inr ⟨e, Or.inl ⟨k2, Or.inr eb⟩⟩)]
  · rw [if_neg e, if_neg e]
    rcases hh with hh | ⟨j, hj, ej⟩
    · exact absurd hh e
    · rw [ej, ss_cl hj]
      exact hv j hj (Or.inl ⟨e, ej⟩)
noncomputable def ss_sts (D : Nat → Nat → Prop) (sp : Nat → Prop) (em : Prop) (c : Nat) : Int32 := ss_ite (∃ d, d < 36 ∧ (d = c ∨ ss_W D 36 c d) ∧ ss_W D 36 d d) 2 (ss_ite (∃ d, d < 36 ∧ (d = c ∨ ss_W D 36 c d) ∧ sp d) 3 (ss_ite em 0 1))
noncomputable def ss_O (K F S : Nat → Int32) (c : Nat) : Int32 := ss_ow K F S 36 c
noncomputable def ss_SH (K F S : Nat → Int32) (c : Nat) : Int32 := ss_sw F (ss_O K F S c) c
def ss_DD (K F S T : Nat → Int32) (c d : Nat) : Prop := ss_ds (K c) (F c) (S c) (T c) (ss_SH K F S c) d
def ss_sp (K F S : Nat → Int32) (c : Nat) : Prop := K c = 6 ∨ (K c = 5 ∧ ¬ ss_O K F S c = nI c)
noncomputable def ss_ST (K F S T : Nat → Int32) (c : Nat) : Int32 := ss_sts (ss_DD K F S T) (ss_sp K F S) (K c = 0 ∧ ss_SH K F S c = -2) c
noncomputable def ss_EV (K F S T v : Nat → Int32) (c : Nat) : Int32 := ss_evs (K c) (F c) (S c) (T c) (ss_SH K F S c) v
theorem ss_sts_ac {D : Nat → Nat → Prop} {sp : Nat → Prop} {em : Prop} {c : Nat} : (ss_sts D sp em c = 2 ↔ ¬ ss_ac D c) ∧ (ss_sts D sp em c = 1 → (∀ d, d < 36 → (d = c ∨ ss_W D 36 c d) → ¬ sp d) ∧ ¬ em) := by
  unfold ss_sts
  by_cases h : ∃ d, d < 36 ∧ (d = c ∨ ss_W D 36 c d) ∧ ss_W D 36 d d
  · rw [ss_it h]
    refine ⟨⟨fun _ z => ?_, fun _ => rfl⟩, fun z => absurd z (by decide)⟩
    obtain ⟨d, hd, h1, h2⟩ := h
    exact z d hd h1 h2
  · rw [ss_if h]
    by_cases h' : ∃ d, d < 36 ∧ (d = c ∨ ss_W D 36 c d) ∧ sp d
    · rw [ss_it h']
      exact ⟨⟨fun z => absurd z (by decide), fun z => absurd (fun d hd h1 h2 => h ⟨d, hd, h1, h2⟩) z⟩, fun z => absurd z (by decide)⟩
    · rw [ss_if h']
      by_cases e : em
      · rw [ss_it e]
        exact ⟨⟨fun z => absurd z (by decide), fun z => absurd (fun d hd h1 h2 => h ⟨d, hd, h1, h2⟩) z⟩, fun z => absurd z (by decide)⟩
      · rw [ss_if e]
        exact ⟨⟨fun z => absurd z (by decide), fun z => absurd (fun d hd h1 h2 => h ⟨d, hd, h1, h2⟩) z⟩, fun _ => ⟨fun d hd h1 h2 => h' ⟨d, hd, h1, h2⟩, e⟩⟩
section
variable {K F S T : Nat → Int32}
theorem ss_SH_c (w : ss_WF K F S T) {c : Nat} (hc : c < 36) : (ss_O K F S c = -2 ∧ ss_SH K F S c = -2) ∨ (¬ ss_O K F S c = -2 ∧ ∃ j, j < 36 ∧ ss_SH K F S c = nI j) := ss_sw_c w (Nat.le_refl _) hc
theorem ss_SH_h (w : ss_WF K F S T) {c : Nat} (hc : c < 36) : ss_SH K F S c = -2 ∨ ss_isc (ss_SH K F S c) := by
  rcases ss_SH_c w hc with h | ⟨_, j, hj, e⟩
  · exact Or.inl h.2
  · exact Or.inr ⟨j, hj, e⟩
theorem ss_SH_O (w : ss_WF K F S T) {c : Nat} (hc : c < 36) : ss_SH K F S c = -2 ↔ ss_O K F S c = -2 := by
  rcases ss_SH_c w hc with h | ⟨h, j, hj, e⟩
  · exact ⟨fun _ => h.1, fun _ => h.2⟩
  · exact ⟨fun z => absurd (e.symm.trans z) (ss_n2 hj), fun z => absurd z h⟩
theorem ss_O_v (c : Nat) : ss_O K F S c = -2 ∨ ∃ j, j < 36 ∧ ss_O K F S c = nI j := by
  rcases ss_ow_v K F S c 36 with h | ⟨j, hj, e, _⟩
  · exact Or.inl h
  · exact Or.inr ⟨j, hj, e⟩
theorem ss_ST2 (c : Nat) : ss_ST K F S T c = 2 ↔ ¬ ss_ac (ss_DD K F S T) c := ss_sts_ac.1
theorem ss_ST1a {c : Nat} (h : ss_ST K F S T c = 1) : ss_ac (ss_DD K F S T) c := by
  apply Classical.byContradiction
  intro z
  have := (ss_ST2 c).mpr z
  rw [h] at this
  exact absurd this (by decide)
theorem ss_ST1k {c : Nat} (hc : c < 36) (h : ss_ST K F S T c = 1) (w : ss_WF K F S T) (e : ss_SH K F S c = -2) : K c ≠ 0 ∧ K c ≠ 5 ∧ K c ≠ 6 := by
  have q := ss_sts_ac.2 h
  have hs := q.1 c hc (Or.inl rfl)
  refine ⟨fun z => q.2 ⟨z, e⟩, fun z => hs (Or.inr ⟨z, ?_⟩), fun z => hs (Or.inl z)⟩
  rw [(ss_SH_O w hc).mp e]
  exact fun y => ss_n2 hc y.symm
theorem ss_EV_cg (w : ss_WF K F S T) {c : Nat} (hc : c < 36) (h : ss_ST K F S T c = 1) (v v' : Nat → Int32) (hv : ∀ d, d < 36 → ss_DD K F S T c d → v d = v' d) : ss_EV K F S T v c = ss_EV K F S T v' c :=
  ss_ev_cg (w c hc) (ss_SH_h w hc) (ss_ST1k hc h w) hv
theorem ss_k14 (w : ss_WF K F S T) {c : Nat} (hc : c < 36) (h : K c ≠ 0 ∧ K c ≠ 5 ∧ K c ≠ 6) : K c = 1 ∨ K c = 2 ∨ K c = 3 ∨ K c = 4 := by
  rcases w c hc with z | z | z | z | z | z | z
  · exact absurd z h.1
  · exact Or.inl z
  · exact Or.inr (Or.inl z.1)
  · exact Or.inr (Or.inr (Or.inl z.1))
  · exact Or.inr (Or.inr (Or.inr z.1))
  · exact absurd z.1 h.2.1
  · exact absurd z h.2.2
end
/-! the state of X that belongs to a content -/
def ss_LY (K F S ow sh bl : Nat → Int32) : Prop := ∀ c, c < 36 → ow c = ss_O K F S c ∧ sh c = ss_SH K F S c ∧ (bl c = 0 ↔ ¬ (K c = 5 ∧ ¬ ss_O K F S c = nI c))
def ss_FX (K F S T va : Nat → Int32) : Prop := ∀ c, c < 36 → va c = ss_ite (ss_ST K F S T c = 1) (ss_EV K F S T va c) 0
def ss_GD (K F S T ow sh bl : Nat → Int32) (di cl : Nat → Int64) (st va : Nat → Int32) : Prop := ss_WF K F S T ∧ ss_LY K F S ow sh bl ∧ (∀ c, c < 36 → ss_WD (di c) (ss_DD K F S T c)) ∧ (∀ c, c < 36 → ss_WD (cl c) (ss_W (ss_DD K F S T) 36 c)) ∧ (∀ c, c < 36 → st c = ss_ST K F S T c) ∧ ss_FX K F S T va
end
section
/-! 05: X: rectangleSet, totalOf, areaOf, cover, layOut -/
theorem ss_6rj (r j : Nat) : 6 * nI r + nI j = nI (6 * r + j) := by
  rw [show (6 : Int32) = nI 6 from rfl, pk_mul, nI_add]
theorem ss_x_rs {post : Int64 → Prop} {a b : Nat} (ha : a < 36) (hb : b < 36) (hr : ss_rec a b) (h : ∀ w, ss_WD w (fun i => ss_ins i a b) → post w) : wpX_rectangleSet post (nI a) (nI b) := by
  unfold ss_rec at hr
  unfold wpX_rectangleSet
  refine ⟨ss_60, nm_r (ss_d6 ha) ?_⟩
  refine ss_lp1 (b / 6 + 1) (a / 6) (fun n x w => wX_rectangleSet_8 post (nI a) (nI b) n w x) (fun r w => ss_WD w (fun i => ss_ins i a b ∧ i / 6 < r)) ?_ ?_ 0 (nI (a / 6)) rfl (by omega) (ss_WD_cg ss_WD_0 fun i hi => ⟨False.elim, fun z => by unfold ss_ins at z; omega⟩)
  · intro n w hI
    have hI' := h w (ss_WD_cg hI fun i hi => ⟨fun z => z.1, fun z => ⟨z, by unfold ss_ins at z; omega⟩⟩)
    simp (disch := omega) only [wX_rectangleSet_8, ss_d6 hb, nI_ltI, forall_eq, true_and, and_true, true_implies, false_implies, not_true_eq_false, not_false_eq_true, ss_60, ss_360]
    exact br_t (by omega) hI'
  · intro n r w hr1 hr2 hI ih
    simp (disch := omega) only [wX_rectangleSet_8, ss_d6 hb, nI_ltI, ss_r6 ha, forall_eq, true_and, and_true, true_implies, false_implies, not_true_eq_false, not_false_eq_true, ss_60, ss_360]
    refine br_f (by omega) ?_
    refine ss_lp1 (b % 6 + 1) (a % 6) (fun n' x w => wX_rectangleSet_23 post (wX_rectangleSet_8 post (nI a) (nI b) n) (nI a) (nI b) (nI r) n' w x) (fun j w => ss_WD w (fun i => ss_ins i a b ∧ (i / 6 < r ∨ (i / 6 = r ∧ i % 6 < j)))) ?_ ?_ w (nI (a % 6)) rfl (by omega) (ss_WD_cg hI fun i hi => ⟨fun z => ⟨z.1, Or.inl z.2⟩, fun z => ⟨z.1, by unfold ss_ins at z; omega⟩⟩)
    · intro n' w hI
      simp (disch := omega) only [wX_rectangleSet_23, ss_r6 hb, nI_ltI, forall_eq, true_and, and_true, true_implies, false_implies, not_true_eq_false, not_false_eq_true, ss_60, ss_360]
      exact br_t (by omega) (ih w (ss_WD_cg hI fun i hi => ⟨fun z => ⟨z.1, by omega⟩, fun z => ⟨z.1, by unfold ss_ins at z; omega⟩⟩))
    · intro n' j w hj1 hj2 hI ih2
      simp (disch := omega) only [wX_rectangleSet_23, ss_r6 hb, nI_ltI, ss_6rj, forall_eq, true_and, and_true, true_implies, false_implies, not_true_eq_false, not_false_eq_true, ss_60, ss_360]
      refine br_f (by omega) (ih2 _ ?_)
      refine ss_WD_cg (ss_WD_o1 (c := 6 * r + j) (by omega) hI) fun i hi => ?_
      unfold ss_ins
      constructor
      · rintro (z | z)
        · exact ⟨z.1, by omega⟩
        · subst z; omega
      · intro z; omega
section
variable {K F S T ow sh sb bl st va de : Nat → Int32} {di cl : Nat → Int64} {fr : Int64}
theorem ss_x_to {post : Int32 → Prop} {a b : Nat} (ha : a < 36) (hb : b < 36) (hr : ss_rec a b) (h : post (ss_sm (fun d => ss_ins d a b) va 36)) : wpX_totalOf post (fr, K, F, S, T, ow, sh, sb, bl, di, cl, st, va, de) (nI a) (nI b) := by
  unfold ss_rec at hr
  unfold wpX_totalOf
  refine ⟨ss_60, nm_r (ss_d6 ha) ?_⟩
  refine ss_lp1 (b / 6 + 1) (a / 6) (fun n x w => wX_totalOf_8 post (nI a) (nI b) fr K F S T ow sh sb bl di cl st va de n w x) (fun r w => w = ss_sm (fun d => ss_ins d a b) va (6 * r)) ?_ ?_ 0 (nI (a / 6)) rfl (by omega) (ss_sm_sk' (m := 0) (by omega) fun i _ hi z => by unfold ss_ins at z; omega).symm
  · intro n w hI
    have hI' : post w := by
      rw [hI, ← ss_sm_sk' (m := 6 * (b / 6 + 1)) (n := 36) (by omega) fun i _ hi z => by unfold ss_ins at z; omega]
      exact h
    simp (disch := omega) only [wX_totalOf_8, ss_d6 hb, nI_ltI, forall_eq, true_and, and_true, true_implies, false_implies, not_true_eq_false, not_false_eq_true, ss_60, ss_360]
    exact br_t (by omega) hI'
  · intro n r w hr1 hr2 hI ih
    simp (disch := omega) only [wX_totalOf_8, ss_d6 hb, nI_ltI, ss_r6 ha, forall_eq, true_and, and_true, true_implies, false_implies, not_true_eq_false, not_false_eq_true, ss_60, ss_360]
    refine br_f (by omega) ?_
    refine ss_lp1 (b % 6 + 1) (a % 6) (fun n' x w => wX_totalOf_23 post (wX_totalOf_8 post (nI a) (nI b) fr K F S T ow sh sb bl di cl st va de n) (nI a) (nI b) (nI r) fr K F S T ow sh sb bl di cl st va de n' w x) (fun j w => w = ss_sm (fun d => ss_ins d a b) va (6 * r + j)) ?_ ?_ w (nI (a % 6)) rfl (by omega) (hI.trans (ss_sm_sk' (m := 6 * r) (by omega) fun i _ hi z => by unfold ss_ins at z; omega).symm)
    · intro n' w hI
      simp (disch := omega) only [wX_totalOf_23, ss_r6 hb, nI_ltI, forall_eq, true_and, and_true, true_implies, false_implies, not_true_eq_false, not_false_eq_true, ss_60, ss_360]
      refine br_t (by omega) (ih w ?_)
      rw [hI]
      exact (ss_sm_sk' (m := 6 * r + (b % 6 + 1)) (n := 6 * (r + 1)) (by omega) fun i _ hi z => by unfold ss_ins at z; omega).symm
    · intro n' j w hj1 hj2 hI ih2
      have q : ss_ins (6 * r + j) a b := by unfold ss_ins; omega
      have hlt : 6 * r + j < 36 := by omega
      simp (disch := omega) only [wX_totalOf_23, ss_r6 hb, nI_ltI, ss_6rj, ss_in hlt, ss_cl hlt, forall_eq, true_and, and_true, true_implies, false_implies, not_true_eq_false, not_false_eq_true, ss_60, ss_360]
      refine br_f (by omega) (ih2 _ ?_)
      rw [hI]
      exact (ss_sm_t (p := fun d => ss_ins d a b) (f := va) q).symm
theorem ss_xmv' {post : Int32 → Prop} {p0 p1 p2 r : Int32} (e : ss_mv p0 p1 p2 = r) (h : post r) : wpX_moved post p0 p1 p2 := ss_xmv (by rw [e]; exact h)
theorem ss_x_ar {post : Int64 → Prop} (w : ss_WF K F S T) {s : Nat} (hs : s < 36) (h5 : K s = 5) (h : ∀ r, ss_WD r (ss_ar F S s) → post r) : wpX_areaOf post (fr, K, F, S, T, ow, sh, sb, bl, di, cl, st, va, de) (nI s) := by
  unfold wpX_areaOf
  simp only [ss_in hs, ss_cl hs, forall_eq, true_and, and_true, true_implies, false_implies, not_true_eq_false, not_false_eq_true, ss_60, ss_360]
  obtain ⟨a, b, ha, hb, ea, eb, hr, hc⟩ := ss_end_c w hs h5
  rcases hc with ⟨e, he, ee, e1, e2⟩ | hc
  · refine ss_xmv' ee (br_t (ss_p0 he) (ss_x_rs hs he ?_ fun w hw => h w (ss_WD_cg hw fun i hi => ?_)))
    · unfold ss_rec at hr ⊢; omega
    · unfold ss_ar; rw [ee, ss_cl he]; exact ⟨fun z => ⟨ss_p0 he, z⟩, fun z => z.2⟩
  · exact ss_xmv' hc (br_f ss_m1n (h 0 (ss_WD_cg ss_WD_0 fun i hi => ⟨False.elim, fun z => by unfold ss_ar at z; rw [hc] at z; exact ss_m1n z.1⟩)))
theorem ss_x_cv {post : SX → Prop} {s : Nat} {r : Int64} {p : Nat → Prop} (hs : s < 36) (hw : ss_WD r p) (h : ∀ ow' sh' : Nat → Int32, (∀ c, c < 36 → (p c → ow' c = nI s ∧ sh' c = ss_mv (F s) (nI c / 6 - nI s / 6) ((nI c - nI c / 6 * 6) - (nI s - nI s / 6 * 6))) ∧ (¬ p c → ow' c = ow c ∧ sh' c = sh c)) → post (fr, K, F, S, T, ow', sh', sb, bl, di, cl, st, va, de)) : wpX_cover post (fr, K, F, S, T, ow, sh, sb, bl, di, cl, st, va, de) (nI s) r := by
  unfold wpX_cover
  refine ss_lp2 36 0 (fun n x ow sh => wX_cover_3 post (nI s) r fr n x K F S T ow sh sb bl di cl st va de) (fun i ow' sh' => ∀ c, c < 36 → (c < i ∧ p c → ow' c = nI s ∧ sh' c = ss_mv (F s) (nI c / 6 - nI s / 6) ((nI c - nI c / 6 * 6) - (nI s - nI s / 6 * 6))) ∧ (¬ (c < i ∧ p c) → ow' c = ow c ∧ sh' c = sh c)) ?_ ?_ ow sh 0 rfl (by omega) ?_
  · intro n ow' sh' hI
    simp only [wX_cover_3, ss_ge, forall_eq, true_and, and_true, true_implies, false_implies, not_true_eq_false, not_false_eq_true, ss_60, ss_360]
    exact h ow' sh' fun c hc => ⟨fun z => (hI c hc).1 ⟨hc, z⟩, fun z => (hI c hc).2 fun y => z y.2⟩
  · intro n i ow' sh' _ hi hI ih
    simp only [wX_cover_3, ss_nge hi, ss_in hi, ss_in hs, ss_cl hi, ss_cl hs, ss_WD_t hw hi, forall_eq, true_and, and_true, true_implies, false_implies, not_true_eq_false, not_false_eq_true, ss_60, ss_360]
    refine ⟨fun hp => ss_xmv (ih _ _ fun c hc => ?_), fun hp => ih _ _ fun c hc => ?_⟩
    · by_cases e : c = i
      · subst e
        rw [pk_us, pk_us]
        exact ⟨fun _ => ⟨rfl, rfl⟩, fun z => absurd ⟨by omega, hp⟩ z⟩
      · rw [pk_un e, pk_un e]
        exact ⟨fun z => (hI c hc).1 ⟨by omega, z.2⟩, fun z => (hI c hc).2 fun y => z ⟨by omega, y.2⟩⟩
    · refine ⟨fun z => (hI c hc).1 ⟨?_, z.2⟩, fun z => (hI c hc).2 fun y => z ⟨by omega, y.2⟩⟩
      have : c ≠ i := fun e => hp (e ▸ z.2)
      omega
  · intro c hc
    exact ⟨fun z => absurd z.1 (by omega), fun _ => ⟨rfl, rfl⟩⟩
theorem ss_b0 : vp_nar .boolean 0 = 0 := rfl
theorem ss_b1 : vp_nar .boolean 1 = 1 := rfl
/-- the last loop of layOut: what shows something else than before is new -/
theorem ss_x_l172 {post : SX → Prop} (h : ∀ fr', ss_sub fr fr' → (∀ c, c < 36 → ¬ sh c = sb c → ss_mb fr' c = true) → post (fr', K, F, S, T, ow, sh, sb, bl, di, cl, st, va, de)) : ∃ n, wX_layOut_172 post K F S T ow sh sb bl di cl st va de n 0 fr := by
  refine ss_lp1 36 0 (fun n x f => wX_layOut_172 post K F S T ow sh sb bl di cl st va de n x f) (fun i f => ss_sub fr f ∧ ∀ c, c < i → ¬ sh c = sb c → ss_mb f c = true) ?_ ?_ fr 0 rfl (by omega) ⟨ss_sub_r _, fun c hc => absurd hc (by omega)⟩
  · intro n f hI
    simp only [wX_layOut_172, ss_ge, forall_eq, true_and, and_true, true_implies, false_implies, not_true_eq_false, not_false_eq_true, ss_60, ss_360]
    exact h f hI.1 hI.2
  · intro n i f _ hi hI ih
    simp only [wX_layOut_172, ss_nge hi, ss_in hi, ss_cl hi, forall_eq, true_and, and_true, true_implies, false_implies, not_true_eq_false, not_false_eq_true, ss_60, ss_360]
    refine ⟨fun e => ih _ ⟨hI.1, fun c hc z => ?_⟩, fun e => ih _ ⟨ss_sub_t hI.1 (ss_sub_o _ _), fun c hc z => ?_⟩⟩
    · refine hI.2 c ?_ z
      have : c ≠ i := fun q => z (q ▸ e)
      omega
    · by_cases q : c = i
      · subst q; exact ss_mb_s _ hi
      · exact ss_sub_o _ _ c (hI.2 c (by omega) z)
theorem ss_x_l75 {post : SX → Prop} {x1 : Int64} (w : ss_WF K F S T) (hf : ss_WD x1 (fun j => ¬ K j = 0)) (h0 : ∀ c, c < 36 → ow c = -2 ∧ sh c = -2 ∧ bl c = 0) (h : ∀ fr' ow' sh' bl', ss_LY K F S ow' sh' bl' → ss_sub fr fr' → (∀ c, c < 36 → ¬ sh' c = sb c → ss_mb fr' c = true) → post (fr', K, F, S, T, ow', sh', sb, bl', di, cl, st, va, de)) : ∃ n, wX_layOut_75 post x1 n 0 0 fr K F S T ow sh sb bl di cl st va de := by
  refine ss_lp4 36 0 (fun n x x3 ow sh bl => wX_layOut_75 post x1 n x3 x fr K F S T ow sh sb bl di cl st va de) (fun s x3 ow' sh' bl' => ss_WD x3 (fun c => ¬ ss_ow K F S s c = -2) ∧ ∀ c, c < 36 → ow' c = ss_ow K F S s c ∧ sh' c = ss_sw F (ss_ow K F S s c) c ∧ (c < s → (bl' c = 0 ↔ ¬ (K c = 5 ∧ ¬ ss_ow K F S s c = nI c))) ∧ (s ≤ c → bl' c = 0)) ?_ ?_ 0 ow sh bl 0 rfl (by omega) ?_
  · intro n x3 ow' sh' bl' hI
    simp only [wX_layOut_75, ss_ge, forall_eq, true_and, and_true, true_implies, false_implies, not_true_eq_false, not_false_eq_true, ss_60, ss_360]
    refine ss_x_l172 fun fr' h1 h2 => h fr' ow' sh' bl' (fun c hc => ?_) h1 h2
    obtain ⟨a, b, c1, _⟩ := hI.2 c hc
    exact ⟨a, b, c1 hc⟩
  · intro n i x3 ow' sh' bl' _ hi hI ih
    simp only [wX_layOut_75, ss_nge hi, ss_in hi, ss_cl hi, forall_eq, true_and, and_true, true_implies, false_implies, not_true_eq_false, not_false_eq_true, ss_60, ss_360]
    refine ⟨fun k5 => ?_, fun k5 => ih _ _ _ _ ?_⟩
    · refine ss_x_ar w hi k5 fun r hr => ?_
      by_cases ho : ss_op K F S (ss_ow K F S i) i
      · have c1 : ¬ r = 0 := fun z => (ss_WD_z hr).mp z i hi (ss_ar_s w hi k5 ho.2.1)
        have c2 : (r &&& (((1 : Int64) <<< ((nI i).toInt64 &&& 63)) ^^^ (-1))) &&& x1 = 0 := (ss_WD_a0 (ss_WD_rm hi hr) hf).mpr fun c hc z y => by
          rcases (ho.2.2 c hc z.1).1 with q | q
          · exact z.2 q
          · exact y q
        have c3 : r &&& x3 = 0 := (ss_WD_a0 hr hI.1).mpr fun c hc z y => y (ho.2.2 c hc z).2
        refine br_f c1 (br_t c2 (br_t c3 ?_))
        refine ss_x_cv hi hr fun ow2 sh2 hc2 => ih _ ow2 sh2 bl' ⟨ss_WD_cg (ss_WD_or hI.1 hr) fun c hc => ?_, fun c hc => ?_⟩
        · by_cases z : ss_ar F S i c
          · rw [ss_ow_t ho z]
            exact ⟨fun _ => ss_n2 hi, fun _ => Or.inr z⟩
          · rw [ss_ow_f fun y => z y.2]
            exact ⟨fun y => y.elim id (fun q => absurd q z), Or.inl⟩
        · have hq : (c < i + 1 → (bl' c = 0 ↔ ¬ (K c = 5 ∧ ¬ ss_ow K F S (i + 1) c = nI c))) ∧ (i + 1 ≤ c → bl' c = 0) := by
            refine ⟨fun hci => ?_, fun hci => (hI.2 c hc).2.2.2 (by omega)⟩
            by_cases e : c = i
            · subst e
              rw [ss_ow_t ho (ss_ar_s w hi k5 ho.2.1)]
              exact ⟨fun _ y => y.2 rfl, fun _ => (hI.2 c hc).2.2.2 (Nat.le_refl _)⟩
            · rw [ss_ow_self w hi (show c < i by omega)]
              exact (hI.2 c hc).2.2.1 (by omega)
          by_cases z : ss_ar F S i c
          · obtain ⟨y1, y2⟩ := (hc2 c hc).1 z
            refine ⟨y1.trans (ss_ow_t ho z).symm, ?_, hq⟩
            rw [y2, ss_ow_t ho z]
            unfold ss_sw
            rw [if_neg (ss_n2 hi), ss_cl hi]
          · obtain ⟨y1, y2⟩ := (hc2 c hc).2 z
            rw [y1, y2]
            refine ⟨?_, ?_, hq⟩
            · rw [ss_ow_f fun y => z y.2]; exact (hI.2 c hc).1
            · rw [ss_ow_f fun y => z y.2]; exact (hI.2 c hc).2.1
      · have hb : wX_layOut_139 post (wX_layOut_75 post x1 n) x1 x3 (nI i) fr K F S T ow' sh' sb bl' di cl st va de := by
          simp only [wX_layOut_139, ss_in hi, ss_cl hi, ss_b1, forall_eq, true_and, and_true, true_implies, false_implies, not_true_eq_false, not_false_eq_true, ss_60, ss_360]
          refine ih _ _ _ _ ⟨ss_WD_cg hI.1 fun c hc => ?_, fun c hc => ?_⟩
          · rw [ss_ow_f fun y => ho y.1]
          · rw [ss_ow_f fun y => ho y.1]
            refine ⟨(hI.2 c hc).1, (hI.2 c hc).2.1, fun hci => ?_, fun hci => ?_⟩
            · by_cases e : c = i
              · subst e
                rw [pk_us]
                refine ⟨fun y => absurd y (by decide), fun y => absurd ⟨k5, fun q => ?_⟩ y⟩
                rcases ss_ow_v K F S c c with v | ⟨j, hj, v, _⟩
                · rw [v] at q; exact ss_n2 hc q.symm
                · rw [v] at q
                  have := ss_inj (by omega) hc q
                  omega
              · rw [pk_un e]
                exact (hI.2 c hc).2.2.1 (by omega)
            · rw [pk_un (by omega)]
              exact (hI.2 c hc).2.2.2 (by omega)
        refine br_c (fun _ => hb) fun c1 => br_c (fun c2 => br_c (fun c3 => ?_) fun _ => hb) fun _ => hb
        exfalso
        apply ho
        refine ⟨k5, ?_, fun c hc z => ?_⟩
        · apply Classical.byContradiction
          intro y
          exact c1 ((ss_WD_z hr).mpr fun c _ z => y z.1)
        · refine ⟨?_, ?_⟩
          · by_cases e : c = i
            · exact Or.inl e
            · right
              apply Classical.byContradiction
              exact (ss_WD_a0 (ss_WD_rm hi hr) hf).mp c2 c hc ⟨z, e⟩
          · apply Classical.byContradiction
            exact (ss_WD_a0 hr hI.1).mp c3 c hc z
    · have ho : ¬ ss_op K F S (ss_ow K F S i) i := fun z => k5 z.1
      refine ⟨ss_WD_cg hI.1 fun c hc => ?_, fun c hc => ?_⟩
      · rw [ss_ow_f fun y => ho y.1]
      · rw [ss_ow_f fun y => ho y.1]
        refine ⟨(hI.2 c hc).1, (hI.2 c hc).2.1, fun hci => ?_, fun hci => (hI.2 c hc).2.2.2 (by omega)⟩
        by_cases e : c = i
        · subst e
          exact ⟨fun _ y => k5 y.1, fun _ => (hI.2 c hc).2.2.2 (Nat.le_refl _)⟩
        · exact (hI.2 c hc).2.2.1 (by omega)
  · refine ⟨ss_WD_cg ss_WD_0 fun c hc => ⟨False.elim, fun z => z rfl⟩, fun c hc => ⟨(h0 c hc).1, ?_, fun z => absurd z (by omega), fun _ => (h0 c hc).2.2⟩⟩
    rw [(h0 c hc).2.1]
    exact (if_pos rfl).symm
theorem ss_x_lo {post : SX → Prop} (w : ss_WF K F S T) (h : ∀ fr' ow' sh' sb' bl', ss_LY K F S ow' sh' bl' → ss_sub fr fr' → (∀ c, c < 36 → ¬ sh' c = sh c → ss_mb fr' c = true) → post (fr', K, F, S, T, ow', sh', sb', bl', di, cl, st, va, de)) : wpX_layOut post (fr, K, F, S, T, ow, sh, sb, bl, di, cl, st, va, de) := by
  unfold wpX_layOut
  refine ss_lp5 36 0 (fun n x x1 ow sh sb bl => wX_layOut_4 post fr n x1 x K F S T ow sh sb bl di cl st va de) (fun i x1 ow' sh' sb' bl' => ss_WD x1 (fun j => j < i ∧ ¬ K j = 0) ∧ ∀ c, c < 36 → (c < i → ow' c = -2 ∧ sh' c = -2 ∧ sb' c = sh c ∧ bl' c = 0) ∧ (i ≤ c → sh' c = sh c)) ?_ ?_ 0 ow sh sb bl 0 rfl (by omega) ?_
  · intro n x1 ow' sh' sb' bl' hI
    simp only [wX_layOut_4, ss_ge, forall_eq, true_and, and_true, true_implies, false_implies, not_true_eq_false, not_false_eq_true, ss_60, ss_360]
    refine ss_x_l75 w (ss_WD_cg hI.1 fun j hj => ⟨fun z => z.2, fun z => ⟨hj, z⟩⟩) (fun c hc => ?_) fun fr2 ow2 sh2 bl2 h1 h2 h3 => h fr2 ow2 sh2 sb' bl2 h1 h2 fun c hc z => h3 c hc fun y => z ?_
    · have := (hI.2 c hc).1 hc
      exact ⟨this.1, this.2.1, this.2.2.2⟩
    · rw [y, ((hI.2 c hc).1 hc).2.2.1]
  · intro n i x1 ow' sh' sb' bl' _ hi hI ih
    simp only [wX_layOut_4, wX_layOut_27, ss_nge hi, ss_in hi, ss_cl hi, ss_b0, forall_eq, true_and, and_true, true_implies, false_implies, not_true_eq_false, not_false_eq_true, ss_60, ss_360]
    have hq : ∀ c, c < 36 → (c < i + 1 → upd ow' i (-2) c = -2 ∧ upd sh' i (-2) c = -2 ∧ upd sb' i (sh' i) c = sh c ∧ upd bl' i 0 c = 0) ∧ (i + 1 ≤ c → upd sh' i (-2) c = sh c) := by
      intro c hc
      by_cases e : c = i
      · subst e
        rw [pk_us, pk_us, pk_us, pk_us]
        exact ⟨fun _ => ⟨rfl, rfl, (hI.2 c hc).2 (Nat.le_refl _), rfl⟩, fun z => absurd z (by omega)⟩
      · rw [pk_un e, pk_un e, pk_un e, pk_un e]
        exact ⟨fun z => (hI.2 c hc).1 (by omega), fun z => (hI.2 c hc).2 (by omega)⟩
    refine ⟨fun k0 => ih _ _ _ _ _ ⟨ss_WD_cg (ss_WD_or hI.1 ss_WD_0) fun j hj => ?_, hq⟩, fun k0 => ih _ _ _ _ _ ⟨ss_WD_cg (ss_WD_o1 hi hI.1) fun j hj => ?_, hq⟩⟩
    · constructor
      · rintro (z | z)
        · exact ⟨by omega, z.2⟩
        · exact z.elim
      · intro z
        refine Or.inl ⟨?_, z.2⟩
        have : j ≠ i := fun e => z.2 (e ▸ k0)
        omega
    · constructor
      · rintro (z | z)
        · exact ⟨by omega, z.2⟩
        · subst z; exact ⟨by omega, k0⟩
      · intro z
        by_cases e : j = i
        · exact Or.inr e
        · exact Or.inl ⟨by omega, z.2⟩
  · exact ⟨ss_WD_cg ss_WD_0 fun j hj => ⟨False.elim, fun z => absurd z.1 (by omega)⟩, fun c hc => ⟨fun z => absurd z (by omega), fun _ => rfl⟩⟩
end
end
section
/-! 06: X: findWords, close, findStates -/
theorem ss_ds_h {k f s t h : Int32} {d j : Nat} (hd : d < 36) (hj : j < 36) (z : h = nI j) : ss_ds k f s t h d ↔ d = j := by
  have n : ¬ h = -2 := fun e => ss_n2 hj (z.symm.trans e)
  constructor
  · rintro (⟨_, e⟩ | ⟨e, _⟩)
    · exact (ss_inj hj hd (z.symm.trans e)).symm
    · exact absurd e n
  · rintro rfl
    exact Or.inl ⟨n, z⟩
theorem ss_ds_2 {k f s t h : Int32} {d : Nat} (z : h = -2) (e : k = 2) : ss_ds k f s t h d ↔ (f = nI d ∨ s = nI d) := by
  constructor
  · rintro (⟨n, _⟩ | ⟨_, ⟨_, q⟩ | ⟨n, _⟩ | ⟨n, _⟩⟩)
    · exact absurd z n
    · exact q
    · exact absurd (e.symm.trans n) (by decide)
    · exact absurd (e.symm.trans n) (by decide)
  · intro q
    exact Or.inr ⟨z, Or.inl ⟨e, q⟩⟩
theorem ss_ds_3 {k f s t h : Int32} {d : Nat} (z : h = -2) (e : k = 3) : ss_ds k f s t h d ↔ ss_ins d f.toNatClampNeg s.toNatClampNeg := by
  constructor
  · rintro (⟨n, _⟩ | ⟨_, ⟨n, _⟩ | ⟨_, q⟩ | ⟨n, _⟩⟩)
    · exact absurd z n
    · exact absurd (e.symm.trans n) (by decide)
    · exact q
    · exact absurd (e.symm.trans n) (by decide)
  · intro q
    exact Or.inr ⟨z, Or.inr (Or.inl ⟨e, q⟩)⟩
theorem ss_ds_4 {k f s t h : Int32} {d : Nat} (z : h = -2) (e : k = 4) : ss_ds k f s t h d ↔ (f = nI d ∨ s = nI d ∨ t = nI d) := by
  constructor
  · rintro (⟨n, _⟩ | ⟨_, ⟨n, _⟩ | ⟨n, _⟩ | ⟨_, q⟩⟩)
    · exact absurd z n
    · exact absurd (e.symm.trans n) (by decide)
    · exact absurd (e.symm.trans n) (by decide)
    · exact q
  · intro q
    exact Or.inr ⟨z, Or.inr (Or.inr ⟨e, q⟩)⟩
theorem ss_ds_n {k f s t h : Int32} {d : Nat} (z : h = -2) (k2 : ¬ k = 2) (k3 : ¬ k = 3) (k4 : ¬ k = 4) : ¬ ss_ds k f s t h d := by
  rintro (⟨n, _⟩ | ⟨_, ⟨n, _⟩ | ⟨n, _⟩ | ⟨n, _⟩⟩)
  · exact n z
  · exact k2 n
  · exact k3 n
  · exact k4 n
section
variable {K F S T ow sh sb bl st va de : Nat → Int32} {di cl : Nat → Int64} {fr : Int64}
theorem ss_x_w117 {post : SX → Prop} {J : Int32 → Int64 → (Nat → Int32) → (Nat → Int32) → (Nat → Int32) → (Nat → Int32) → (Nat → Int32) → (Nat → Int32) → (Nat → Int32) → (Nat → Int32) → (Nat → Int64) → (Nat → Int64) → (Nat → Int32) → (Nat → Int32) → (Nat → Int32) → Prop} {i : Nat} {x : Int64} (hi : i < 36) (h : ∀ fr', ss_sub fr fr' → J (nI i + 1) fr' K F S T ow sh sb bl (vp_updL di i x) cl st va de) : wX_findWords_117 post J (nI i) x fr K F S T ow sh sb bl di cl st va de := by
  simp only [wX_findWords_117, ss_in hi, ss_cl hi, forall_eq, true_and, and_true, true_implies, false_implies, not_true_eq_false, not_false_eq_true, ss_60, ss_360]
  exact ⟨fun _ => h _ (ss_sub_r _), fun _ => h _ (ss_sub_o _ _)⟩
theorem ss_x_fw {post : SX → Prop} (w : ss_WF K F S T) (hl : ∀ c, c < 36 → sh c = ss_SH K F S c) (h : ∀ fr' di', ss_sub fr fr' → (∀ c, c < 36 → ss_WD (di' c) (ss_DD K F S T c)) → post (fr', K, F, S, T, ow, sh, sb, bl, di', cl, st, va, de)) : wpX_findWords post (fr, K, F, S, T, ow, sh, sb, bl, di, cl, st, va, de) := by
  unfold wpX_findWords
  refine ss_lp2 36 0 (fun n x fr di => wX_findWords_2 post n x fr K F S T ow sh sb bl di cl st va de) (fun i fr' di' => ss_sub fr fr' ∧ ∀ c, c < i → ss_WD (di' c) (ss_DD K F S T c)) ?_ ?_ fr di 0 rfl (by omega) ⟨ss_sub_r _, fun c hc => absurd hc (by omega)⟩
  · intro n fr' di' hI
    simp only [wX_findWords_2, ss_ge, forall_eq, true_and, and_true, true_implies, false_implies, not_true_eq_false, not_false_eq_true, ss_60, ss_360]
    exact h fr' di' hI.1 hI.2
  · intro n i fr' di' _ hi hI ih
    have key : ∀ x, ss_WD x (ss_DD K F S T i) → wX_findWords_117 post (wX_findWords_2 post n) (nI i) x fr' K F S T ow sh sb bl di' cl st va de := fun x hx => ss_x_w117 hi fun fr2 h2 => ih _ _ ⟨ss_sub_t hI.1 h2, fun c hc => by
      by_cases e : c = i
      · subst e; rw [pk_uLs]; exact hx
      · rw [pk_uLn e]; exact hI.2 c (by omega)⟩
    simp only [wX_findWords_2, wX_findWords_53, wX_findWords_91, ss_nge hi, ss_in hi, ss_cl hi, forall_eq, true_and, and_true, true_implies, false_implies, not_true_eq_false, not_false_eq_true, ss_60, ss_360]
    have e := hl i hi
    refine br_c (fun z => ?_) (fun z => ?_)
    · have zs : ss_SH K F S i = -2 := e.symm.trans z
      refine br_c (fun k2 => ?_) (fun k2 => br_c (fun k4 => ?_) (fun k4 => br_c (fun k3 => ?_) (fun k3 => ?_)))
      · obtain ⟨⟨a, ha, ea⟩, ⟨b, hb, eb⟩, _⟩ := ss_wf2 (w i hi) k2
        refine br_f (by rw [k2]; decide) (key _ ?_)
        rw [ea, eb]
        refine ss_WD_cg (ss_WD_or (ss_WD_1 ha) (ss_WD_1 hb)) fun d hd => ?_
        unfold ss_DD
        rw [ss_ds_2 zs k2, ea, eb, ss_ieq ha hd, ss_ieq hb hd]
        exact ⟨fun y => y.elim (fun q => Or.inl q.symm) (fun q => Or.inr q.symm), fun y => y.elim (fun q => Or.inl q.symm) (fun q => Or.inr q.symm)⟩
      · obtain ⟨⟨a, ha, ea⟩, ⟨b, hb, eb⟩, ⟨c, hc, ec⟩⟩ := ss_wf4 (w i hi) k4
        refine br_t k4 (key _ ?_)
        rw [ea, eb, ec]
        refine ss_WD_cg (ss_WD_or (ss_WD_or (ss_WD_1 ha) (ss_WD_1 hb)) (ss_WD_1 hc)) fun d hd => ?_
        unfold ss_DD
        rw [ss_ds_4 zs k4, ea, eb, ec, ss_ieq ha hd, ss_ieq hb hd, ss_ieq hc hd]
        constructor
        · rintro ((q | q) | q)
          · exact Or.inl q.symm
          · exact Or.inr (Or.inl q.symm)
          · exact Or.inr (Or.inr q.symm)
        · rintro (q | q | q)
          · exact Or.inl (Or.inl q.symm)
          · exact Or.inl (Or.inr q.symm)
          · exact Or.inr q.symm
      · obtain ⟨⟨a, b, ha, hb, ea, eb, hr⟩, _⟩ := ss_wf3 (w i hi) k3
        rw [ea, eb]
        refine ss_x_rs ha hb hr fun x hx => key _ (ss_WD_cg hx fun d hd => ?_)
        unfold ss_DD
        rw [ss_ds_3 zs k3, ea, eb, ss_cl ha, ss_cl hb]
      · exact key _ (ss_WD_cg ss_WD_0 fun d hd => ⟨False.elim, ss_ds_n zs k2 k3 k4⟩)
    · rcases ss_SH_c w hi with q | ⟨_, j, hj, ej⟩
      · exact absurd (e.trans q.2) z
      · refine key _ ?_
        rw [e, ej]
        refine ss_WD_cg (ss_WD_1 hj) fun d hd => ?_
        unfold ss_DD
        rw [ss_ds_h hd hj ej]
theorem ss_x_c36 {post : SX → Prop} {J : Int32 → (Nat → Int32) → (Nat → Int32) → (Nat → Int32) → (Nat → Int32) → (Nat → Int32) → (Nat → Int32) → (Nat → Int32) → (Nat → Int32) → (Nat → Int64) → (Nat → Int64) → (Nat → Int32) → (Nat → Int32) → (Nat → Int32) → Prop} {D : Nat → Nat → Prop} {k : Nat} (hk : k < 36) (h0 : ∀ c, c < 36 → ss_WD (cl c) (ss_W D k c)) (h : ∀ cl', (∀ c, c < 36 → ss_WD (cl' c) (ss_W D (k + 1) c)) → J (nI k + 1) K F S T ow sh sb bl di cl' st va de) : ∃ n, wX_close_36 post J (nI k) fr n 0 K F S T ow sh sb bl di cl st va de := by
  refine ss_lp1 36 0 (fun n x cl => wX_close_36 post J (nI k) fr n x K F S T ow sh sb bl di cl st va de) (fun i cl' => ∀ c, c < 36 → (c < i → ss_WD (cl' c) (ss_W D (k + 1) c)) ∧ (i ≤ c → ss_WD (cl' c) (ss_W D k c))) ?_ ?_ cl 0 rfl (by omega) (fun c hc => ⟨fun z => absurd z (by omega), fun _ => h0 c hc⟩)
  · intro n cl' hI
    simp only [wX_close_36, ss_ge, forall_eq, true_and, and_true, true_implies, false_implies, not_true_eq_false, not_false_eq_true, ss_60, ss_360]
    exact h cl' fun c hc => (hI c hc).1 hc
  · intro n i cl' _ hi hI ih
    have hki : ss_WD (cl' k) (ss_W D k k) := by
      by_cases e : k < i
      · exact ss_WD_cg ((hI k hk).1 e) fun d _ => ss_W_k D k d
      · exact (hI k hk).2 (by omega)
    have hii := (hI i hi).2 (Nat.le_refl _)
    simp only [wX_close_36, ss_nge hi, ss_in hi, ss_in hk, ss_cl hi, ss_cl hk, ss_WD_t hii hk, forall_eq, true_and, and_true, true_implies, false_implies, not_true_eq_false, not_false_eq_true, ss_60, ss_360]
    refine ⟨fun z => ih _ fun c hc => ?_, fun z => ih _ fun c hc => ?_⟩
    · by_cases e : c = i
      · subst e
        rw [pk_uLs]
        refine ⟨fun _ => ss_WD_cg (ss_WD_or hii hki) fun d _ => ?_, fun y => absurd y (by omega)⟩
        rw [ss_W_s]
        exact ⟨fun y => y.elim Or.inl (fun q => Or.inr ⟨z, q⟩), fun y => y.elim Or.inl (fun q => Or.inr q.2)⟩
      · rw [pk_uLn e]
        exact ⟨fun y => (hI c hc).1 (by omega), fun y => (hI c hc).2 (by omega)⟩
    · refine ⟨fun y => ?_, fun y => (hI c hc).2 (by omega)⟩
      by_cases e : c = i
      · subst e
        exact ss_WD_cg hii fun d _ => ⟨Or.inl, fun q => q.elim id (fun q => absurd q.1 z)⟩
      · exact (hI c hc).1 (by omega)
theorem ss_x_cl {post : SX → Prop} {D : Nat → Nat → Prop} (hd : ∀ c, c < 36 → ss_WD (di c) (D c)) (h : ∀ cl', (∀ c, c < 36 → ss_WD (cl' c) (ss_W D 36 c)) → post (fr, K, F, S, T, ow, sh, sb, bl, di, cl', st, va, de)) : wpX_close post (fr, K, F, S, T, ow, sh, sb, bl, di, cl, st, va, de) := by
  unfold wpX_close
  refine ss_lp1 36 0 (fun n x cl => wX_close_2 post fr n x K F S T ow sh sb bl di cl st va de) (fun i cl' => ∀ c, c < i → ss_WD (cl' c) (D c)) ?_ ?_ cl 0 rfl (by omega) (fun c hc => absurd hc (by omega))
  · intro n cl' hI
    simp only [wX_close_2, ss_ge, forall_eq, true_and, and_true, true_implies, false_implies, not_true_eq_false, not_false_eq_true, ss_60, ss_360]
    refine ss_lp1 36 0 (fun n x cl => wX_close_28 post fr n x K F S T ow sh sb bl di cl st va de) (fun k cl' => ∀ c, c < 36 → ss_WD (cl' c) (ss_W D k c)) ?_ ?_ cl' 0 rfl (by omega) hI
    · intro n cl2 hI2
      simp only [wX_close_28, ss_ge, forall_eq, true_and, and_true, true_implies, false_implies, not_true_eq_false, not_false_eq_true, ss_60, ss_360]
      exact h cl2 hI2
    · intro n k cl2 _ hk hI2 ih
      simp only [wX_close_28, ss_nge hk, forall_eq, true_and, and_true, true_implies, false_implies, not_true_eq_false, not_false_eq_true, ss_60, ss_360]
      exact ss_x_c36 hk hI2 ih
  · intro n i cl' _ hi hI ih
    simp only [wX_close_2, ss_nge hi, ss_in hi, ss_cl hi, forall_eq, true_and, and_true, true_implies, false_implies, not_true_eq_false, not_false_eq_true, ss_60, ss_360]
    refine ih _ fun c hc => ?_
    by_cases e : c = i
    · subst e; rw [pk_uLs]; exact hd c hi
    · rw [pk_uLn e]; exact hI c (by omega)
theorem ss_x_s148 {post : SX → Prop} {J : Int32 → Int64 → (Nat → Int32) → (Nat → Int32) → (Nat → Int32) → (Nat → Int32) → (Nat → Int32) → (Nat → Int32) → (Nat → Int32) → (Nat → Int32) → (Nat → Int64) → (Nat → Int64) → (Nat → Int32) → (Nat → Int32) → (Nat → Int32) → Prop} {x1 x3 : Int64} {i : Nat} {x8 v : Int32} (hi : i < 36) (hv : x8 = v) (h : ∀ fr', ss_sub fr fr' → (¬ v = st i → ss_mb fr' i = true) → J (nI i + 1) fr' K F S T ow sh sb bl di cl (upd st i v) va de) : wX_findStates_148 post J x1 x3 (nI i) x8 fr K F S T ow sh sb bl di cl st va de := by
  subst hv
  simp only [wX_findStates_148, ss_in hi, ss_cl hi, forall_eq, true_and, and_true, true_implies, false_implies, not_true_eq_false, not_false_eq_true, ss_60, ss_360]
  exact ⟨fun e => h _ (ss_sub_r _) (fun z => absurd e z), fun _ => h _ (ss_sub_o _ _) (fun _ => ss_mb_s _ hi)⟩
theorem ss_x_s119 {post : SX → Prop} {J : Int32 → Int64 → (Nat → Int32) → (Nat → Int32) → (Nat → Int32) → (Nat → Int32) → (Nat → Int32) → (Nat → Int32) → (Nat → Int32) → (Nat → Int32) → (Nat → Int64) → (Nat → Int64) → (Nat → Int32) → (Nat → Int32) → (Nat → Int32) → Prop} {x1 x3 x6 : Int64} {D : Nat → Nat → Prop} {sp : Nat → Prop} {em : Prop} {i : Nat} {z0 : Int32} (hi : i < 36) (h6 : ss_WD x6 (fun d => ss_W D 36 i d ∨ d = i)) (h1 : ss_WD x1 (fun c => ss_W D 36 c c)) (h3 : ss_WD x3 sp) (hz : z0 = ss_ite em 0 1) (h : ∀ fr', ss_sub fr fr' → (¬ ss_sts D sp em i = st i → ss_mb fr' i = true) → J (nI i + 1) fr' K F S T ow sh sb bl di cl (upd st i (ss_sts D sp em i)) va de) : wX_findStates_119 post J x1 x3 (nI i) x6 z0 fr K F S T ow sh sb bl di cl st va de := by
  simp only [wX_findStates_119, ss_WD_a0 h6 h1, ss_WD_a0 h6 h3]
  refine br_c (fun a => br_c (fun b => ss_x_s148 hi ?_ h) (fun b => ss_x_s148 hi ?_ h)) (fun a => ss_x_s148 hi ?_ h)
  · unfold ss_sts
    rw [ss_if, ss_if, hz]
    · rintro ⟨d, hd, q, r⟩
      exact b d hd q.symm r
    · rintro ⟨d, hd, q, r⟩
      exact a d hd q.symm r
  · unfold ss_sts
    rw [ss_if, ss_it]
    · apply Classical.byContradiction
      intro q
      exact b fun d hd r s => q ⟨d, hd, r.symm, s⟩
    · rintro ⟨d, hd, q, r⟩
      exact a d hd q.symm r
  · unfold ss_sts
    rw [ss_it]
    apply Classical.byContradiction
    intro q
    exact a fun d hd r s => q ⟨d, hd, r.symm, s⟩
theorem ss_x_fs {post : SX → Prop} (hl : ss_LY K F S ow sh bl) (hcl : ∀ c, c < 36 → ss_WD (cl c) (ss_W (ss_DD K F S T) 36 c)) (h : ∀ fr' st', ss_sub fr fr' → (∀ c, c < 36 → st' c = ss_ST K F S T c) → (∀ c, c < 36 → ¬ st' c = st c → ss_mb fr' c = true) → post (fr', K, F, S, T, ow, sh, sb, bl, di, cl, st', va, de)) : wpX_findStates post (fr, K, F, S, T, ow, sh, sb, bl, di, cl, st, va, de) := by
  unfold wpX_findStates
  refine ss_lp2 36 0 (fun n x x1 x3 => wX_findStates_7 post fr K F S T ow sh sb bl di cl st va de n x1 x3 x) (fun i x1 x3 => ss_WD x1 (fun c => c < i ∧ ss_W (ss_DD K F S T) 36 c c) ∧ ss_WD x3 (fun c => c < i ∧ ss_sp K F S c)) ?_ ?_ 0 0 0 rfl (by omega) ⟨ss_WD_cg ss_WD_0 fun c _ => ⟨False.elim, fun z => absurd z.1 (by omega)⟩, ss_WD_cg ss_WD_0 fun c _ => ⟨False.elim, fun z => absurd z.1 (by omega)⟩⟩
  · intro n x1 x3 hI
    simp only [wX_findStates_7, ss_ge, forall_eq, true_and, and_true, true_implies, false_implies, not_true_eq_false, not_false_eq_true, ss_60, ss_360]
    have h1 := ss_WD_cg (q := fun c => ss_W (ss_DD K F S T) 36 c c) hI.1 fun c hc => ⟨fun z => z.2, fun z => ⟨hc, z⟩⟩
    have h3 := ss_WD_cg (q := ss_sp K F S) hI.2 fun c hc => ⟨fun z => z.2, fun z => ⟨hc, z⟩⟩
    refine ss_lp2 36 0 (fun n x fr st => wX_findStates_71 post x1 x3 n x fr K F S T ow sh sb bl di cl st va de) (fun i fr' st' => ss_sub fr fr' ∧ ∀ c, c < 36 → (c < i → st' c = ss_ST K F S T c ∧ (¬ st' c = st c → ss_mb fr' c = true)) ∧ (i ≤ c → st' c = st c)) ?_ ?_ fr st 0 rfl (by omega) ⟨ss_sub_r _, fun c hc => ⟨fun z => absurd z (by omega), fun _ => rfl⟩⟩
    · intro n fr' st' hI2
      simp only [wX_findStates_71, ss_ge, forall_eq, true_and, and_true, true_implies, false_implies, not_true_eq_false, not_false_eq_true, ss_60, ss_360]
      exact h fr' st' hI2.1 (fun c hc => ((hI2.2 c hc).1 hc).1) (fun c hc => ((hI2.2 c hc).1 hc).2)
    · intro n i fr' st' _ hi hI2 ih
      have key : ∀ fr2, ss_sub fr' fr2 → (¬ ss_ST K F S T i = st' i → ss_mb fr2 i = true) → wX_findStates_71 post x1 x3 n (nI i + 1) fr2 K F S T ow sh sb bl di cl (upd st' i (ss_ST K F S T i)) va de := fun fr2 g1 g2 => ih _ _ ⟨ss_sub_t hI2.1 g1, fun c hc => by
        by_cases e : c = i
        · subst e
          rw [pk_us]
          refine ⟨fun _ => ⟨rfl, fun z => g2 ?_⟩, fun z => absurd z (by omega)⟩
          rw [(hI2.2 c hc).2 (Nat.le_refl _)]
          exact z
        · rw [pk_un e]
          exact ⟨fun z => ⟨((hI2.2 c hc).1 (by omega)).1, fun y => g1 c (((hI2.2 c hc).1 (by omega)).2 y)⟩, fun z => (hI2.2 c hc).2 (by omega)⟩⟩
      have hcz := hl i hi
      simp only [wX_findStates_71, wX_findStates_118, ss_nge hi, ss_in hi, ss_cl hi, forall_eq, true_and, and_true, true_implies, false_implies, not_true_eq_false, not_false_eq_true, ss_60, ss_360]
      have h6 := ss_WD_o1 hi (hcl i hi)
      refine br_c (fun k0 => br_c (fun s2 => ?_) (fun s2 => ?_)) (fun k0 => ?_)
      · exact ss_x_s119 hi h6 h1 h3 (ss_it (p := K i = 0 ∧ ss_SH K F S i = -2) ⟨k0, hcz.2.1.symm.trans s2⟩).symm key
      · exact ss_x_s119 hi h6 h1 h3 (ss_if (p := K i = 0 ∧ ss_SH K F S i = -2) (fun q => s2 (hcz.2.1.trans q.2))).symm key
      · exact ss_x_s119 hi h6 h1 h3 (ss_if (p := K i = 0 ∧ ss_SH K F S i = -2) (fun q => k0 q.1)).symm key
  · intro n i x1 x3 _ hi hI ih
    obtain ⟨_, _, hb⟩ := hl i hi
    have g1 : ss_WD (x1 ||| (cl i &&& ((1 : Int64) <<< ((nI i).toInt64 &&& 63)))) (fun c => c < i + 1 ∧ ss_W (ss_DD K F S T) 36 c c) := ss_WD_cg (ss_WD_or hI.1 (ss_WD_and (hcl i hi) (ss_WD_1 hi))) fun c hc => by
      constructor
      · rintro (z | ⟨z, rfl⟩)
        · exact ⟨by omega, z.2⟩
        · exact ⟨by omega, z⟩
      · intro z
        by_cases e : c = i
        · subst e; exact Or.inr ⟨z.2, rfl⟩
        · exact Or.inl ⟨by omega, z.2⟩
    have gs : ss_sp K F S i → ss_WD (x3 ||| ((1 : Int64) <<< ((nI i).toInt64 &&& 63))) (fun c => c < i + 1 ∧ ss_sp K F S c) := fun q => ss_WD_cg (ss_WD_o1 hi hI.2) fun c hc => by
      constructor
      · rintro (z | rfl)
        · exact ⟨by omega, z.2⟩
        · exact ⟨by omega, q⟩
      · intro z
        by_cases e : c = i
        · exact Or.inr e
        · exact Or.inl ⟨by omega, z.2⟩
    simp only [wX_findStates_7, wX_findStates_52, ss_nge hi, ss_in hi, ss_cl hi, forall_eq, true_and, and_true, true_implies, false_implies, not_true_eq_false, not_false_eq_true, ss_60, ss_360]
    refine br_c (fun b0 => br_c (fun k6 => ih _ _ ⟨g1, gs (Or.inl k6)⟩) (fun k6 => ih _ _ ⟨g1, ?_⟩)) (fun b0 => ih _ _ ⟨g1, gs ?_⟩)
    · refine ss_WD_cg (ss_WD_or hI.2 ss_WD_0) fun c hc => ?_
      constructor
      · rintro (z | z)
        · exact ⟨by omega, z.2⟩
        · exact z.elim
      · intro z
        refine Or.inl ⟨?_, z.2⟩
        have : c ≠ i := by
          rintro rfl
          rcases z.2 with q | q
          · exact k6 q
          · exact hb.mp b0 q
        omega
    · apply Classical.byContradiction
      intro q
      exact b0 (hb.mpr fun y => q (Or.inr y))
end
end
section
/-! 07: X: valueNow, workOut, renew -/
theorem ss_evs_h {k f s t h : Int32} {v : Nat → Int32} (z : ¬ h = -2) : ss_evs k f s t h v = v h.toNatClampNeg := if_neg z
theorem ss_evs_1 {k f s t h : Int32} {v : Nat → Int32} (z : h = -2) (e : k = 1) : ss_evs k f s t h v = f := by
  unfold ss_evs; rw [if_pos z, if_pos e]
theorem ss_evs_3 {k f s t h : Int32} {v : Nat → Int32} (z : h = -2) (e : k = 3) : ss_evs k f s t h v = ss_sm (fun d => ss_ins d f.toNatClampNeg s.toNatClampNeg) v 36 := by
  unfold ss_evs; rw [if_pos z, if_neg (by rw [e]; decide), if_pos e]
theorem ss_evs_4 {k f s t h : Int32} {v : Nat → Int32} (z : h = -2) (e : k = 4) : ss_evs k f s t h v = if v f.toNatClampNeg ≤ 0 then v t.toNatClampNeg else v s.toNatClampNeg := by
  unfold ss_evs; rw [if_pos z, if_neg (by rw [e]; decide), if_neg (by rw [e]; decide), if_pos e]
theorem ss_evs_2 {k f s t h : Int32} {v : Nat → Int32} (z : h = -2) (e : k = 2) : ss_evs k f s t h v = ss_cb t (v f.toNatClampNeg) (v s.toNatClampNeg) := by
  unfold ss_evs; rw [if_pos z, if_neg (by rw [e]; decide), if_neg (by rw [e]; decide), if_neg (by rw [e]; decide)]
theorem ss_x_cb {post : Int32 → Prop} {o a b : Int32} (h : post (ss_cb o a b)) : wpX_combined post o a b := by
  unfold ss_cb at h
  unfold wpX_combined wX_combined_54
  refine br_c (fun c => ?_) (fun c => br_c (fun c2 => ?_) (fun c2 => br_c (fun c3 => ?_) (fun c3 => br_c (fun c4 => br_c (fun d => ?_) (fun d => ?_)) (fun c4 => br_c (fun d => ?_) (fun d => ?_)))))
  · rw [if_pos c] at h; exact h
  · rw [if_neg c, if_pos c2] at h; exact h
  · rw [if_neg c, if_neg c2, if_pos c3] at h; exact h
  · rw [if_neg c, if_neg c2, if_neg c3, if_pos c4, if_pos d] at h; exact br_t rfl h
  · rw [if_neg c, if_neg c2, if_neg c3, if_pos c4, if_neg d] at h; exact br_f (by decide) h
  · rw [if_neg c, if_neg c2, if_neg c3, if_neg c4, if_pos d] at h; exact br_t rfl h
  · rw [if_neg c, if_neg c2, if_neg c3, if_neg c4, if_neg d] at h; exact br_f (by decide) h
/-! waiting cells -/
def ss_IV (K F S T : Nat → Int32) (x1 : Int64) (va : Nat → Int32) : Prop := (∀ c, ss_mb x1 c = true → c < 36 ∧ ss_ST K F S T c = 1) ∧ (∀ c, c < 36 → ¬ ss_ST K F S T c = 1 → va c = 0) ∧ (∀ c, c < 36 → ss_ST K F S T c = 1 → ¬ ss_mb x1 c = true → (∀ d, d < 36 → ss_DD K F S T c d → ¬ ss_mb x1 d = true) ∧ va c = ss_EV K F S T va c)
theorem ss_IV_s {K F S T : Nat → Int32} {x1 : Int64} {va : Nat → Int32} (w : ss_WF K F S T) (h : ss_IV K F S T x1 va) {i : Nat} (hi : i < 36) (hm : ss_mb x1 i = true) (hd : ∀ d, d < 36 → ss_DD K F S T i d → ¬ ss_mb x1 d = true) : ss_IV K F S T (x1 &&& (((1 : Int64) <<< ((nI i).toInt64 &&& 63)) ^^^ (-1))) (upd va i (ss_EV K F S T va i)) := by
  have hs : ∀ c, ss_mb (x1 &&& (((1 : Int64) <<< ((nI i).toInt64 &&& 63)) ^^^ (-1))) c = true → ss_mb x1 c = true := by
    intro c z
    rw [ss_mb_n hi, Bool.and_eq_true] at z
    exact z.1
  refine ⟨fun c z => h.1 c (hs c z), fun c hc z => ?_, fun c hc z y => ?_⟩
  · have : c ≠ i := by
      rintro rfl
      exact z (h.1 c hm).2
    rw [pk_un this]
    exact h.2.1 c hc z
  · by_cases e : c = i
    · subst e
      refine ⟨fun d hd1 q r => hd d hd1 q (hs d r), ?_⟩
      rw [pk_us]
      refine ss_EV_cg w hc z _ _ fun d hd1 q => ?_
      have : d ≠ c := by
        rintro rfl
        exact hd d hd1 q hm
      rw [pk_un this]
    · have y' : ¬ ss_mb x1 c = true := by
        intro q
        apply y
        rw [ss_mb_n hi, q, decide_eq_false e]
        rfl
      obtain ⟨a, b⟩ := h.2.2 c hc z y'
      refine ⟨fun d hd1 q r => a d hd1 q (hs d r), ?_⟩
      rw [pk_un e]
      refine b.trans (ss_EV_cg w hc z _ _ fun d hd1 q => ?_)
      have : d ≠ i := by
        rintro rfl
        exact a d hd1 q hm
      rw [pk_un this]
theorem ss_IV_e {K F S T : Nat → Int32} {x1 : Int64} {va : Nat → Int32} (h : ss_IV K F S T x1 va) (hz : ∀ c, c < 36 → ¬ ss_mb x1 c = true) : ss_FX K F S T va := by
  intro c hc
  by_cases z : ss_ST K F S T c = 1
  · rw [ss_it z]; exact (h.2.2 c hc z (hz c hc)).2
  · rw [ss_if z]; exact h.2.1 c hc z
section
variable {K F S T ow sh sb bl st va de : Nat → Int32} {di cl : Nat → Int64} {fr : Int64}
theorem ss_x_vn {post : Int32 → Prop} (w : ss_WF K F S T) {c : Nat} (hc : c < 36) (hsh : sh c = ss_SH K F S c) (h1 : ss_ST K F S T c = 1) (h : post (ss_EV K F S T va c)) : wpX_valueNow post (fr, K, F, S, T, ow, sh, sb, bl, di, cl, st, va, de) (nI c) := by
  unfold ss_EV at h
  unfold wpX_valueNow
  simp only [ss_in hc, ss_cl hc, hsh, forall_eq, true_and, and_true, true_implies, false_implies, not_true_eq_false, not_false_eq_true, ss_60, ss_360]
  refine br_c (fun z => ?_) (fun z => ?_)
  · have hk := ss_k14 w hc (ss_ST1k hc h1 w z)
    refine br_c (fun k1 => ?_) (fun k1 => br_c (fun k3 => ?_) (fun k3 => ?_))
    · rw [ss_evs_1 z k1] at h; exact h
    · obtain ⟨⟨a, b, ha, hb, ea, eb, hr⟩, _⟩ := ss_wf3 (w c hc) k3
      rw [ss_evs_3 z k3, ea, eb, ss_cl ha, ss_cl hb] at h
      rw [ea, eb]
      exact ss_x_to ha hb hr h
    · have hF : ss_isc (F c) ∧ ss_isc (S c) := by
        rcases hk with q | q | q | q
        · exact absurd q k1
        · exact ⟨(ss_wf2 (w c hc) q).1, (ss_wf2 (w c hc) q).2.1⟩
        · exact absurd q k3
        · exact ⟨(ss_wf4 (w c hc) q).1, (ss_wf4 (w c hc) q).2.1⟩
      obtain ⟨⟨a, ha, ea⟩, ⟨b, hb, eb⟩⟩ := hF
      refine ⟨ea ▸ ss_in ha, eb ▸ ss_in hb, br_c (fun k4 => ?_) (fun k4 => ?_)⟩
      · rw [ss_evs_4 z k4] at h
        obtain ⟨_, _, ⟨t, ht, et⟩⟩ := ss_wf4 (w c hc) k4
        refine br_c (fun q => ⟨et ▸ ss_in ht, ?_⟩) (fun q => ?_)
        · rw [if_pos q] at h; exact h
        · rw [if_neg q] at h; exact h
      · have k2 : K c = 2 := by
          rcases hk with q | q | q | q
          · exact absurd q k1
          · exact q
          · exact absurd q k3
          · exact absurd q k4
        rw [ss_evs_2 z k2] at h
        exact ss_x_cb h
  · rcases ss_SH_c w hc with q | ⟨_, j, hj, ej⟩
    · exact absurd q.2 z
    · rw [ss_evs_h z] at h
      exact ⟨ej ▸ ss_in hj, h⟩
/-- one round of workOut -/
theorem ss_x_w83 {post : SX → Prop} {J : Int64 → Int32 → (Nat → Int32) → (Nat → Int32) → (Nat → Int32) → (Nat → Int32) → (Nat → Int32) → (Nat → Int32) → (Nat → Int32) → (Nat → Int32) → (Nat → Int64) → (Nat → Int64) → (Nat → Int32) → (Nat → Int32) → (Nat → Int32) → Prop} {x1 : Int64} {r : Nat} (w : ss_WF K F S T) (hl : ∀ c, c < 36 → sh c = ss_SH K F S c) (hdi : ∀ c, c < 36 → ss_WD (di c) (ss_DD K F S T c)) (h0 : ss_IV K F S T x1 va) (hr : ∀ c, ss_mb x1 c = true → r ≤ ss_rk (ss_DD K F S T) c) (h : ∀ x1' va', ss_IV K F S T x1' va' → (∀ c, ss_mb x1' c = true → r + 1 ≤ ss_rk (ss_DD K F S T) c) → J x1' (nI r + 1) K F S T ow sh sb bl di cl st va' de) : ∃ n, wX_workOut_83 post J (nI r) fr n x1 0 K F S T ow sh sb bl di cl st va de := by
  refine ss_lp2 36 0 (fun n x x1 va => wX_workOut_83 post J (nI r) fr n x1 x K F S T ow sh sb bl di cl st va de) (fun i x1' va' => ss_IV K F S T x1' va' ∧ (∀ c, ss_mb x1' c = true → r ≤ ss_rk (ss_DD K F S T) c) ∧ (∀ c, c < i → ss_mb x1' c = true → r + 1 ≤ ss_rk (ss_DD K F S T) c)) ?_ ?_ x1 va 0 rfl (by omega) ⟨h0, hr, fun c hc => absurd hc (by omega)⟩
  · intro n x1' va' hI
    simp only [wX_workOut_83, ss_ge, forall_eq, true_and, and_true, true_implies, false_implies, not_true_eq_false, not_false_eq_true, ss_60, ss_360]
    exact h x1' va' hI.1 fun c hm => hI.2.2 c (hI.1.1 c hm).1 hm
  · intro n i x1' va' _ hi hI ih
    simp only [wX_workOut_83, ss_nge hi, ss_in hi, ss_cl hi, ss_t1 hi, ss_WD_m (hdi i hi), forall_eq, true_and, and_true, true_implies, false_implies, not_true_eq_false, not_false_eq_true, ss_60, ss_360]
    refine br_c (fun hm => br_c (fun hd => ?_) (fun hd => ih _ _ ⟨hI.1, hI.2.1, fun c hc hc2 => ?_⟩)) (fun hm => ih _ _ ⟨hI.1, hI.2.1, fun c hc hc2 => ?_⟩)
    · refine ss_x_vn w hi (hl i hi) (hI.1.1 i hm).2 ?_
      have hs : ∀ c, ss_mb (x1' &&& (((1 : Int64) <<< ((nI i).toInt64 &&& 63)) ^^^ (-1))) c = true → ss_mb x1' c = true ∧ c ≠ i := by
        intro c z
        rw [ss_mb_n hi, Bool.and_eq_true, Bool.not_eq_true', decide_eq_false_iff_not] at z
        exact z
      exact ih _ _ ⟨ss_IV_s w hI.1 hi hm hd, fun c z => hI.2.1 c (hs c z).1, fun c hc z => hI.2.2 c (by have := (hs c z).2; omega) (hs c z).1⟩
    · by_cases e : c = i
      · subst e
        have : ∃ d, d < 36 ∧ ss_DD K F S T c d ∧ ss_mb x1' d = true := by
          apply Classical.byContradiction
          intro q
          exact hd fun d hd1 q1 q2 => q ⟨d, hd1, q1, q2⟩
        obtain ⟨d, hd1, q1, q2⟩ := this
        have a := ss_rk_lt hd1 (ss_ST1a (hI.1.1 c hm).2) q1
        have b := hI.2.1 d q2
        omega
      · exact hI.2.2 c (by omega) hc2
    · refine hI.2.2 c ?_ hc2
      have : c ≠ i := by
        rintro rfl
        exact hm hc2
      omega
theorem ss_x_w68 {post : SX → Prop} {x1 : Int64} (w : ss_WF K F S T) (hl : ∀ c, c < 36 → sh c = ss_SH K F S c) (hdi : ∀ c, c < 36 → ss_WD (di c) (ss_DD K F S T c)) (h0 : ss_IV K F S T x1 va) (h : ∀ va', ss_FX K F S T va' → post (fr, K, F, S, T, ow, sh, sb, bl, di, cl, st, va', de)) : ∃ n, wX_workOut_68 post fr n x1 0 K F S T ow sh sb bl di cl st va de := by
  refine ss_lp2 36 0 (fun n x x1 va => wX_workOut_68 post fr n x1 x K F S T ow sh sb bl di cl st va de) (fun r x1' va' => ss_IV K F S T x1' va' ∧ (∀ c, ss_mb x1' c = true → r ≤ ss_rk (ss_DD K F S T) c)) ?_ ?_ x1 va 0 rfl (by omega) ⟨h0, fun c _ => Nat.zero_le _⟩
  · intro n x1' va' hI
    simp only [wX_workOut_68, ss_ge, forall_eq, true_and, and_true, true_implies, false_implies, not_true_eq_false, not_false_eq_true, ss_60, ss_360]
    refine h va' (ss_IV_e hI.1 fun c hc hm => ?_)
    have a := ss_rk_b hc (ss_ST1a (hI.1.1 c hm).2)
    have b := hI.2 c hm
    omega
  · intro n r x1' va' _ hr hI ih
    simp only [wX_workOut_68, ss_nge hr, forall_eq, true_and, and_true, true_implies, false_implies, not_true_eq_false, not_false_eq_true, ss_60, ss_360]
    refine br_c (fun z => ?_) (fun _ => ?_)
    · refine h va' (ss_IV_e hI.1 fun c hc => ?_)
      exact (ss_z.mp z) c (by omega)
    · exact ss_x_w83 w hl hdi hI.1 hI.2 fun x2 va2 h1 h2 => ih _ _ ⟨h1, h2⟩
theorem ss_x_wo {post : SX → Prop} (w : ss_WF K F S T) (hl : ∀ c, c < 36 → sh c = ss_SH K F S c) (hdi : ∀ c, c < 36 → ss_WD (di c) (ss_DD K F S T c)) (hcl : ∀ c, c < 36 → ss_WD (cl c) (ss_W (ss_DD K F S T) 36 c)) (hst : ∀ c, c < 36 → st c = ss_ST K F S T c) (hv : ∀ c, c < 36 → ¬ ss_mb fr c = true → va c = ss_ite (ss_ST K F S T c = 1) (ss_EV K F S T va c) 0) (h : ∀ va', ss_FX K F S T va' → post (fr, K, F, S, T, ow, sh, sb, bl, di, cl, st, va', de)) : wpX_workOut post (fr, K, F, S, T, ow, sh, sb, bl, di, cl, st, va, de) := by
  unfold wpX_workOut
  refine ss_lp2 36 0 (fun n x x1 va => wX_workOut_4 post fr n x1 x K F S T ow sh sb bl di cl st va de) (fun i x1' va' => ss_WD x1' (fun c => c < i ∧ ss_ST K F S T c = 1 ∧ ∃ d, d < 36 ∧ (ss_W (ss_DD K F S T) 36 c d ∨ d = c) ∧ ss_mb fr d = true) ∧ ∀ c, c < 36 → (c < i ∧ ¬ ss_ST K F S T c = 1 → va' c = 0) ∧ (¬ (c < i ∧ ¬ ss_ST K F S T c = 1) → va' c = va c)) ?_ ?_ 0 va 0 rfl (by omega) ⟨ss_WD_cg ss_WD_0 fun c _ => ⟨False.elim, fun z => absurd z.1 (by omega)⟩, fun c hc => ⟨fun z => absurd z.1 (by omega), fun _ => rfl⟩⟩
  · intro n x1 va' hI
    simp only [wX_workOut_4, ss_ge, forall_eq, true_and, and_true, true_implies, false_implies, not_true_eq_false, not_false_eq_true, ss_60, ss_360]
    refine ss_x_w68 w hl hdi ⟨fun c hm => ⟨((hI.1 c).mp hm).1, ((hI.1 c).mp hm).2.2.1⟩, fun c hc z => (hI.2 c hc).1 ⟨hc, z⟩, fun c hc z y => ?_⟩ h
    have hq : ∀ d, d < 36 → (ss_W (ss_DD K F S T) 36 c d ∨ d = c) → ¬ ss_mb fr d = true := fun d hd q r => y ((hI.1 c).mpr ⟨hc, hc, z, d, hd, q, r⟩)
    refine ⟨fun d hd q r => ?_, ?_⟩
    · obtain ⟨_, _, _, e, he, q1, q2⟩ := (hI.1 d).mp r
      refine hq e he (Or.inl ?_) q2
      rcases q1 with q1 | rfl
      · exact ss_C_t hd (ss_C_1 q) q1
      · exact ss_C_1 q
    · rw [(hI.2 c hc).2 (fun q => q.2 z), hv c hc (hq c hc (Or.inr rfl)), ss_it z]
      refine ss_EV_cg w hc z _ _ fun d hd q => ?_
      by_cases e : ss_ST K F S T d = 1
      · exact ((hI.2 d hd).2 (fun q => q.2 e)).symm
      · rw [(hI.2 d hd).1 ⟨hd, e⟩, hv d hd (hq d hd (Or.inl (ss_C_1 q))), ss_if e]
  · intro n i x1 va' _ hi hI ih
    simp only [wX_workOut_4, ss_nge hi, ss_in hi, ss_cl hi, hst i hi, ss_WD_m (ss_WD_o1 hi (hcl i hi)), forall_eq, true_and, and_true, true_implies, false_implies, not_true_eq_false, not_false_eq_true, ss_60, ss_360]
    refine br_c (fun z => br_c (fun q => ih _ _ ⟨ss_WD_cg hI.1 fun c hc => ?_, fun c hc => ?_⟩) (fun q => ih _ _ ⟨ss_WD_cg (ss_WD_o1 hi hI.1) fun c hc => ?_, fun c hc => ?_⟩)) (fun z => ih _ _ ⟨ss_WD_cg hI.1 fun c hc => ?_, fun c hc => ?_⟩)
    · refine ⟨fun y => ⟨by omega, y.2⟩, fun y => ⟨?_, y.2⟩⟩
      have : c ≠ i := by
        rintro rfl
        obtain ⟨d, hd, q1, q2⟩ := y.2.2
        exact q d hd q1 q2
      omega
    · refine ⟨fun y => (hI.2 c hc).1 ⟨?_, y.2⟩, fun y => (hI.2 c hc).2 fun x => y ⟨by omega, x.2⟩⟩
      have : c ≠ i := by
        rintro rfl
        exact y.2 z
      omega
    · constructor
      · rintro (y | rfl)
        · exact ⟨by omega, y.2⟩
        · refine ⟨by omega, z, ?_⟩
          apply Classical.byContradiction
          intro x
          exact q fun d hd q1 q2 => x ⟨d, hd, q1, q2⟩
      · intro y
        by_cases e : c = i
        · exact Or.inr e
        · exact Or.inl ⟨by omega, y.2⟩
    · refine ⟨fun y => (hI.2 c hc).1 ⟨?_, y.2⟩, fun y => (hI.2 c hc).2 fun x => y ⟨by omega, x.2⟩⟩
      have : c ≠ i := by
        rintro rfl
        exact y.2 z
      omega
    · refine ⟨fun y => ⟨by omega, y.2⟩, fun y => ⟨?_, y.2⟩⟩
      have : c ≠ i := by
        rintro rfl
        exact z y.2.1
      omega
    · by_cases e : c = i
      · subst e
        rw [pk_us]
        exact ⟨fun _ => rfl, fun y => absurd ⟨by omega, z⟩ y⟩
      · rw [pk_un e]
        exact ⟨fun y => (hI.2 c hc).1 ⟨by omega, y.2⟩, fun y => (hI.2 c hc).2 fun x => y ⟨by omega, x.2⟩⟩
theorem ss_x_rn {post : SX → Prop} {K0 F0 S0 T0 : Nat → Int32} {p : Nat} (hp : p < 36) (g : ss_GD K0 F0 S0 T0 ow sh bl di cl st va) (w : ss_WF K F S T) (hk : ∀ c, c < 36 → c ≠ p → K c = K0 c ∧ F c = F0 c ∧ S c = S0 c ∧ T c = T0 c) (h : ∀ fr' ow' sh' sb' bl' di' cl' st' va', ss_GD K F S T ow' sh' bl' di' cl' st' va' → post (fr', K, F, S, T, ow', sh', sb', bl', di', cl', st', va', de)) : wpX_renew post (fr, K, F, S, T, ow, sh, sb, bl, di, cl, st, va, de) (nI p) := by
  obtain ⟨w0, hl0, hd0, hc0, hs0, hv0⟩ := g
  unfold wpX_renew
  refine nm_e (ss_x_lo w fun fr1 ow1 sh1 sb1 bl1 l1 f1 f1' => ?_)
  dsimp only
  refine ss_x_fw w (fun c hc => (l1 c hc).2.1) fun fr2 di2 f2 d2 => ?_
  dsimp only
  refine ss_x_cl d2 fun cl3 c3 => ?_
  dsimp only
  refine ss_x_fs l1 c3 fun fr4 st4 f4 s4 f4' => ?_
  dsimp only
  refine ss_x_wo w (fun c hc => (l1 c hc).2.1) d2 c3 s4 (fun c hc hn => ?_) fun va5 v5 => ?_
  · have n1 : c ≠ p := by
      rintro rfl
      apply hn
      apply f4
      apply f2
      apply f1
      rw [ss_mb_1 hp, decide_eq_true rfl]
    have n2 : sh1 c = sh c := by
      apply Classical.byContradiction
      intro z
      exact hn (f4 c (f2 c (f1' c hc z)))
    have n3 : st4 c = st c := by
      apply Classical.byContradiction
      intro z
      exact hn (f4' c hc z)
    obtain ⟨k1, k2, k3, k4⟩ := hk c hc n1
    have q1 : ss_ST K F S T c = ss_ST K0 F0 S0 T0 c := by rw [← s4 c hc, n3, hs0 c hc]
    have q2 : ss_SH K F S c = ss_SH K0 F0 S0 c := by rw [← (l1 c hc).2.1, n2, (hl0 c hc).2.1]
    have q3 : ss_EV K F S T va c = ss_EV K0 F0 S0 T0 va c := by
      unfold ss_EV
      rw [k1, k2, k3, k4, q2]
    rw [q1, q3]
    exact hv0 c hc
  · exact h _ _ _ _ _ _ _ _ _ ⟨w, l1, d2, c3, s4, v5⟩
end
end
section
/-! 08: Y: settle, shown, reads, trace -/
theorem ss_m2n : ¬ (0 : Int32) ≤ -2 := by decide
theorem ss_m2l : (-2 : Int32) < 0 := by decide
section
variable {K op o1 o2 o3 fm wk nx F S T : Nat → Int32} {dy fa : Nat → Int64}
theorem ss_ymv' {post : Int32 → Prop} {p0 p1 p2 r : Int32} (e : ss_mv p0 p1 p2 = r) (h : post r) : wpY_moved post (K, op, o1, o2, o3, fm, dy, fa, wk, nx) p0 p1 p2 := ss_ymv (by rw [e]; exact h)
theorem ss_y5 (y : ss_YC K F S T o1 o2 o3 op) {s : Nat} (hs : s < 36) (h : K s ≠ 6) : o1 s = F s ∧ o2 s = S s := ⟨(y s hs h).1, (y s hs h).2.1⟩
theorem ss_y56 {k : Int32} (h : k = 5) : k ≠ 6 := by rw [h]; decide
theorem ss_ar_e {s e : Nat} (he : e < 36) (ee : ss_end F S s = nI e) (c : Nat) : ss_ar F S s c ↔ ss_ins c s e := by
  unfold ss_ar
  rw [ee, ss_cl he]
  exact ⟨fun z => z.2, fun z => ⟨ss_p0 he, z⟩⟩
theorem ss_y_co {post : Int32 → Prop} {o : Nat → Int32} (w : ss_WF K F S T) (y : ss_YC K F S T o1 o2 o3 op) {s : Nat} (hs : s < 36) (k5 : K s = 5) (ho : ∀ c, c < 36 → fm c = o c) (hv : ∀ c, c < 36 → o c = -2 ∨ ∃ j, j < 36 ∧ o c = nI j) (h1 : ss_op K F S o s → post 1) (h0 : ¬ ss_op K F S o s → post 0) : wpY_canOpen post (K, op, o1, o2, o3, fm, dy, fa, wk, nx) (nI s) := by
  obtain ⟨e1, e2⟩ := ss_y5 y hs (ss_y56 k5)
  unfold wpY_canOpen
  simp only [ss_in hs, ss_cl hs, e1, e2, forall_eq, true_and, and_true, true_implies, false_implies, not_true_eq_false, not_false_eq_true, ss_60, ss_360]
  obtain ⟨a, b, ha, hb, ea, eb, hr, hc⟩ := ss_end_c w hs k5
  rcases hc with ⟨e, he, ee, q1, q2⟩ | hc
  · have har := ss_ar_e he ee
    refine ss_ymv' ee (br_t (ss_p0 he) ?_)
    refine ss_lp0 36 0 (fun n x => wY_canOpen_52 post (nI s) (nI e) K op o1 o2 o3 fm dy fa wk nx n x) (fun i => ∀ c, c < i → ss_ins c s e → (c = s ∨ K c = 0) ∧ o c = -2) ?_ ?_ 0 rfl (by omega) (fun c hc => absurd hc (by omega))
    · intro n hI
      simp only [wY_canOpen_52, ss_ge, forall_eq, true_and, and_true, true_implies, false_implies, not_true_eq_false, not_false_eq_true, ss_60, ss_360]
      exact h1 ⟨k5, by rw [ee]; exact ss_p0 he, fun c hc z => hI c hc ((har c).mp z)⟩
    · intro n i _ hi hI ih
      have step : ((i = s ∨ K i = 0) ∧ o i = -2 ∨ ¬ ss_ins i s e) → wY_canOpen_52 post (nI s) (nI e) K op o1 o2 o3 fm dy fa wk nx n (nI i + 1) := fun q => ih fun c hc z => by
        by_cases e' : c = i
        · subst e'
          rcases q with q | q
          · exact q
          · exact absurd z q
        · exact hI c (by omega) z
      simp only [wY_canOpen_52, wY_canOpen_85, ss_nge hi, ss_in hi, ss_cl hi, forall_eq, true_and, and_true, true_implies, false_implies, not_true_eq_false, not_false_eq_true, ss_60, ss_360]
      refine ss_yins hi hs he (fun hin => br_f (by decide) ?_) (fun hin => br_t rfl (step (Or.inr hin)))
      have t85 : (i = s ∨ K i = 0) → ((fm i < 0 → wY_canOpen_52 post (nI s) (nI e) K op o1 o2 o3 fm dy fa wk nx n (nI i + 1)) ∧ (¬ fm i < 0 → post 0)) := fun q => by
        rcases hv i hi with z | ⟨j, hj, z⟩
        · exact br_t (by rw [ho i hi, z]; decide) (step (Or.inl ⟨q, z⟩))
        · refine br_f (by rw [ho i hi, z]; exact ss_pn hj) (h0 fun p => ?_)
          have := (p.2.2 i hi ((har i).mpr hin)).2
          rw [z] at this
          exact ss_n2 hj this
      refine br_c (fun q => t85 (Or.inl (ss_inj hi hs q))) (fun q => br_c (fun k0 => t85 (Or.inr k0)) (fun k0 => h0 fun p => ?_))
      rcases (p.2.2 i hi ((har i).mpr hin)).1 with z | z
      · exact q (congrArg nI z)
      · exact k0 z
  · refine ss_ymv' hc (br_f ss_m1n (h0 fun p => ?_))
    have := p.2.1
    rw [hc] at this
    exact ss_m1n this
theorem ss_y_tk {post : SY → Prop} (w : ss_WF K F S T) (y : ss_YC K F S T o1 o2 o3 op) {s : Nat} (hs : s < 36) (k5 : K s = 5) (h0 : 0 ≤ ss_end F S s) (h : ∀ fm' : Nat → Int32, (∀ c, c < 36 → (ss_ar F S s c → fm' c = nI s) ∧ (¬ ss_ar F S s c → fm' c = fm c)) → post (K, op, o1, o2, o3, fm', dy, fa, wk, nx)) : wpY_take post (K, op, o1, o2, o3, fm, dy, fa, wk, nx) (nI s) := by
  obtain ⟨e1, e2⟩ := ss_y5 y hs (ss_y56 k5)
  unfold wpY_take
  simp only [ss_in hs, ss_cl hs, e1, e2, forall_eq, true_and, and_true, true_implies, false_implies, not_true_eq_false, not_false_eq_true, ss_60, ss_360]
  obtain ⟨a, b, ha, hb, ea, eb, hr, hc⟩ := ss_end_c w hs k5
  rcases hc with ⟨e, he, ee, q1, q2⟩ | hc
  · have har := ss_ar_e he ee
    refine ss_ymv' ee ?_
    refine ss_lp1 36 0 (fun n x fm => wY_take_46 post (nI s) (nI e) n x K op o1 o2 o3 fm dy fa wk nx) (fun i fm' => ∀ c, c < 36 → (c < i ∧ ss_ins c s e → fm' c = nI s) ∧ (¬ (c < i ∧ ss_ins c s e) → fm' c = fm c)) ?_ ?_ fm 0 rfl (by omega) (fun c hc => ⟨fun z => absurd z.1 (by omega), fun _ => rfl⟩)
    · intro n fm' hI
      simp only [wY_take_46, ss_ge, forall_eq, true_and, and_true, true_implies, false_implies, not_true_eq_false, not_false_eq_true, ss_60, ss_360]
      exact h fm' fun c hc => ⟨fun z => (hI c hc).1 ⟨hc, (har c).mp z⟩, fun z => (hI c hc).2 fun q => z ((har c).mpr q.2)⟩
    · intro n i fm' _ hi hI ih
      simp only [wY_take_46, ss_nge hi, ss_in hi, ss_cl hi, forall_eq, true_and, and_true, true_implies, false_implies, not_true_eq_false, not_false_eq_true, ss_60, ss_360]
      refine ss_yins hi hs he (fun hin => br_f (by decide) (ih _ fun c hc => ?_)) (fun hin => br_t rfl (ih _ fun c hc => ?_))
      · by_cases e' : c = i
        · subst e'
          rw [pk_us]
          exact ⟨fun _ => rfl, fun q => absurd ⟨by omega, hin⟩ q⟩
        · rw [pk_un e']
          exact ⟨fun z => (hI c hc).1 ⟨by omega, z.2⟩, fun z => (hI c hc).2 fun q => z ⟨by omega, q.2⟩⟩
      · refine ⟨fun z => (hI c hc).1 ⟨?_, z.2⟩, fun z => (hI c hc).2 fun q => z ⟨by omega, q.2⟩⟩
        have : c ≠ i := fun q => hin (q ▸ z.2)
        omega
  · rw [hc] at h0
    exact absurd h0 ss_m1n
theorem ss_y_se {post : SY → Prop} (w : ss_WF K F S T) (y : ss_YC K F S T o1 o2 o3 op) (h : ∀ fm' : Nat → Int32, (∀ c, c < 36 → fm' c = ss_O K F S c) → post (K, op, o1, o2, o3, fm', dy, fa, wk, nx)) : wpY_settle post (K, op, o1, o2, o3, fm, dy, fa, wk, nx) := by
  unfold wpY_settle
  refine ss_lp1 36 0 (fun n x fm => wY_settle_2 post n x K op o1 o2 o3 fm dy fa wk nx) (fun i fm' => ∀ c, c < i → fm' c = -2) ?_ ?_ fm 0 rfl (by omega) (fun c hc => absurd hc (by omega))
  · intro n fm' hI
    simp only [wY_settle_2, ss_ge, forall_eq, true_and, and_true, true_implies, false_implies, not_true_eq_false, not_false_eq_true, ss_60, ss_360]
    refine ss_lp1 36 0 (fun n x fm => wY_settle_24 post n x K op o1 o2 o3 fm dy fa wk nx) (fun s fm' => ∀ c, c < 36 → fm' c = ss_ow K F S s c) ?_ ?_ fm' 0 rfl (by omega) hI
    · intro n fm2 hI2
      simp only [wY_settle_24, ss_ge, forall_eq, true_and, and_true, true_implies, false_implies, not_true_eq_false, not_false_eq_true, ss_60, ss_360]
      exact h fm2 hI2
    · intro n s fm2 _ hs hI2 ih
      simp only [wY_settle_24, ss_nge hs, ss_in hs, ss_cl hs, forall_eq, true_and, and_true, true_implies, false_implies, not_true_eq_false, not_false_eq_true, ss_60, ss_360]
      refine br_c (fun k5 => ?_) (fun k5 => ih _ fun c hc => ?_)
      · refine ss_y_co w y hs k5 hI2 (fun c hc => ?_) (fun ho => br_f (by decide) ?_) (fun ho => br_t rfl (ih _ fun c hc => ?_))
        · rcases ss_ow_v K F S c s with z | ⟨j, hj, z, _⟩
          · exact Or.inl z
          · exact Or.inr ⟨j, by omega, z⟩
        · refine ss_y_tk w y hs k5 ho.2.1 fun fm3 h3 => ?_
          refine ih fm3 fun c hc => ?_
          by_cases z : ss_ar F S s c
          · rw [ss_ow_t ho z]; exact (h3 c hc).1 z
          · rw [ss_ow_f fun q => z q.2, (h3 c hc).2 z]; exact hI2 c hc
        · rw [ss_ow_f fun q => ho q.1]; exact hI2 c hc
      · rw [ss_ow_f fun q => k5 q.1.1]; exact hI2 c hc
  · intro n i fm' _ hi hI ih
    simp only [wY_settle_2, ss_nge hi, ss_in hi, ss_cl hi, forall_eq, true_and, and_true, true_implies, false_implies, not_true_eq_false, not_false_eq_true, ss_60, ss_360]
    refine ih _ fun c hc => ?_
    by_cases e : c = i
    · subst e; rw [pk_us]
    · rw [pk_un e]; exact hI c (by omega)
theorem ss_y_sh {post : Int32 → Prop} (y : ss_YC K F S T o1 o2 o3 op) {c : Nat} (hc : c < 36) (hf : fm c = ss_O K F S c) (h : post (ss_SH K F S c)) : wpY_shown post (K, op, o1, o2, o3, fm, dy, fa, wk, nx) (nI c) := by
  unfold wpY_shown
  simp only [ss_in hc, ss_cl hc, hf, forall_eq, true_and, and_true, true_implies, false_implies, not_true_eq_false, not_false_eq_true, ss_60, ss_360]
  unfold ss_SH at h
  rcases ss_ow_v K F S c 36 with z | ⟨j, hj, z, k5, _⟩
  · have z' : ss_O K F S c = -2 := z
    rw [z'] at h ⊢
    exact br_f ss_m2n (by rw [show ss_sw F (-2) c = -2 from if_pos rfl] at h; exact h)
  · have z' : ss_O K F S c = nI j := z
    rw [z'] at h ⊢
    refine br_t (ss_p0 hj) ⟨ss_in hj, ?_⟩
    rw [ss_cl hj, (ss_y5 y hj (ss_y56 k5)).1]
    unfold ss_sw at h
    rw [if_neg (ss_n2 hj), ss_cl hj] at h
    exact ss_ymv h
theorem ss_y_rd {post : Int32 → Prop} (w : ss_WF K F S T) (y : ss_YC K F S T o1 o2 o3 op) {c d : Nat} (hc : c < 36) (hd : d < 36) (hf : fm c = ss_O K F S c) (h1 : ss_DD K F S T c d → post 1) (h0 : ¬ ss_DD K F S T c d → post 0) : wpY_reads post (K, op, o1, o2, o3, fm, dy, fa, wk, nx) (nI c) (nI d) := by
  unfold wpY_reads
  simp only [ss_in hc, ss_cl hc, forall_eq, true_and, and_true, true_implies, false_implies, not_true_eq_false, not_false_eq_true, ss_60, ss_360]
  unfold ss_DD at h1 h0
  rcases ss_SH_c w hc with ⟨z, zs⟩ | ⟨z, j, hj, ej⟩
  · refine br_t (by rw [hf, z]; decide) ?_
    refine br_c (fun k2 => ?_) (fun k2 => br_c (fun k3 => ?_) (fun k3 => br_c (fun k4 => ?_) (fun k4 => ?_)))
    · obtain ⟨e1, e2⟩ := ss_y5 y hc (by rw [k2]; decide)
      rw [ss_ds_2 zs k2] at h1 h0
      rw [e1, e2]
      exact br_c (fun q => h1 (Or.inl q)) (fun q => br_c (fun r => h1 (Or.inr r)) (fun r => h0 fun t => t.elim q r))
    · obtain ⟨e1, e2⟩ := ss_y5 y hc (by rw [k3]; decide)
      obtain ⟨⟨a, b, ha, hb, ea, eb, hr⟩, _⟩ := ss_wf3 (w c hc) k3
      rw [ss_ds_3 zs k3, ea, eb, ss_cl ha, ss_cl hb] at h1 h0
      rw [e1, e2, ea, eb]
      exact ss_yins hd ha hb (fun q => ⟨rfl, h1 q⟩) (fun q => ⟨rfl, h0 q⟩)
    · obtain ⟨e1, e2⟩ := ss_y5 y hc (by rw [k4]; decide)
      have e3 := (y c hc (by rw [k4]; decide)).2.2.2 (by rw [k4]; decide)
      rw [ss_ds_4 zs k4] at h1 h0
      rw [e1, e2, e3]
      exact br_c (fun q => h1 (Or.inl q)) (fun q => br_c (fun r => h1 (Or.inr (Or.inl r))) (fun r => br_c (fun s => h1 (Or.inr (Or.inr s))) (fun s => h0 fun t => t.elim q (fun t => t.elim r s))))
    · exact h0 (ss_ds_n zs k2 k3 k4)
  · have n : ¬ fm c < 0 := by
      rcases ss_O_v (K := K) (F := F) (S := S) c with q | ⟨i, hi, q⟩
      · exact absurd q z
      · rw [hf, q]; exact ss_pn hi
    refine br_f n (ss_y_sh y hc hf ?_)
    rw [ss_ds_h hd hj ej] at h1 h0
    rw [ej, ss_ieq hj hd]
    exact br_c (fun q => h1 q.symm) (fun q => h0 fun r => q r.symm)
theorem ss_y_hm {post : Int32 → Prop} {x : Int64} {c : Nat} (hc : c < 36) (h1 : ss_mb x c = true → post 1) (h0 : ¬ ss_mb x c = true → post 0) : wpY_holds post (K, op, o1, o2, o3, fm, dy, fa, wk, nx) x (nI c) := by
  unfold wpY_holds
  simp only [ss_t1 hc]
  exact br_c h1 h0
theorem ss_y_ho {post : Int32 → Prop} {x : Int64} {c : Nat} {p : Nat → Prop} (hw : ss_WD x p) (hc : c < 36) (h1 : p c → post 1) (h0 : ¬ p c → post 0) : wpY_holds post (K, op, o1, o2, o3, fm, dy, fa, wk, nx) x (nI c) :=
  ss_y_hm hc (fun z => h1 ((ss_WD_b hw hc).mp z)) (fun z => h0 fun q => z ((ss_WD_b hw hc).mpr q))
/-- one round of widen -/
theorem ss_y_wi {post : Int32 → SY → Prop} {D : Nat → Nat → Prop} (hs : ∀ c, c < 36 → ∀ i, ss_mb (fa c) i = true → i < 36 ∧ ss_W D 36 c i) (h : ∀ (r : Int32) (fa' : Nat → Int64), (r = 0 ∨ r = 1) → (∀ c, c < 36 → ∀ i, ss_mb (fa' c) i = true → i < 36 ∧ ss_W D 36 c i) → (∀ c, c < 36 → ss_sub (fa c) (fa' c)) → (∀ c, c < 36 → ∀ d, d < 36 → ss_mb (fa c) d = true → ss_sub (fa d) (fa' c)) → (r = 0 → ∀ c, c < 36 → fa' c = fa c) → post r (K, op, o1, o2, o3, fm, dy, fa', wk, nx)) : wpY_widen post (K, op, o1, o2, o3, fm, dy, fa, wk, nx) := by
  unfold wpY_widen
  refine ss_lp2 36 0 (fun n x x1 fa => wY_widen_4 post n x1 x K op o1 o2 o3 fm dy fa wk nx) (fun i (x1 : Int32) (fa' : Nat → Int64) => (x1 = 0 ∨ x1 = 1) ∧ (∀ c, c < 36 → ∀ i, ss_mb (fa' c) i = true → i < 36 ∧ ss_W D 36 c i) ∧ (∀ c, c < 36 → ss_sub (fa c) (fa' c)) ∧ (∀ c, c < i → ∀ d, d < 36 → ss_mb (fa c) d = true → ss_sub (fa d) (fa' c)) ∧ (x1 = 0 → ∀ c, c < 36 → fa' c = fa c)) ?_ ?_ 0 fa 0 rfl (by omega) ⟨Or.inl rfl, hs, fun c _ => ss_sub_r _, fun c hc => absurd hc (by omega), fun _ c _ => rfl⟩
  · intro n x1 fa' hI
    simp only [wY_widen_4, ss_ge, forall_eq, true_and, and_true, true_implies, false_implies, not_true_eq_false, not_false_eq_true, ss_60, ss_360]
    refine ⟨?_, h x1 fa' hI.1 hI.2.1 hI.2.2.1 hI.2.2.2.1 hI.2.2.2.2⟩
    rcases hI.1 with q | q <;> rw [q] <;> rfl
  · intro n i x1 fa' _ hi hI ih
    obtain ⟨i1, i2, i3, i4, i5⟩ := hI
    simp only [wY_widen_4, ss_nge hi, ss_in hi, ss_cl hi, forall_eq, true_and, and_true, true_implies, false_implies, not_true_eq_false, not_false_eq_true, ss_60, ss_360]
    refine ss_lp1 36 0 (fun n' x x3 => wY_widen_20 post (wY_widen_4 post n) x1 (nI i) K op o1 o2 o3 fm dy fa' wk nx n' x3 x) (fun d x3 => ∀ j, ss_mb x3 j = true ↔ (ss_mb (fa' i) j = true ∨ ∃ e, e < d ∧ ss_mb (fa' i) e = true ∧ ss_mb (fa' e) j = true)) ?_ ?_ (fa' i) 0 rfl (by omega) (fun j => ⟨Or.inl, fun z => z.elim id (fun q => by obtain ⟨e, he, _⟩ := q; omega)⟩)
    · intro n' x3 hI2
      have g2 : ∀ c, c < 36 → ∀ j, ss_mb (vp_updL fa' i x3 c) j = true → j < 36 ∧ ss_W D 36 c j := by
        intro c hc j
        by_cases e : c = i
        · subst e
          rw [pk_uLs, hI2 j]
          rintro (q | ⟨e, he, q1, q2⟩)
          · exact i2 c hc j q
          · exact ⟨(i2 e he j q2).1, ss_C_t he (i2 c hc e q1).2 (i2 e he j q2).2⟩
        · rw [pk_uLn e]; exact i2 c hc j
      have g3 : ∀ c, c < 36 → ss_sub (fa c) (vp_updL fa' i x3 c) := by
        intro c hc j z
        by_cases e : c = i
        · subst e
          rw [pk_uLs, hI2 j]
          exact Or.inl (i3 c hc j z)
        · rw [pk_uLn e]; exact i3 c hc j z
      have g4 : ∀ c, c < i + 1 → ∀ d, d < 36 → ss_mb (fa c) d = true → ss_sub (fa d) (vp_updL fa' i x3 c) := by
        intro c hc d hd z j q
        by_cases e : c = i
        · subst e
          rw [pk_uLs, hI2 j]
          exact Or.inr ⟨d, hd, i3 c hi d z, i3 d hd j q⟩
        · rw [pk_uLn e]; exact i4 c (by omega) d hd z j q
      simp only [wY_widen_20, ss_ge, ss_in hi, ss_cl hi, forall_eq, true_and, and_true, true_implies, false_implies, not_true_eq_false, not_false_eq_true, ss_60, ss_360]
      refine br_c (fun z => ih _ _ ⟨i1, g2, g3, g4, fun q c hc => ?_⟩) (fun z => ih _ _ ⟨Or.inr rfl, g2, g3, g4, fun q => absurd q (by decide)⟩)
      rw [ss_uL_id fa' i z]
      exact i5 q c hc
    · intro n' d x3 _ hd hI2 ih2
      simp only [wY_widen_20, ss_nge hd, ss_in hd, ss_cl hd, ss_in hi, ss_cl hi, forall_eq, true_and, and_true, true_implies, false_implies, not_true_eq_false, not_false_eq_true, ss_60, ss_360]
      refine ss_y_hm hd (fun z => br_f (by decide) (ih2 _ fun j => ?_)) (fun z => br_t rfl (ih2 _ fun j => ?_))
      · rw [ss_mb_or, Bool.or_eq_true, hI2 j]
        constructor
        · rintro ((q | ⟨e, he, q⟩) | q)
          · exact Or.inl q
          · exact Or.inr ⟨e, by omega, q⟩
          · exact Or.inr ⟨d, by omega, z, q⟩
        · rintro (q | ⟨e, he, q1, q2⟩)
          · exact Or.inl (Or.inl q)
          · by_cases e' : e = d
            · subst e'; exact Or.inr q2
            · exact Or.inl (Or.inr ⟨e, by omega, q1, q2⟩)
      · rw [hI2 j]
        constructor
        · rintro (q | ⟨e, he, q⟩)
          · exact Or.inl q
          · exact Or.inr ⟨e, by omega, q⟩
        · rintro (q | ⟨e, he, q1, q2⟩)
          · exact Or.inl q
          · refine Or.inr ⟨e, ?_, q1, q2⟩
            have : e ≠ d := by
              rintro rfl
              exact z q1
            omega
theorem ss_y_t80 {post : SY → Prop} {D : Nat → Nat → Prop} (h0 : ∀ c, c < 36 → ss_WD (fa c) (D c)) (h : ∀ fa' : Nat → Int64, (∀ c, c < 36 → ss_WD (fa' c) (ss_W D 36 c)) → post (K, op, o1, o2, o3, fm, dy, fa', wk, nx)) : ∃ n, wY_trace_80 post n 1 0 K op o1 o2 o3 fm dy fa wk nx := by
  refine ss_lp2 36 0 (fun n x x1 fa => wY_trace_80 post n x1 x K op o1 o2 o3 fm dy fa wk nx) (fun k (x1 : Int32) (fa' : Nat → Int64) => (∀ c, c < 36 → ∀ i, ss_mb (fa' c) i = true → i < 36 ∧ ss_W D 36 c i) ∧ (∀ c, c < 36 → ∀ i, i < 36 → ss_W D k c i → ss_mb (fa' c) i = true) ∧ (x1 = 0 → ∀ c, c < 36 → ∀ i, i < 36 → ss_W D 36 c i → ss_mb (fa' c) i = true)) ?_ ?_ 1 fa 0 rfl (by omega) ⟨fun c hc i z => ?_, fun c hc i hi z => ((h0 c hc) i).mpr ⟨hi, z⟩, fun z => absurd z (by decide)⟩
  · intro n x1 fa' hI
    simp only [wY_trace_80, ss_ge, forall_eq, true_and, and_true, true_implies, false_implies, not_true_eq_false, not_false_eq_true, ss_60, ss_360]
    exact h fa' fun c hc i => ⟨fun z => hI.1 c hc i z, fun z => hI.2.1 c hc i z.1 z.2⟩
  · intro n k x1 fa' _ hk hI ih
    obtain ⟨i1, i2, i3⟩ := hI
    simp only [wY_trace_80, ss_nge hk, forall_eq, true_and, and_true, true_implies, false_implies, not_true_eq_false, not_false_eq_true, ss_60, ss_360]
    refine br_c (fun z => h fa' fun c hc i => ⟨fun q => i1 c hc i q, fun q => i3 z c hc i q.1 q.2⟩) (fun z => ?_)
    refine ss_y_wi i1 fun r fa2 r1 r2 r3 r4 r5 => ?_
    refine ih r fa2 ⟨r2, fun c hc i hi q => ?_, fun q => ?_⟩
    · rcases q with q | q
      · exact r3 c hc i (i2 c hc i hi q)
      · exact r4 c hc k hk (i2 c hc k hk q.1) i (i2 k hk i hi q.2)
    · intro c hc i hi y
      refine ss_W_min (R := fun c d => ss_mb (fa2 c) d = true) (fun c d hc hd u => ?_) (fun c x d hc hx hd u v => ?_) 36 (Nat.le_refl _) c i hc hi y
      · exact r3 c hc d (i2 c hc d hd (ss_W_le (j := 0) k (by omega) u))
      · have u' : ss_mb (fa' c) x = true := by rw [← r5 q c hc]; exact u
        have v' : ss_mb (fa' x) d = true := by rw [← r5 q x hx]; exact v
        exact r4 c hc x hx u' d v'
  · have q := (h0 c hc i).mp z
    exact ⟨q.1, ss_C_1 q.2⟩
theorem ss_y_t21 {post : SY → Prop} {J : Int32 → (Nat → Int32) → (Nat → Int32) → (Nat → Int32) → (Nat → Int32) → (Nat → Int32) → (Nat → Int32) → (Nat → Int64) → (Nat → Int64) → (Nat → Int32) → (Nat → Int32) → Prop} (w : ss_WF K F S T) (y : ss_YC K F S T o1 o2 o3 op) {c : Nat} (hc : c < 36) (hf : fm c = ss_O K F S c) (h0 : dy c = 0) (h : ∀ (dy' : Nat → Int64), ss_WD (dy' c) (ss_DD K F S T c) → (∀ x, x ≠ c → dy' x = dy x) → J (nI c + 1) K op o1 o2 o3 fm dy' (vp_updL fa c (dy' c)) wk nx) : ∃ n, wY_trace_21 post J (nI c) n 0 K op o1 o2 o3 fm dy fa wk nx := by
  refine ss_lp1 36 0 (fun n x dy => wY_trace_21 post J (nI c) n x K op o1 o2 o3 fm dy fa wk nx) (fun d dy' => ss_WD (dy' c) (fun e => e < d ∧ ss_DD K F S T c e) ∧ ∀ x, x ≠ c → dy' x = dy x) ?_ ?_ dy 0 rfl (by omega) ⟨?_, fun _ _ => rfl⟩
  · intro n dy' hI
    simp only [wY_trace_21, ss_ge, ss_in hc, ss_cl hc, forall_eq, true_and, and_true, true_implies, false_implies, not_true_eq_false, not_false_eq_true, ss_60, ss_360]
    exact h dy' (ss_WD_cg hI.1 fun e he => ⟨fun z => z.2, fun z => ⟨he, z⟩⟩) hI.2
  · intro n d dy' _ hd hI ih
    simp only [wY_trace_21, ss_nge hd, ss_in hc, ss_cl hc, forall_eq, true_and, and_true, true_implies, false_implies, not_true_eq_false, not_false_eq_true, ss_60, ss_360]
    refine ss_y_rd w y hc hd hf (fun z => br_f (by decide) (ih _ ⟨?_, fun x hx => ?_⟩)) (fun z => br_t rfl (ih _ ⟨ss_WD_cg hI.1 fun e he => ?_, hI.2⟩))
    · rw [pk_uLs]
      refine ss_WD_cg (ss_WD_o1 hd hI.1) fun e he => ?_
      constructor
      · rintro (q | rfl)
        · exact ⟨by omega, q.2⟩
        · exact ⟨by omega, z⟩
      · intro q
        by_cases e' : e = d
        · exact Or.inr e'
        · exact Or.inl ⟨by omega, q.2⟩
    · rw [pk_uLn hx]; exact hI.2 x hx
    · refine ⟨fun q => ⟨by omega, q.2⟩, fun q => ⟨?_, q.2⟩⟩
      have : e ≠ d := by
        rintro rfl
        exact z q.2
      omega
  · rw [h0]
    exact ss_WD_cg ss_WD_0 fun e _ => ⟨False.elim, fun z => absurd z.1 (by omega)⟩
theorem ss_y_tr {post : SY → Prop} (w : ss_WF K F S T) (y : ss_YC K F S T o1 o2 o3 op) (h : ∀ (fm' : Nat → Int32) (dy' fa' : Nat → Int64), (∀ c, c < 36 → fm' c = ss_O K F S c) → (∀ c, c < 36 → ss_WD (dy' c) (ss_DD K F S T c)) → (∀ c, c < 36 → ss_WD (fa' c) (ss_W (ss_DD K F S T) 36 c)) → post (K, op, o1, o2, o3, fm', dy', fa', wk, nx)) : wpY_trace post (K, op, o1, o2, o3, fm, dy, fa, wk, nx) := by
  unfold wpY_trace
  refine ss_y_se w y fun fm1 f1 => ?_
  dsimp only
  refine ss_lp2 36 0 (fun n x dy fa => wY_trace_6 post n x K op o1 o2 o3 fm1 dy fa wk nx) (fun i dy' fa' => ∀ c, c < i → ss_WD (dy' c) (ss_DD K F S T c) ∧ ss_WD (fa' c) (ss_DD K F S T c)) ?_ ?_ dy fa 0 rfl (by omega) (fun c hc => absurd hc (by omega))
  · intro n dy' fa' hI
    simp only [wY_trace_6, ss_ge, forall_eq, true_and, and_true, true_implies, false_implies, not_true_eq_false, not_false_eq_true, ss_60, ss_360]
    exact ss_y_t80 (fun c hc => (hI c hc).2) fun fa2 h2 => h fm1 dy' fa2 f1 (fun c hc => (hI c hc).1) h2
  · intro n i dy' fa' _ hi hI ih
    simp only [wY_trace_6, ss_nge hi, ss_in hi, ss_cl hi, forall_eq, true_and, and_true, true_implies, false_implies, not_true_eq_false, not_false_eq_true, ss_60, ss_360]
    refine ss_y_t21 w y hi (f1 i hi) pk_uLs fun dy2 g1 g2 => ih _ _ fun c hc => ?_
    by_cases e : c = i
    · subst e
      rw [pk_uLs]
      exact ⟨g1, g1⟩
    · rw [pk_uLn e, g2 c e, pk_uLn e]
      exact hI c (by omega)
end
end
section
/-! 09: Y: stateOf, reckon, values -/
section
variable {K op o1 o2 o3 fm wk nx F S T : Nat → Int32} {dy fa : Nat → Int64}
theorem ss_y_sp {post : Int32 → Prop} {c : Nat} (hc : c < 36) (hf : fm c = ss_O K F S c) (h1 : ss_sp K F S c → post 1) (h0 : ¬ ss_sp K F S c → post 0) : wpY_spoilt post (K, op, o1, o2, o3, fm, dy, fa, wk, nx) (nI c) := by
  unfold wpY_spoilt
  simp only [ss_in hc, ss_cl hc, hf, forall_eq, true_and, and_true, true_implies, false_implies, not_true_eq_false, not_false_eq_true, ss_60, ss_360]
  refine br_c (fun k6 => h1 (Or.inl k6)) (fun k6 => br_c (fun k5 => br_c (fun z => h0 ?_) (fun z => h1 (Or.inr ⟨k5, z⟩))) (fun k5 => h0 ?_))
  · rintro (q | q)
    · exact k6 q
    · exact q.2 z
  · rintro (q | q)
    · exact k6 q
    · exact k5 q.1
theorem ss_y_st {post : Int32 → Prop} (w : ss_WF K F S T) {c : Nat} (hc : c < 36) (hf : ∀ c, c < 36 → fm c = ss_O K F S c) (hfa : ∀ c, c < 36 → ss_WD (fa c) (ss_W (ss_DD K F S T) 36 c)) (h : post (ss_ST K F S T c)) : wpY_stateOf post (K, op, o1, o2, o3, fm, dy, fa, wk, nx) (nI c) := by
  unfold wpY_stateOf
  simp only [ss_in hc, ss_cl hc, forall_eq, true_and, and_true, true_implies, false_implies, not_true_eq_false, not_false_eq_true, ss_60, ss_360]
  have p2 : (∃ d, d < 36 ∧ (d = c ∨ ss_W (ss_DD K F S T) 36 c d) ∧ ss_W (ss_DD K F S T) 36 d d) → post 2 := fun q => by
    unfold ss_ST ss_sts at h
    rw [ss_it q] at h
    exact h
  refine ss_y_ho (hfa c hc) hc (fun z => br_f (by decide) (p2 ⟨c, hc, Or.inl rfl, z⟩)) (fun z => br_t rfl ?_)
  have main : ∀ b : Int32, (b = 0 ↔ ¬ ss_sp K F S c) → ∃ n24 : Nat, wY_stateOf_24 post (nI c) K op o1 o2 o3 fm dy fa wk nx n24 b 0 := by
    intro b hb
    refine ss_lp1 36 0 (fun n x x2 => wY_stateOf_24 post (nI c) K op o1 o2 o3 fm dy fa wk nx n x2 x) (fun d x2 => (∀ e, e < d → ss_W (ss_DD K F S T) 36 c e → ¬ ss_W (ss_DD K F S T) 36 e e) ∧ (x2 = 0 ↔ ¬ (ss_sp K F S c ∨ ∃ e, e < d ∧ ss_W (ss_DD K F S T) 36 c e ∧ ss_sp K F S e))) ?_ ?_ b 0 rfl (by omega) ⟨fun e he => absurd he (by omega), hb.trans ⟨fun q r => r.elim q (fun ⟨e, he, _⟩ => absurd he (by omega)), fun q r => q (Or.inl r)⟩⟩
    · intro n x2 hI
      have n2 : ¬ ∃ d, d < 36 ∧ (d = c ∨ ss_W (ss_DD K F S T) 36 c d) ∧ ss_W (ss_DD K F S T) 36 d d := by
        rintro ⟨d, hd, rfl | q, r⟩
        · exact z r
        · exact hI.1 d hd q r
      have e3 : (∃ d, d < 36 ∧ (d = c ∨ ss_W (ss_DD K F S T) 36 c d) ∧ ss_sp K F S d) ↔ (ss_sp K F S c ∨ ∃ e, e < 36 ∧ ss_W (ss_DD K F S T) 36 c e ∧ ss_sp K F S e) := by
        constructor
        · rintro ⟨d, hd, rfl | q, r⟩
          · exact Or.inl r
          · exact Or.inr ⟨d, hd, q, r⟩
        · rintro (q | ⟨d, hd, q, r⟩)
          · exact ⟨c, hc, Or.inl rfl, q⟩
          · exact ⟨d, hd, Or.inr q, r⟩
      unfold ss_ST ss_sts at h
      rw [ss_if n2] at h
      simp only [wY_stateOf_24, ss_ge, ss_in hc, ss_cl hc, forall_eq, true_and, and_true, true_implies, false_implies, not_true_eq_false, not_false_eq_true, ss_60, ss_360]
      refine br_c (fun b0 => ?_) (fun b0 => ?_)
      · rw [ss_if (fun q => hI.2.mp b0 (e3.mp q))] at h
        rw [hf c hc]
        refine br_c (fun k0 => br_c (fun z1 => ?_) (fun z1 => ?_)) (fun k0 => ?_)
        · rw [ss_if] at h
          · exact h
          · intro q
            rw [(ss_SH_O w hc).mp q.2] at z1
            exact ss_m2n z1
        · rw [ss_it] at h
          · exact h
          · refine ⟨k0, (ss_SH_O w hc).mpr ?_⟩
            rcases ss_O_v (K := K) (F := F) (S := S) c with q | ⟨i, hi, q⟩
            · exact q
            · rw [q] at z1; exact absurd (ss_p0 hi) z1
        · rw [ss_if (fun q => k0 q.1)] at h
          exact h
      · rw [ss_it] at h
        · exact h
        · apply e3.mpr
          apply Classical.byContradiction
          intro q
          exact b0 (hI.2.mpr q)
    · intro n d x2 _ hd hI ih
      have nx1 : (ss_W (ss_DD K F S T) 36 c d → ¬ ss_W (ss_DD K F S T) 36 d d) → ∀ e, e < d + 1 → ss_W (ss_DD K F S T) 36 c e → ¬ ss_W (ss_DD K F S T) 36 e e := by
        intro q e he
        by_cases e' : e = d
        · subst e'; exact q
        · exact hI.1 e (by omega)
      have s60 : (ss_W (ss_DD K F S T) 36 c d → ¬ ss_W (ss_DD K F S T) 36 d d) → wY_stateOf_60 post (wY_stateOf_24 post (nI c) K op o1 o2 o3 fm dy fa wk nx n) (nI c) x2 (nI d) K op o1 o2 o3 fm dy fa wk nx := by
        intro q
        simp only [wY_stateOf_60, ss_in hc, ss_cl hc, forall_eq, true_and, and_true, true_implies, false_implies, not_true_eq_false, not_false_eq_true, ss_60, ss_360]
        refine ss_y_ho (hfa c hc) hd (fun u => br_f (by decide) ?_) (fun u => br_t rfl (ih _ ⟨nx1 q, hI.2.trans ?_⟩))
        · refine ss_y_sp hd (hf d hd) (fun v => br_f (by decide) (ih _ ⟨nx1 q, ?_⟩)) (fun v => br_t rfl (ih _ ⟨nx1 q, hI.2.trans ?_⟩))
          · exact ⟨fun r => absurd r (by decide), fun r => absurd (Or.inr ⟨d, by omega, u, v⟩) r⟩
          · refine not_congr (or_congr Iff.rfl ⟨fun ⟨e, he, r⟩ => ⟨e, by omega, r⟩, fun ⟨e, he, r⟩ => ⟨e, ?_, r⟩⟩)
            have : e ≠ d := by
              rintro rfl
              exact v r.2
            omega
        · refine not_congr (or_congr Iff.rfl ⟨fun ⟨e, he, r⟩ => ⟨e, by omega, r⟩, fun ⟨e, he, r⟩ => ⟨e, ?_, r⟩⟩)
          have : e ≠ d := by
            rintro rfl
            exact u r.1
          omega
      simp only [wY_stateOf_24, ss_nge hd, ss_in hc, ss_cl hc, ss_in hd, ss_cl hd, forall_eq, true_and, and_true, true_implies, false_implies, not_true_eq_false, not_false_eq_true, ss_60, ss_360]
      refine ss_y_ho (hfa c hc) hd (fun u => br_f (by decide) ?_) (fun u => br_t rfl (s60 fun v => absurd v u))
      exact ss_y_ho (hfa d hd) hd (fun v => br_f (by decide) (p2 ⟨d, hd, Or.inr u, v⟩)) (fun v => br_t rfl (s60 fun _ => v))
  exact ss_y_sp hc (hf c hc) (fun u => main 1 ⟨fun r => absurd r (by decide), fun r => absurd u r⟩) (fun u => main 0 ⟨fun _ => u, fun _ => rfl⟩)
theorem ss_y_cb {post : Int32 → Prop} {o a b : Int32} (h : post (ss_cb o a b)) : wpY_combine post (K, op, o1, o2, o3, fm, dy, fa, wk, nx) o a b := by
  unfold ss_cb at h
  unfold wpY_combine
  refine br_c (fun c => ?_) (fun c => br_c (fun c2 => ?_) (fun c2 => br_c (fun c3 => ?_) (fun c3 => br_c (fun c4 => br_c (fun d => ?_) (fun d => ?_)) (fun c4 => br_c (fun d => ?_) (fun d => ?_)))))
  · rw [if_pos c] at h; exact h
  · rw [if_neg c, if_pos c2] at h; exact h
  · rw [if_neg c, if_neg c2, if_pos c3] at h; exact h
  · rw [if_neg c, if_neg c2, if_neg c3, if_pos c4, if_pos d] at h; exact h
  · rw [if_neg c, if_neg c2, if_neg c3, if_pos c4, if_neg d] at h; exact h
  · rw [if_neg c, if_neg c2, if_neg c3, if_neg c4, if_pos d] at h; exact h
  · rw [if_neg c, if_neg c2, if_neg c3, if_neg c4, if_neg d] at h; exact h
theorem ss_y_rk {post : Int32 → Prop} (w : ss_WF K F S T) (y : ss_YC K F S T o1 o2 o3 op) {c : Nat} (hc : c < 36) (hf : fm c = ss_O K F S c) (h1 : ss_ST K F S T c = 1) (h : post (ss_EV K F S T wk c)) : wpY_reckon post (K, op, o1, o2, o3, fm, dy, fa, wk, nx) (nI c) := by
  unfold ss_EV at h
  unfold wpY_reckon
  simp only [ss_in hc, ss_cl hc, forall_eq, true_and, and_true, true_implies, false_implies, not_true_eq_false, not_false_eq_true, ss_60, ss_360]
  rcases ss_SH_c w hc with ⟨z, zs⟩ | ⟨z, j, hj, ej⟩
  · refine br_t (by rw [hf, z]; decide) ?_
    have nk := ss_ST1k hc h1 w zs
    have hk := ss_k14 w hc nk
    obtain ⟨e1, e2⟩ := ss_y5 y hc nk.2.2
    rw [e1, e2]
    refine br_c (fun k1 => ?_) (fun k1 => br_c (fun k2 => ?_) (fun k2 => br_c (fun k4 => ?_) (fun k4 => ?_)))
    · rw [ss_evs_1 zs k1] at h; exact h
    · rw [ss_evs_2 zs k2] at h
      obtain ⟨⟨a, ha, ea⟩, ⟨b, hb, eb⟩, _⟩ := ss_wf2 (w c hc) k2
      have e3 := ((y c hc nk.2.2).2.2.1 k2).1
      refine ⟨ea ▸ ss_in ha, eb ▸ ss_in hb, ?_⟩
      rw [e3]
      exact ss_y_cb h
    · rw [ss_evs_4 zs k4] at h
      obtain ⟨⟨a, ha, ea⟩, ⟨b, hb, eb⟩, ⟨t, ht, et⟩⟩ := ss_wf4 (w c hc) k4
      have e3 := (y c hc nk.2.2).2.2.2 k2
      rw [e3]
      refine ⟨ea ▸ ss_in ha, br_c (fun q => ⟨et ▸ ss_in ht, ?_⟩) (fun q => ⟨eb ▸ ss_in hb, ?_⟩)⟩
      · rw [if_pos q] at h; exact h
      · rw [if_neg q] at h; exact h
    · have k3 : K c = 3 := by
        rcases hk with q | q | q | q
        · exact absurd q k1
        · exact absurd q k2
        · exact q
        · exact absurd q k4
      obtain ⟨⟨a, b, ha, hb, ea, eb, hr⟩, _⟩ := ss_wf3 (w c hc) k3
      rw [ss_evs_3 zs k3, ea, eb, ss_cl ha, ss_cl hb] at h
      refine ss_lp1 36 0 (fun n x x2 => wY_reckon_134 post (nI c) K op o1 o2 o3 fm dy fa wk nx n x2 x) (fun i x2 => x2 = ss_sm (fun d => ss_ins d a b) wk i) ?_ ?_ 0 0 rfl (by omega) rfl
      · intro n x2 hI
        simp only [wY_reckon_134, ss_ge, forall_eq, true_and, and_true, true_implies, false_implies, not_true_eq_false, not_false_eq_true, ss_60, ss_360]
        rw [hI]; exact h
      · intro n i x2 _ hi hI ih
        simp only [wY_reckon_134, ss_nge hi, ss_in hc, ss_cl hc, ss_in hi, ss_cl hi, e1, e2, ea, eb, forall_eq, true_and, and_true, true_implies, false_implies, not_true_eq_false, not_false_eq_true, ss_60, ss_360]
        refine ss_yins hi ha hb (fun q => br_f (by decide) (ih _ ?_)) (fun q => br_t rfl (ih _ ?_))
        · rw [hI]; exact (ss_sm_t (p := fun d => ss_ins d a b) (f := wk) q).symm
        · rw [hI]; exact (ss_sm_f (p := fun d => ss_ins d a b) (f := wk) q).symm
  · have n : ¬ fm c < 0 := by
      rcases ss_O_v (K := K) (F := F) (S := S) c with q | ⟨i, hi, q⟩
      · exact absurd q z
      · rw [hf, q]; exact ss_pn hi
    refine br_f n (ss_y_sh y hc hf ?_)
    have n2 : ¬ ss_SH K F S c = -2 := by rw [ej]; exact ss_n2 hj
    rw [ss_evs_h n2] at h
    exact ⟨ej ▸ ss_in hj, h⟩
/-- one sweep of values -/
theorem ss_y_v54 {post : SY → Prop} {J : Int32 → Int32 → (Nat → Int32) → (Nat → Int32) → (Nat → Int32) → (Nat → Int32) → (Nat → Int32) → (Nat → Int32) → (Nat → Int64) → (Nat → Int64) → (Nat → Int32) → (Nat → Int32) → Prop} {f : Nat → Int32} {k : Nat} (w : ss_WF K F S T) (y : ss_YC K F S T o1 o2 o3 op) (hf : ∀ c, c < 36 → fm c = ss_O K F S c) (hn : ∀ c, c < 36 → nx c = ss_ST K F S T c) (fx : ss_FX K F S T f) (h0 : ∀ c, c < 36 → (¬ ss_ST K F S T c = 1 ∨ ss_rk (ss_DD K F S T) c < k) → wk c = f c) (h : ∀ (r : Int32) (wk' : Nat → Int32), (∀ c, c < 36 → (¬ ss_ST K F S T c = 1 ∨ ss_rk (ss_DD K F S T) c < k + 1) → wk' c = f c) → (r = 0 → ss_FX K F S T wk') → J r (nI k + 1) K op o1 o2 o3 fm dy fa wk' nx) : ∃ n, wY_values_54 post J (nI k) n 0 0 K op o1 o2 o3 fm dy fa wk nx := by
  refine ss_lp2 36 0 (fun n x x1 wk => wY_values_54 post J (nI k) n x1 x K op o1 o2 o3 fm dy fa wk nx) (fun i (x1 : Int32) (wk' : Nat → Int32) => (∀ c, c < 36 → (¬ ss_ST K F S T c = 1 ∨ ss_rk (ss_DD K F S T) c < k) → wk' c = f c) ∧ (∀ c, c < i → ss_rk (ss_DD K F S T) c < k + 1 → wk' c = f c) ∧ (x1 = 0 → ∀ c, c < i → wk' c = ss_ite (ss_ST K F S T c = 1) (ss_EV K F S T wk' c) 0)) ?_ ?_ 0 wk 0 rfl (by omega) ⟨h0, fun c hc => absurd hc (by omega), fun _ c hc => absurd hc (by omega)⟩
  · intro n x1 wk' hI
    simp only [wY_values_54, ss_ge, forall_eq, true_and, and_true, true_implies, false_implies, not_true_eq_false, not_false_eq_true, ss_60, ss_360]
    refine h x1 wk' (fun c hc q => ?_) (fun q c hc => hI.2.2 q c hc)
    rcases q with q | q
    · exact hI.1 c hc (Or.inl q)
    · exact hI.2.1 c hc q
  · intro n i x1 wk' _ hi hI ih
    have s79 : ∀ v, v = ss_ite (ss_ST K F S T i = 1) (ss_EV K F S T wk' i) 0 → wY_values_79 post J (wY_values_54 post J (nI k) n) x1 (nI k) (nI i) v K op o1 o2 o3 fm dy fa wk' nx := by
      intro v hv
      have hfi : ¬ ss_ST K F S T i = 1 ∨ ss_rk (ss_DD K F S T) i < k + 1 → v = f i := by
        intro q
        rw [hv, fx i hi]
        by_cases z : ss_ST K F S T i = 1
        · rw [ss_it z, ss_it z]
          refine ss_EV_cg w hi z _ _ fun d hd e => hI.1 d hd (Or.inr ?_)
          have := ss_rk_lt hd (ss_ST1a z) e
          rcases q with q | q
          · exact absurd z q
          · omega
        · rw [ss_if z, ss_if z]
      have g1 : ∀ c, c < 36 → (¬ ss_ST K F S T c = 1 ∨ ss_rk (ss_DD K F S T) c < k) → upd wk' i v c = f c := by
        intro c hc q
        by_cases e : c = i
        · subst e
          rw [pk_us]
          exact hfi (q.elim Or.inl (fun q => Or.inr (by omega)))
        · rw [pk_un e]; exact hI.1 c hc q
      have g2 : ∀ c, c < i + 1 → ss_rk (ss_DD K F S T) c < k + 1 → upd wk' i v c = f c := by
        intro c hc q
        by_cases e : c = i
        · subst e
          rw [pk_us]
          exact hfi (Or.inr q)
        · rw [pk_un e]; exact hI.2.1 c (by omega) q
      simp only [wY_values_79, ss_in hi, ss_cl hi, forall_eq, true_and, and_true, true_implies, false_implies, not_true_eq_false, not_false_eq_true, ss_60, ss_360]
      refine br_c (fun z => ih _ _ ⟨g1, g2, fun q c hc => ?_⟩) (fun z => ih _ _ ⟨g1, g2, fun q => absurd q (by decide)⟩)
      rw [ss_up_id wk' i z]
      by_cases e : c = i
      · subst e; rw [← z]; exact hv
      · exact hI.2.2 q c (by omega)
    simp only [wY_values_54, ss_nge hi, ss_in hi, ss_cl hi, hn i hi, forall_eq, true_and, and_true, true_implies, false_implies, not_true_eq_false, not_false_eq_true, ss_60, ss_360]
    refine br_c (fun z => ss_y_rk w y hi (hf i hi) z ?_) (fun z => s79 0 (ss_if z).symm)
    exact s79 _ (ss_it z).symm
theorem ss_y_va {post : SY → Prop} {f : Nat → Int32} (w : ss_WF K F S T) (y : ss_YC K F S T o1 o2 o3 op) (fx : ss_FX K F S T f) (h : ∀ (fm' : Nat → Int32) (dy' fa' : Nat → Int64) (wk' nx' : Nat → Int32), (∀ c, c < 36 → wk' c = f c) → post (K, op, o1, o2, o3, fm', dy', fa', wk', nx')) : wpY_values post (K, op, o1, o2, o3, fm, dy, fa, wk, nx) := by
  unfold wpY_values
  refine ss_y_tr w y fun fm1 dy1 fa1 f1 f2 f3 => ?_
  dsimp only
  refine ss_lp2 36 0 (fun n x wk nx => wY_values_6 post n x K op o1 o2 o3 fm1 dy1 fa1 wk nx) (fun i wk' nx' => ∀ c, c < i → wk' c = 0 ∧ nx' c = ss_ST K F S T c) ?_ ?_ wk nx 0 rfl (by omega) (fun c hc => absurd hc (by omega))
  · intro n wk' nx' hI
    simp only [wY_values_6, ss_ge, forall_eq, true_and, and_true, true_implies, false_implies, not_true_eq_false, not_false_eq_true, ss_60, ss_360]
    have fin : ∀ wk2, ss_FX K F S T wk2 → ∀ c, c < 36 → wk2 c = f c := fun wk2 q => ss_fx (D := ss_DD K F S T) (on := fun c => ss_ST K F S T c = 1) (ev := fun v c => ss_EV K F S T v c) (fun c _ z => ss_ST1a z) (fun c hc z v v' hv => ss_EV_cg w hc z v v' hv) fx q
    refine ss_lp2 40 0 (fun n x x1 wk => wY_values_40 post n x1 x K op o1 o2 o3 fm1 dy1 fa1 wk nx') (fun k (x1 : Int32) (wk2 : Nat → Int32) => (∀ c, c < 36 → (¬ ss_ST K F S T c = 1 ∨ ss_rk (ss_DD K F S T) c < k) → wk2 c = f c) ∧ (x1 = 0 → ss_FX K F S T wk2)) ?_ ?_ 1 wk' 0 rfl (by omega) ⟨fun c hc q => ?_, fun q => absurd q (by decide)⟩
    · intro n x1 wk2 hI2
      simp only [wY_values_40, show (40 : Int32) ≤ nI 40 from by decide, forall_eq, true_and, and_true, true_implies, false_implies, not_true_eq_false, not_false_eq_true, ss_60, ss_360]
      refine h fm1 dy1 fa1 wk2 nx' fun c hc => hI2.1 c hc ?_
      by_cases z : ss_ST K F S T c = 1
      · right
        have := ss_rk_b hc (ss_ST1a z)
        omega
      · exact Or.inl z
    · intro n k x1 wk2 _ hk hI2 ih
      simp only [wY_values_40, nI_ge (b := 40) hk (by decide), show ¬ (40 : Int32) ≤ nI k from nI_ge (b := 40) hk (by decide), forall_eq, true_and, and_true, true_implies, false_implies, not_true_eq_false, not_false_eq_true, ss_60, ss_360]
      refine br_c (fun z => h fm1 dy1 fa1 wk2 nx' (fin wk2 (hI2.2 z))) (fun z => ?_)
      exact ss_y_v54 w y f1 (fun c hc => (hI c hc).2) fx hI2.1 fun r wk3 g1 g2 => ih _ _ ⟨g1, g2⟩
    · rcases q with q | q
      · rw [(hI c hc).1, fx c hc, ss_if q]
      · omega
  · intro n i wk' nx' _ hi hI ih
    simp only [wY_values_6, ss_nge hi, ss_in hi, ss_cl hi, forall_eq, true_and, and_true, true_implies, false_implies, not_true_eq_false, not_false_eq_true, ss_60, ss_360]
    refine ss_y_st w hi f1 f3 (ih _ _ fun c hc => ?_)
    by_cases e : c = i
    · subst e
      rw [pk_us, pk_us]
      exact ⟨rfl, rfl⟩
    · rw [pk_un e, pk_un e]
      exact hI c (by omega)
end
end
section
/-! 10: depth, both sides -/
theorem ss_dmx {D : Nat → Nat → Prop} {de : Nat → Int32} {d : Nat} (h : ∀ e, e < 36 → D d e → de e = nI (de e).toNatClampNeg ∧ (de e).toNatClampNeg ≤ ss_dp D 36 e) : ss_mi (D d) de 36 = nI (ss_mx (D d) (fun e => (de e).toNatClampNeg) 36) ∧ ss_mx (D d) (fun e => (de e).toNatClampNeg) 36 ≤ ss_mx (D d) (ss_dp D 36) 36 := by
  refine ⟨ss_mi_n 36 fun e he q => ⟨(h e he q).1, ?_⟩, ss_mx_mo 36 fun e he q => (h e he q).2⟩
  have a := (h e he q).2
  have b := (ss_dp_37 D e).2
  omega
theorem ss_dfix {D : Nat → Nat → Prop} {q : Nat → Prop} {g : Nat → Nat} (hq : ∀ d, d < 36 → q d → ss_ac D d ∧ ∀ e, e < 36 → D d e → q e) (h1 : ∀ d, d < 36 → q d → g d ≤ ss_dp D 36 d) (h2 : ∀ d, d < 36 → q d → ss_mx (D d) g 36 + 1 ≤ g d) : ∀ d, d < 36 → q d → g d = ss_dp D 36 d := by
  have key : ∀ n d, d < 36 → q d → ss_rk D d < n → g d = ss_dp D 36 d := by
    intro n
    induction n with
    | zero => intro d _ _ h; omega
    | succ n ih =>
      intro d hd hqd h
      obtain ⟨ha, hs⟩ := hq d hd hqd
      have a := h1 d hd hqd
      have b := h2 d hd hqd
      have c : ss_mx (D d) g 36 = ss_mx (D d) (ss_dp D 36) 36 := ss_mx_cg fun e he r => ih e he (hs e he r) (by have := ss_rk_lt he ha r; omega)
      have e := ss_dp_e hd ha
      omega
  intro d hd hqd
  exact key (ss_rk D d + 1) d hd hqd (by omega)
section
variable {K F S T ow sh sb bl st va de : Nat → Int32} {di cl : Nat → Int64} {fr : Int64}
theorem ss_x_de {post : Int32 → Prop} {x : Int64} {p : Nat → Prop} (hw : ss_WD x p) (h : post (ss_mi p de 36)) : wpX_deepest post (fr, K, F, S, T, ow, sh, sb, bl, di, cl, st, va, de) x := by
  unfold wpX_deepest
  refine ss_lp1 36 0 (fun n i x3 => wX_deepest_5 post x fr K F S T ow sh sb bl di cl st va de n x3 i) (fun i x3 => x3 = ss_mi p de i) ?_ ?_ 0 0 rfl (by omega) rfl
  · intro n x3 hI
    simp only [wX_deepest_5, ss_ge, forall_eq, true_and, and_true, true_implies, false_implies, not_true_eq_false, not_false_eq_true, ss_60, ss_360]
    rw [hI]; exact h
  · intro n i x3 _ hi hI ih
    simp only [wX_deepest_5, ss_nge hi, ss_in hi, ss_cl hi, ss_WD_t hw hi, forall_eq, true_and, and_true, true_implies, false_implies, not_true_eq_false, not_false_eq_true, ss_60, ss_360]
    refine br_c (fun hp => br_c (fun q => ih _ ?_) (fun q => ih _ ?_)) (fun hp => ih _ ?_)
    · rw [hI] at q ⊢
      exact (ss_mi_f fun r => r.2 q).symm
    · rw [hI] at q
      exact (ss_mi_t ⟨hp, q⟩).symm
    · rw [hI]
      exact (ss_mi_f fun r => hp r.1).symm
theorem ss_x_d136 {post : Int32 → SX → Prop} {J63 J81 : Int32 → Int32 → (Nat → Int32) → (Nat → Int32) → (Nat → Int32) → (Nat → Int32) → (Nat → Int32) → (Nat → Int32) → (Nat → Int32) → (Nat → Int32) → (Nat → Int64) → (Nat → Int64) → (Nat → Int32) → (Nat → Int32) → (Nat → Int32) → Prop} {x1 x5 x7 z0 : Int32} {x2 : Int64} {i : Nat} (hi : i < 36) (h1 : x7 ≤ de i → J81 z0 (nI i + 1) K F S T ow sh sb bl di cl st va de) (h2 : ¬ x7 ≤ de i → J81 z0 (nI i + 1) K F S T ow sh sb bl di cl st va (upd de i x7)) : wX_depth_136 post J63 J81 x1 x2 x5 (nI i) x7 z0 fr K F S T ow sh sb bl di cl st va de := by
  simp only [wX_depth_136, ss_in hi, ss_cl hi, ss_up_id de i rfl, forall_eq, true_and, and_true, true_implies, false_implies, not_true_eq_false, not_false_eq_true, ss_60, ss_360]
  exact br_c h1 h2
/-- one round -/
theorem ss_x_d81 {post : Int32 → SX → Prop} {J : Int32 → Int32 → (Nat → Int32) → (Nat → Int32) → (Nat → Int32) → (Nat → Int32) → (Nat → Int32) → (Nat → Int32) → (Nat → Int32) → (Nat → Int32) → (Nat → Int64) → (Nat → Int64) → (Nat → Int32) → (Nat → Int32) → (Nat → Int32) → Prop} {x1 : Int32} {x2 : Int64} {D : Nat → Nat → Prop} {q : Nat → Prop} {r : Nat} (hw : ss_WD x2 q) (hdi : ∀ d, d < 36 → ss_WD (di d) (D d)) (hq : ∀ d, d < 36 → q d → ss_ac D d ∧ ∀ e, e < 36 → D d e → q e) (h0 : ∀ d, d < 36 → q d → de d = nI (de d).toNatClampNeg ∧ (de d).toNatClampNeg ≤ ss_dp D 36 d) (hr : ∀ d, d < 36 → q d → ss_rk D d < r → (de d).toNatClampNeg = ss_dp D 36 d) (h : ∀ (x4 : Int32) (de' : Nat → Int32), (∀ d, d < 36 → q d → de' d = nI (de' d).toNatClampNeg ∧ (de' d).toNatClampNeg ≤ ss_dp D 36 d) → (∀ d, d < 36 → q d → ss_rk D d < r + 1 → (de' d).toNatClampNeg = ss_dp D 36 d) → (x4 = 0 → ∀ d, d < 36 → q d → ss_mx (D d) (fun e => (de' e).toNatClampNeg) 36 + 1 ≤ (de' d).toNatClampNeg) → J x4 (nI r + 1) K F S T ow sh sb bl di cl st va de') : ∃ n, wX_depth_81 post J x1 x2 (nI r) fr n 0 0 K F S T ow sh sb bl di cl st va de := by
  refine ss_lp2 36 0 (fun n x x4 de => wX_depth_81 post J x1 x2 (nI r) fr n x4 x K F S T ow sh sb bl di cl st va de) (fun i (x4 : Int32) (de' : Nat → Int32) => (∀ d, d < 36 → q d → de' d = nI (de' d).toNatClampNeg ∧ (de' d).toNatClampNeg ≤ ss_dp D 36 d) ∧ (∀ d, d < 36 → q d → ss_rk D d < r → (de' d).toNatClampNeg = ss_dp D 36 d) ∧ (∀ d, d < i → q d → ss_rk D d < r + 1 → (de' d).toNatClampNeg = ss_dp D 36 d) ∧ (x4 = 0 → ∀ d, d < i → q d → ss_mx (D d) (fun e => (de' e).toNatClampNeg) 36 + 1 ≤ (de' d).toNatClampNeg)) ?_ ?_ 0 de 0 rfl (by omega) ⟨h0, hr, fun d hd => absurd hd (by omega), fun _ d hd => absurd hd (by omega)⟩
  · intro n x4 de' hI
    simp only [wX_depth_81, ss_ge, forall_eq, true_and, and_true, true_implies, false_implies, not_true_eq_false, not_false_eq_true, ss_60, ss_360]
    exact h x4 de' hI.1 (fun d hd => hI.2.2.1 d hd) (fun z d hd => hI.2.2.2 z d hd)
  · intro n i x4 de' _ hi hI ih
    obtain ⟨i1, i2, i3, i4⟩ := hI
    simp only [wX_depth_81, wX_depth_131, ss_nge hi, ss_in hi, ss_cl hi, ss_WD_t hw hi, forall_eq, true_and, and_true, true_implies, false_implies, not_true_eq_false, not_false_eq_true, ss_60, ss_360]
    refine br_c (fun hp => ?_) (fun hp => ih _ _ ⟨i1, i2, fun d hd hqd => ?_, fun z d hd hqd => ?_⟩)
    · obtain ⟨ha, hs⟩ := hq i hi hp
      obtain ⟨m1, m2⟩ := ss_dmx (D := D) (de := de') (d := i) fun e he hD => i1 e he (hs e he hD)
      have e5 := ss_dp_e hi ha
      have b5 := (ss_dp_37 D i).2
      obtain ⟨c1, c2⟩ := i1 i hi hp
      have m3 : ss_rk D i < r + 1 → ss_mx (D i) (fun e => (de' e).toNatClampNeg) 36 = ss_mx (D i) (ss_dp D 36) 36 := fun hrk => ss_mx_cg fun e he hD => i2 e he (hs e he hD) (by have := ss_rk_lt he ha hD; omega)
      generalize hM : ss_mx (D i) (fun e => (de' e).toNatClampNeg) 36 = M at m1 m2 m3
      generalize hG : (de' i).toNatClampNeg = G at c1 c2
      have m4 : ss_mi (D i) de' 36 + 1 = nI (M + 1) := by rw [m1, nI_1]
      have hle : (ss_mi (D i) de' 36 + 1 ≤ de' i) ↔ M + 1 ≤ G := by
        rw [m4, c1, nI_leI (by omega) (by omega)]
      -- nothing is deeper
      have nA : ∀ z : Int32, M + 1 ≤ G → (z = 0 → x4 = 0) → wX_depth_81 post J x1 x2 (nI r) fr n z (nI i + 1) K F S T ow sh sb bl di cl st va de' := fun z hz hz0 => ih _ _ ⟨i1, i2, fun d hd hqd hrk => by
          by_cases e : d = i
          · subst e
            have := m3 hrk
            rw [hG]
            omega
          · exact i3 d (by omega) hqd hrk, fun y d hd hqd => by
          by_cases e : d = i
          · subst e; rw [hM, hG]; exact hz
          · exact i4 (hz0 y) d (by omega) hqd⟩
      have nB : ¬ M + 1 ≤ G → wX_depth_81 post J x1 x2 (nI r) fr n 1 (nI i + 1) K F S T ow sh sb bl di cl st va (upd de' i (ss_mi (D i) de' 36 + 1)) := fun hz => by
        have cl1 : (ss_mi (D i) de' 36 + 1).toNatClampNeg = M + 1 := by rw [m4]; exact nI_clamp (by omega)
        refine ih _ _ ⟨fun d hd hqd => ?_, fun d hd hqd hrk => ?_, fun d hd hqd hrk => ?_, fun y => absurd y (by decide)⟩
        · by_cases e : d = i
          · subst e
            rw [pk_us, cl1]
            exact ⟨m4, by omega⟩
          · rw [pk_un e]; exact i1 d hd hqd
        · by_cases e : d = i
          · subst e
            rw [pk_us, cl1]
            have := m3 (by omega)
            omega
          · rw [pk_un e]; exact i2 d hd hqd hrk
        · by_cases e : d = i
          · subst e
            rw [pk_us, cl1]
            have := m3 hrk
            omega
          · rw [pk_un e]; exact i3 d (by omega) hqd hrk
      refine ss_x_de (hdi i hi) ?_
      exact br_c (fun z4 => br_c (fun y => ss_x_d136 hi (fun _ => nA 0 (hle.mp y) fun _ => z4) (fun y' => absurd y y')) (fun y => ss_x_d136 hi (fun y' => absurd y' y) (fun _ => nB fun u => y (hle.mpr u)))) (fun z4 => ss_x_d136 hi (fun y => nA 1 (hle.mp y) fun u => absurd u (by decide)) (fun y => nB fun u => y (hle.mpr u)))
    · by_cases e : d = i
      · subst e; exact absurd hqd hp
      · exact i3 d (by omega) hqd
    · by_cases e : d = i
      · subst e; exact absurd hqd hp
      · exact i4 z d (by omega) hqd
theorem ss_x_dp {post : Int32 → SX → Prop} {D : Nat → Nat → Prop} {c : Nat} (hc : c < 36) (hdi : ∀ d, d < 36 → ss_WD (di d) (D d)) (hcl : ss_WD (cl c) (ss_W D 36 c)) (ha : ss_ac D c) (h : ∀ de' : Nat → Int32, post (nI (ss_dp D 36 c)) (fr, K, F, S, T, ow, sh, sb, bl, di, cl, st, va, de')) : ∃ n, wX_depth_36 post (nI c) (cl c ||| ((1 : Int64) <<< ((nI c).toInt64 &&& 63))) fr n 0 K F S T ow sh sb bl di cl st va de := by
  have hw := ss_WD_o1 hc hcl
  have hq : ∀ d, d < 36 → (ss_W D 36 c d ∨ d = c) → ss_ac D d ∧ ∀ e, e < 36 → D d e → (ss_W D 36 c e ∨ e = c) := by
    intro d hd hqd
    refine ⟨fun x hx z => ha x hx ?_, fun e he z => Or.inl ?_⟩
    · rcases hqd with u | rfl
      · rcases z with rfl | z
        · exact Or.inr u
        · exact Or.inr (ss_C_t hd u z)
      · exact z
    · rcases hqd with u | rfl
      · exact ss_C_t hd u (ss_C_1 z)
      · exact ss_C_1 z
  refine ss_lp1 36 0 (fun n x de => wX_depth_36 post (nI c) (cl c ||| ((1 : Int64) <<< ((nI c).toInt64 &&& 63))) fr n x K F S T ow sh sb bl di cl st va de) (fun i de' => ∀ d, d < i → de' d = 1) ?_ ?_ de 0 rfl (by omega) (fun d hd => absurd hd (by omega))
  · intro n de1 hI
    simp only [wX_depth_36, ss_ge, forall_eq, true_and, and_true, true_implies, false_implies, not_true_eq_false, not_false_eq_true, ss_60, ss_360]
    refine ss_lp2 36 0 (fun n x x4 de => wX_depth_63 post (nI c) (cl c ||| ((1 : Int64) <<< ((nI c).toInt64 &&& 63))) fr n x4 x K F S T ow sh sb bl di cl st va de) (fun r (x4 : Int32) (de' : Nat → Int32) => (∀ d, d < 36 → (ss_W D 36 c d ∨ d = c) → de' d = nI (de' d).toNatClampNeg ∧ (de' d).toNatClampNeg ≤ ss_dp D 36 d) ∧ (∀ d, d < 36 → (ss_W D 36 c d ∨ d = c) → ss_rk D d < r → (de' d).toNatClampNeg = ss_dp D 36 d) ∧ (x4 = 0 → ∀ d, d < 36 → (ss_W D 36 c d ∨ d = c) → ss_mx (D d) (fun e => (de' e).toNatClampNeg) 36 + 1 ≤ (de' d).toNatClampNeg)) ?_ ?_ 1 de1 0 rfl (by omega) ⟨fun d hd _ => ?_, fun d _ _ z => absurd z (by omega), fun z => absurd z (by decide)⟩
    · intro n x4 de2 hI2
      simp only [wX_depth_63, ss_ge, ss_in hc, ss_cl hc, forall_eq, true_and, and_true, true_implies, false_implies, not_true_eq_false, not_false_eq_true, ss_60, ss_360]
      rw [(hI2.1 c hc (Or.inr rfl)).1, hI2.2.1 c hc (Or.inr rfl) (ss_rk_b hc ha)]
      exact h de2
    · intro n r x4 de2 _ hr hI2 ih
      simp only [wX_depth_63, ss_nge hr, ss_in hc, ss_cl hc, forall_eq, true_and, and_true, true_implies, false_implies, not_true_eq_false, not_false_eq_true, ss_60, ss_360]
      refine br_c (fun z => ?_) (fun z => ?_)
      · have := ss_dfix (g := fun e => (de2 e).toNatClampNeg) hq (fun d hd hqd => (hI2.1 d hd hqd).2) (hI2.2.2 z) c hc (Or.inr rfl)
        rw [(hI2.1 c hc (Or.inr rfl)).1, this]
        exact h de2
      · exact ss_x_d81 hw hdi hq hI2.1 hI2.2.1 fun x4' de3 g1 g2 g3 => ih _ _ ⟨g1, g2, g3⟩
    · rw [hI d hd]
      exact ⟨rfl, (ss_dp_37 D d).1⟩
  · intro n i de' _ hi hI ih
    simp only [wX_depth_36, ss_nge hi, ss_in hi, ss_cl hi, forall_eq, true_and, and_true, true_implies, false_implies, not_true_eq_false, not_false_eq_true, ss_60, ss_360]
    refine ih _ fun d hd => ?_
    by_cases e : d = i
    · subst e; rw [pk_us]
    · rw [pk_un e]; exact hI d (by omega)
end
section
variable {K op o1 o2 o3 fm wk nx : Nat → Int32} {dy fa : Nat → Int64}
theorem ss_y_de {post : Int32 → Prop} {c : Nat} {p : Nat → Prop} (hc : c < 36) (hw : ss_WD (dy c) p) (h : post (ss_mi p wk 36 + 1)) : wpY_deeper post (K, op, o1, o2, o3, fm, dy, fa, wk, nx) (nI c) := by
  unfold wpY_deeper
  refine ss_lp1 36 0 (fun n x x2 => wY_deeper_4 post (nI c) K op o1 o2 o3 fm dy fa wk nx n x2 x) (fun i x2 => x2 = ss_mi p wk i) ?_ ?_ 0 0 rfl (by omega) rfl
  · intro n x2 hI
    simp only [wY_deeper_4, ss_ge, forall_eq, true_and, and_true, true_implies, false_implies, not_true_eq_false, not_false_eq_true, ss_60, ss_360]
    rw [hI]; exact h
  · intro n i x2 _ hi hI ih
    simp only [wY_deeper_4, ss_nge hi, ss_in hi, ss_cl hi, ss_in hc, ss_cl hc, forall_eq, true_and, and_true, true_implies, false_implies, not_true_eq_false, not_false_eq_true, ss_60, ss_360]
    refine ss_y_ho hw hi (fun hp => br_f (by decide) (br_c (fun q => ih _ ?_) (fun q => ih _ ?_))) (fun hp => br_t rfl (ih _ ?_))
    · rw [hI] at q ⊢
      exact (ss_mi_f fun r => r.2 q).symm
    · rw [hI] at q
      exact (ss_mi_t ⟨hp, q⟩).symm
    · rw [hI]
      exact (ss_mi_f fun r => hp r.1).symm
theorem ss_y_dp {post : Int32 → SY → Prop} {D : Nat → Nat → Prop} {c : Nat} (hc : c < 36) (hdy : ∀ d, d < 36 → ss_WD (dy d) (D d)) (hfa : ∀ d, d < 36 → ss_WD (fa d) (ss_W D 36 d)) (ha : ss_ac D c) (h : ∀ wk' : Nat → Int32, post (nI (ss_dp D 36 c)) (K, op, o1, o2, o3, fm, dy, fa, wk', nx)) : ∃ n, wY_depth_28 post (nI c) n 0 K op o1 o2 o3 fm dy fa wk nx := by
  refine ss_lp1 36 0 (fun n x wk => wY_depth_28 post (nI c) n x K op o1 o2 o3 fm dy fa wk nx) (fun i wk' => True) ?_ ?_ wk 0 rfl (by omega) trivial
  · intro n wk1 _
    simp only [wY_depth_28, ss_ge, forall_eq, true_and, and_true, true_implies, false_implies, not_true_eq_false, not_false_eq_true, ss_60, ss_360]
    refine ss_lp1 36 0 (fun n x wk => wY_depth_49 post (nI c) n x K op o1 o2 o3 fm dy fa wk nx) (fun k wk' => ∀ d, d < 36 → ss_ac D d → ss_rk D d < k → wk' d = nI (ss_dp D 36 d)) ?_ ?_ wk1 0 rfl (by omega) (fun d _ _ z => absurd z (by omega))
    · intro n wk2 hI
      simp only [wY_depth_49, ss_ge, ss_in hc, ss_cl hc, forall_eq, true_and, and_true, true_implies, false_implies, not_true_eq_false, not_false_eq_true, ss_60, ss_360]
      rw [hI c hc ha (ss_rk_b hc ha)]
      exact h wk2
    · intro n k wk2 _ hk hI ih
      simp only [wY_depth_49, ss_nge hk, forall_eq, true_and, and_true, true_implies, false_implies, not_true_eq_false, not_false_eq_true, ss_60, ss_360]
      refine ss_lp1 36 0 (fun n' x wk => wY_depth_57 post (wY_depth_49 post (nI c) n) (nI c) (nI k) n' x K op o1 o2 o3 fm dy fa wk nx) (fun i wk' => (∀ d, d < 36 → ss_ac D d → ss_rk D d < k → wk' d = nI (ss_dp D 36 d)) ∧ (∀ d, d < i → ss_ac D d → ss_rk D d < k + 1 → wk' d = nI (ss_dp D 36 d))) ?_ ?_ wk2 0 rfl (by omega) ⟨hI, fun d hd => absurd hd (by omega)⟩
      · intro n' wk3 hI3
        simp only [wY_depth_57, ss_ge, forall_eq, true_and, and_true, true_implies, false_implies, not_true_eq_false, not_false_eq_true, ss_60, ss_360]
        exact ih _ hI3.2
      · intro n' i wk3 _ hi hI3 ih3
        have put : ∀ v, (ss_ac D i → ss_rk D i < k + 1 → v = nI (ss_dp D 36 i)) → (∀ d, d < 36 → ss_ac D d → ss_rk D d < k → upd wk3 i v d = nI (ss_dp D 36 d)) ∧ (∀ d, d < i + 1 → ss_ac D d → ss_rk D d < k + 1 → upd wk3 i v d = nI (ss_dp D 36 d)) := by
          intro v hv
          refine ⟨fun d hd q1 q2 => ?_, fun d hd q1 q2 => ?_⟩
          · by_cases e : d = i
            · subst e; rw [pk_us]; exact hv q1 (by omega)
            · rw [pk_un e]; exact hI3.1 d hd q1 q2
          · by_cases e : d = i
            · subst e; rw [pk_us]; exact hv q1 q2
            · rw [pk_un e]; exact hI3.2 d (by omega) q1 q2
        simp only [wY_depth_57, ss_nge hi, ss_in hi, ss_cl hi, forall_eq, true_and, and_true, true_implies, false_implies, not_true_eq_false, not_false_eq_true, ss_60, ss_360]
        refine ss_y_ho (hfa i hi) hi (fun z => br_f (by decide) (ih3 _ (put 1 fun q => absurd z (q i hi (Or.inl rfl))))) (fun z => br_t rfl ?_)
        refine ss_y_de hi (hdy i hi) (ih3 _ (put _ fun q1 q2 => ?_))
        have b := fun e => (ss_dp_37 D e).2
        rw [ss_mi_n (g := ss_dp D 36) 36 fun e he hD => ⟨hI3.1 e he (ss_ac_d he q1 hD) (by have := ss_rk_lt he q1 hD; omega), by have := b e; omega⟩, nI_1, ss_dp_e hi q1]
  · intro n i wk1 _ hi _ ih
    simp only [wY_depth_28, ss_nge hi, ss_in hi, ss_cl hi, forall_eq, true_and, and_true, true_implies, false_implies, not_true_eq_false, not_false_eq_true, ss_60, ss_360]
    exact ih _ trivial
end
end
section
/-! 11: the relation, and what all calls share -/
def ss_R (u : SX) (v : SY) : Prop := match u, v with
  | (fr, K, F, S, T, ow, sh, sb, bl, di, cl, st, va, de), (K', op, o1, o2, o3, fm, dy, fa, wk, nx) => K' = K ∧ ss_GD K F S T ow sh bl di cl st va ∧ ss_YC K F S T o1 o2 o3 op
/-- the relation: one content, and X's tables are those of the content -/
def i_Rel (_ : Nat) (u : SX) (v : SY) : Prop := ss_R u v
theorem i_up {k : Nat} {u : SX} {v : SY} (h : i_Rel k u v) : i_Rel (k + 5) u v := h
section
variable {K F S T ow sh sb bl st va de : Nat → Int32} {di cl : Nat → Int64} {fr : Int64}
variable {op o1 o2 o3 fm wk nx : Nat → Int32} {dy fa : Nat → Int64}
theorem ss_Ri {k : Nat} (g : ss_GD K F S T ow sh bl di cl st va) (y : ss_YC K F S T o1 o2 o3 op) : i_Rel k (fr, K, F, S, T, ow, sh, sb, bl, di, cl, st, va, de) (K, op, o1, o2, o3, fm, dy, fa, wk, nx) := by
  show K = K ∧ _ ∧ _
  exact ⟨rfl, g, y⟩
end
theorem ss_Re {P : SX → SY → Prop} (h : ∀ (fr : Int64) (K F S T ow sh sb bl : Nat → Int32) (di cl : Nat → Int64) (st va de : Nat → Int32) (op o1 o2 o3 fm : Nat → Int32) (dy fa : Nat → Int64) (wk nx : Nat → Int32), ss_GD K F S T ow sh bl di cl st va → ss_YC K F S T o1 o2 o3 op → P (fr, K, F, S, T, ow, sh, sb, bl, di, cl, st, va, de) (K, op, o1, o2, o3, fm, dy, fa, wk, nx)) {k : Nat} {u : SX} {v : SY} (I : i_Rel k u v) : P u v := by
  obtain ⟨fr, K, F, S, T, ow, sh, sb, bl, di, cl, st, va, de⟩ := u
  obtain ⟨K', op, o1, o2, o3, fm, dy, fa, wk, nx⟩ := v
  obtain ⟨e, g, y⟩ := I
  subst e
  exact h _ _ _ _ _ _ _ _ _ _ _ _ _ _ _ _ _ _ _ _ _ _ _ g y
theorem ss_xc0 {post : Int32 → Prop} {x : Int32} (h : ss_nc x) (hp : post 0) : wpX_isCell post x := by
  unfold wpX_isCell
  exact br_c (fun _ => hp) (fun a => br_c (fun _ => hp) (fun b => absurd h (fun z => z.elim a b)))
theorem ss_xc1 {post : Int32 → Prop} {j : Nat} (hj : j < 36) (hp : post 1) : wpX_isCell post (nI j) := by
  unfold wpX_isCell
  exact br_f (ss_pn hj) (br_f (ss_nge hj) hp)
theorem ss_36n {x : Int32} (h : 36 ≤ x) : ¬ x ≤ 35 := by
  rw [Int32.le_iff_toInt_le] at h ⊢
  rw [show (36 : Int32).toInt = 36 from by decide] at h
  rw [show (35 : Int32).toInt = 35 from by decide]
  omega
theorem ss_rect (x : Int32) : ((∀ post : Int32 → Prop, post 0 → wpX_isRectangle post x) ∧ (∀ (post : Int32 → Prop) (v : SY), post 1 → wpY_badRect post v x)) ∨ (∃ a b, a < 36 ∧ b < 36 ∧ ss_rec a b ∧ x / 36 = nI a ∧ x - x / 36 * 36 = nI b ∧ (∀ post : Int32 → Prop, post 1 → wpX_isRectangle post x) ∧ (∀ (post : Int32 → Prop) (v : SY), post 0 → wpY_badRect post v x)) := by
  by_cases h : x < 0
  · left
    refine ⟨fun post hp => ?_, fun post v hp => ?_⟩
    · unfold wpX_isRectangle
      exact ⟨ss_360, nm_e ⟨ss_360, nm_e (br_t h hp)⟩⟩
    · obtain ⟨K, op, o1, o2, o3, fm, dy, fa, wk, nx⟩ := v
      unfold wpY_badRect
      exact br_t h hp
  · obtain ⟨n, hn, rfl⟩ := nI_of h
    have e1 : nI n / 36 = nI (n / 36) := pk_div (d := 36) hn (by decide) (by decide)
    have e2 : nI n - nI n / 36 * 36 = nI (n % 36) := pk_rem (d := 36) hn (by decide) (by decide)
    by_cases h2 : n < 1296
    · have ha : n / 36 < 36 := by omega
      have hb : n % 36 < 36 := by omega
      have q : nI n ≤ 1295 := nI_le (b := 1295) (by omega) (by decide)
      by_cases h3 : ss_rec (n / 36) (n % 36)
      · right
        unfold ss_rec at h3
        refine ⟨n / 36, n % 36, ha, hb, h3, e1, e2, fun post hp => ?_, fun post v hp => ?_⟩
        · unfold wpX_isRectangle
          refine ⟨ss_360, nm_r e1 ⟨ss_360, nm_r e2 (br_f h (br_f (ss_nge ha) ⟨ss_60, ss_60, ?_⟩))⟩⟩
          rw [ss_r6 ha, ss_r6 hb, ss_d6 ha, ss_d6 hb]
          exact br_f (nI_nlt (by omega) (by omega)) ⟨ss_60, ss_60, br_f (nI_nlt (by omega) (by omega)) hp⟩
        · obtain ⟨K, op, o1, o2, o3, fm, dy, fa, wk, nx⟩ := v
          unfold wpY_badRect
          refine br_f h (br_t q ⟨ss_360, nm_r e1 ⟨ss_360, nm_r e2 ⟨ss_60, ss_60, ?_⟩⟩⟩)
          rw [ss_r6 ha, ss_r6 hb, ss_d6 ha, ss_d6 hb]
          exact br_f (nI_nlt (by omega) (by omega)) ⟨ss_60, ss_60, br_t (nI_le (by omega) (by omega)) hp⟩
      · left
        unfold ss_rec at h3
        refine ⟨fun post hp => ?_, fun post v hp => ?_⟩
        · unfold wpX_isRectangle
          refine ⟨ss_360, nm_r e1 ⟨ss_360, nm_r e2 (br_f h (br_f (ss_nge ha) ⟨ss_60, ss_60, ?_⟩))⟩⟩
          rw [ss_r6 ha, ss_r6 hb, ss_d6 ha, ss_d6 hb, nI_ltI (by omega) (by omega), nI_ltI (by omega) (by omega)]
          exact br_c (fun _ => hp) (fun z => ⟨ss_60, ss_60, br_t (by omega) hp⟩)
        · obtain ⟨K, op, o1, o2, o3, fm, dy, fa, wk, nx⟩ := v
          unfold wpY_badRect
          refine br_f h (br_t q ⟨ss_360, nm_r e1 ⟨ss_360, nm_r e2 ⟨ss_60, ss_60, ?_⟩⟩⟩)
          rw [ss_r6 ha, ss_r6 hb, ss_d6 ha, ss_d6 hb, nI_ltI (by omega) (by omega), nI_leI (by omega) (by omega)]
          exact br_c (fun _ => hp) (fun z => ⟨ss_60, ss_60, br_f (by omega) hp⟩)
    · left
      refine ⟨fun post hp => ?_, fun post v hp => ?_⟩
      · unfold wpX_isRectangle
        exact ⟨ss_360, nm_r e1 ⟨ss_360, nm_r e2 (br_f h (br_t (nI_le (a := 36) (by omega) (by omega)) hp))⟩⟩
      · obtain ⟨K, op, o1, o2, o3, fm, dy, fa, wk, nx⟩ := v
        unfold wpY_badRect
        exact br_f h (br_f (nI_ge (a := 1295) (by omega) hn) hp)
theorem ss_uu (f : Nat → Int32) (j : Nat) (x z : Int32) : upd (upd f j x) j z = upd f j z := by
  funext i
  by_cases e : i = j
  · subst e; rw [pk_us, pk_us]
  · rw [pk_un e, pk_un e, pk_un e]
section
variable {K F S T ow sh sb bl st va de : Nat → Int32} {di cl : Nat → Int64} {fr : Int64}
variable {op o1 o2 o3 fm wk nx : Nat → Int32} {dy fa : Nat → Int64}
theorem ss_yb1 {post : Int32 → Prop} {x : Int32} (h : ss_nc x) (hp : post 1) : wpY_bad post (K, op, o1, o2, o3, fm, dy, fa, wk, nx) x := by
  unfold wpY_bad
  exact br_c (fun _ => hp) (fun a => br_c (fun b => absurd b (h.elim (fun z => absurd z a) ss_36n)) (fun _ => hp))
theorem ss_yb0 {post : Int32 → Prop} {j : Nat} (hj : j < 36) (hp : post 0) : wpY_bad post (K, op, o1, o2, o3, fm, dy, fa, wk, nx) (nI j) := by
  unfold wpY_bad
  exact br_f (ss_pn hj) (br_t (nI_le (b := 35) (by omega) (by decide)) hp)
theorem ss_x_wr {post : SX → Prop} {j : Nat} {k a b c : Int32} (hj : j < 36) (h : post (fr, upd K j k, upd F j a, upd S j b, upd T j c, ow, sh, sb, bl, di, cl, st, va, de)) : wpX_write post (fr, K, F, S, T, ow, sh, sb, bl, di, cl, st, va, de) (nI j) k a b c := by
  unfold wpX_write
  simp only [ss_in hj, ss_cl hj, forall_eq, true_and, and_true, true_implies, false_implies, not_true_eq_false, not_false_eq_true, ss_60, ss_360]
  exact h
theorem ss_y_fi {post : SY → Prop} {j : Nat} {k a b c : Int32} (hj : j < 36) (h : post (upd K j k, upd op j 0, upd o1 j a, upd o2 j b, upd o3 j c, fm, dy, fa, wk, nx)) : wpY_fill post (K, op, o1, o2, o3, fm, dy, fa, wk, nx) (nI j) k a b c := by
  unfold wpY_fill
  simp only [ss_in hj, ss_cl hj, forall_eq, true_and, and_true, true_implies, false_implies, not_true_eq_false, not_false_eq_true, ss_60, ss_360]
  exact h
theorem ss_WF_u {j : Nat} {k a b c : Int32} (w : ss_WF K F S T) (h : ss_wf k a b c) : ss_WF (upd K j k) (upd F j a) (upd S j b) (upd T j c) := by
  intro i hi
  by_cases e : i = j
  · subst e; rw [pk_us, pk_us, pk_us, pk_us]; exact h
  · rw [pk_un e, pk_un e, pk_un e, pk_un e]; exact w i hi
theorem ss_YC_u {j : Nat} {k a b c a' b' c' p : Int32} (y : ss_YC K F S T o1 o2 o3 op) (h : ss_yc k a b c a' b' c' p) : ss_YC (upd K j k) (upd F j a) (upd S j b) (upd T j c) (upd o1 j a') (upd o2 j b') (upd o3 j c') (upd op j p) := by
  intro i hi
  by_cases e : i = j
  · subst e; rw [pk_us, pk_us, pk_us, pk_us, pk_us, pk_us, pk_us, pk_us]; exact h
  · rw [pk_un e, pk_un e, pk_un e, pk_un e, pk_un e, pk_un e, pk_un e, pk_un e]; exact y i hi
theorem ss_x_put {post : SX → Prop} {j : Nat} {k a b c : Int32} (hj : j < 36) (g : ss_GD K F S T ow sh bl di cl st va) (hw : ss_wf k a b c) (h : ∀ fr' ow' sh' sb' bl' di' cl' st' va', ss_GD (upd K j k) (upd F j a) (upd S j b) (upd T j c) ow' sh' bl' di' cl' st' va' → post (fr', upd K j k, upd F j a, upd S j b, upd T j c, ow', sh', sb', bl', di', cl', st', va', de)) : wpX_renew post (fr, upd K j k, upd F j a, upd S j b, upd T j c, ow, sh, sb, bl, di, cl, st, va, de) (nI j) :=
  ss_x_rn hj g (ss_WF_u g.1 hw) (fun c hc hne => ⟨pk_un hne, pk_un hne, pk_un hne, pk_un hne⟩) h
end
/-! how many cells a rectangle has -/
def ss_cd (a b : Nat) : Nat → Nat
  | 0 => 0
  | n + 1 => ss_cd a b n + (if a / 6 ≤ n / 6 ∧ n / 6 ≤ b / 6 ∧ a % 6 ≤ n % 6 ∧ n % 6 ≤ b % 6 then 1 else 0)
theorem ss_cd_e (a b : Nat) : ∀ n, ss_cn (fun d => ss_ins d a b) n = ss_cd a b n := by
  intro n
  induction n with
  | zero => rfl
  | succ n ih =>
    show ss_cn (fun d => ss_ins d a b) n + ss_ite (ss_ins n a b) 1 0 = ss_cd a b n + (if a / 6 ≤ n / 6 ∧ n / 6 ≤ b / 6 ∧ a % 6 ≤ n % 6 ∧ n % 6 ≤ b % 6 then 1 else 0)
    rw [ih]
    by_cases h : ss_ins n a b
    · rw [ss_it h]; unfold ss_ins at h; rw [if_pos h]
    · rw [ss_if h]; unfold ss_ins at h; rw [if_neg h]
theorem ss_cd_t : (List.range 36).all (fun a => (List.range 36).all (fun b => !(Nat.ble (a / 6) (b / 6) && Nat.ble (a % 6) (b % 6)) || Nat.beq (ss_cd a b 36) ((b / 6 - a / 6 + 1) * (b % 6 - a % 6 + 1)))) = true := by decide +kernel
theorem ss_cnt {a b : Nat} (ha : a < 36) (hb : b < 36) (hr : ss_rec a b) : ss_cn (fun d => ss_ins d a b) 36 = (b / 6 - a / 6 + 1) * (b % 6 - a % 6 + 1) := by
  have t := List.all_eq_true.mp (List.all_eq_true.mp ss_cd_t a (List.mem_range.mpr ha)) b (List.mem_range.mpr hb)
  rw [Nat.ble_eq_true_of_le hr.1, Nat.ble_eq_true_of_le hr.2] at t
  rw [ss_cd_e]
  exact Nat.eq_of_beq_eq_true t
end
section
/-! 12: the calls that store, but copy -/
theorem i_vc_number {k : Nat} {u : SX} {v : SY} (I : i_Rel k u v) (hk : k + 5 ≤ 2560) (v1 : Int32) (v2 : Int32) : wpX_number (fun r u' => wpY_number (fun r' v' => r' = r ∧ i_Rel (k + 5) u' v') v v1 v2) u v1 v2 := by
  refine ss_Re (P := fun u v => wpX_number (fun r u' => wpY_number (fun r' v' => r' = r ∧ i_Rel (k + 5) u' v') v v1 v2) u v1 v2) ?_ I
  intro fr K F S T ow sh sb bl di cl st va de op o1 o2 o3 fm dy fa wk nx g y
  unfold wpX_number
  rcases ss_cell v1 with hn | ⟨j, hj, rfl⟩
  · refine ss_xc0 hn (br_t rfl ?_)
    unfold wpY_number
    exact ss_yb1 hn (br_f (by decide) ⟨rfl, ss_Ri g y⟩)
  · refine ss_xc1 hj (br_f (by decide) ?_)
    refine br_c (fun c1 => ?_) (fun c1 => br_c (fun c2 => ?_) (fun c2 => ?_))
    · unfold wpY_number
      exact ss_yb0 hj (br_t rfl (br_t c1 ⟨rfl, ss_Ri g y⟩))
    · refine ss_x_wr hj ?_
      dsimp only
      refine ss_x_put hj g (Or.inr (Or.inl rfl)) fun fr' ow' sh' sb' bl' di' cl' st' va' g' => ?_
      dsimp only
      unfold wpY_number
      refine ss_yb0 hj (br_t rfl (br_f c1 (br_t c2 (ss_y_fi hj ?_))))
      dsimp only
      exact ⟨rfl, ss_Ri g' (ss_YC_u y (fun _ => ⟨rfl, rfl, fun z => absurd z (by decide), fun _ => rfl⟩))⟩
    · unfold wpY_number
      exact ss_yb0 hj (br_t rfl (br_f c1 (br_f c2 ⟨rfl, ss_Ri g y⟩)))
theorem i_vc_pair {k : Nat} {u : SX} {v : SY} (I : i_Rel k u v) (hk : k + 5 ≤ 2560) (v1 : Int32) (v2 : Int32) (v3 : Int32) (v4 : Int32) : wpX_pair (fun r u' => wpY_pair (fun r' v' => r' = r ∧ i_Rel (k + 5) u' v') v v1 v2 v3 v4) u v1 v2 v3 v4 := by
  refine ss_Re (P := fun u v => wpX_pair (fun r u' => wpY_pair (fun r' v' => r' = r ∧ i_Rel (k + 5) u' v') v v1 v2 v3 v4) u v1 v2 v3 v4) ?_ I
  intro fr K F S T ow sh sb bl di cl st va de op o1 o2 o3 fm dy fa wk nx g y
  unfold wpX_pair
  rcases ss_cell v1 with hn | ⟨j, hj, rfl⟩
  · refine ss_xc0 hn (br_t rfl ?_)
    unfold wpY_pair
    exact ss_yb1 hn (br_f (by decide) ⟨rfl, ss_Ri g y⟩)
  · refine ss_xc1 hj (br_f (by decide) ?_)
    refine br_c (fun c1 => ?_) (fun c1 => br_c (fun c2 => ?_) (fun c2 => ?_))
    · unfold wpY_pair
      exact ss_yb0 hj (br_t rfl (br_t c1 ⟨rfl, ss_Ri g y⟩))
    · rcases ss_cell v3 with hn | ⟨a, ha, rfl⟩
      · refine ss_xc0 hn (br_t rfl ?_)
        unfold wpY_pair
        exact ss_yb0 hj (br_t rfl (br_f c1 (br_t c2 (ss_yb1 hn (br_f (by decide) ⟨rfl, ss_Ri g y⟩)))))
      refine ss_xc1 ha (br_f (by decide) ?_)
      rcases ss_cell v4 with hn | ⟨b, hb, rfl⟩
      · refine ss_xc0 hn (br_t rfl ?_)
        unfold wpY_pair
        exact ss_yb0 hj (br_t rfl (br_f c1 (br_t c2 (ss_yb0 ha (br_t rfl (ss_yb1 hn (br_f (by decide) ⟨rfl, ss_Ri g y⟩)))))))
      refine ss_xc1 hb (br_f (by decide) ?_)
      refine ss_x_wr hj ?_
      dsimp only
      refine ss_x_put hj g (Or.inr (Or.inr (Or.inl ⟨rfl, ⟨a, ha, rfl⟩, ⟨b, hb, rfl⟩, c1⟩))) fun fr' ow' sh' sb' bl' di' cl' st' va' g' => ?_
      dsimp only
      unfold wpY_pair
      refine ss_yb0 hj (br_t rfl (br_f c1 (br_t c2 (ss_yb0 ha (br_t rfl (ss_yb0 hb (br_t rfl (ss_y_fi hj ?_))))))))
      dsimp only
      simp only [ss_in hj, ss_cl hj, ss_uu, forall_eq, true_and, and_true, true_implies, false_implies, not_true_eq_false, not_false_eq_true, ss_60, ss_360]
      exact ss_Ri g' (ss_YC_u y (fun _ => ⟨rfl, rfl, fun _ => ⟨rfl, rfl⟩, fun z => absurd rfl z⟩))
    · unfold wpY_pair
      exact ss_yb0 hj (br_t rfl (br_f c1 (br_f c2 ⟨rfl, ss_Ri g y⟩)))
section
variable {K op o1 o2 o3 fm wk nx : Nat → Int32} {dy fa : Nat → Int64}
theorem ss_y_su {post : Int32 → SY → Prop} {a b : Nat} {x : Int32} (ha : a < 36) (hb : b < 36) (e1 : x / 36 = nI a) (e2 : x - x / 36 * 36 = nI b) (h : post (nI (ss_cn (fun d => ss_ins d a b) 36)) (K, op, o1, o2, o3, fm, dy, fa, wk, nx)) : ∃ n, wY_sum_41 post x K op o1 o2 o3 fm dy fa wk nx n 0 0 := by
  refine ss_lp1 36 0 (fun n i x3 => wY_sum_41 post x K op o1 o2 o3 fm dy fa wk nx n x3 i) (fun i x3 => x3 = nI (ss_cn (fun d => ss_ins d a b) i)) ?_ ?_ 0 0 rfl (by omega) rfl
  · intro n x3 hI
    simp only [wY_sum_41, ss_ge, forall_eq, true_and, and_true, true_implies, false_implies, not_true_eq_false, not_false_eq_true, ss_60, ss_360]
    rw [hI]; exact h
  · intro n i x3 _ hi hI ih
    simp only [wY_sum_41, ss_nge hi, forall_eq, true_and, and_true, true_implies, false_implies, not_true_eq_false, not_false_eq_true, ss_60, ss_360]
    rw [e2, e1]
    refine ss_yins hi ha hb (fun z => br_f (by decide) (ih _ ?_)) (fun z => br_t rfl (ih _ ?_))
    · rw [hI, nI_1]
      show _ = nI (ss_cn (fun d => ss_ins d a b) i + ss_ite (ss_ins i a b) 1 0)
      rw [ss_it z]
    · rw [hI]
      show _ = nI (ss_cn (fun d => ss_ins d a b) i + ss_ite (ss_ins i a b) 1 0)
      rw [ss_if z, Nat.add_zero]
end
theorem i_vc_sum {k : Nat} {u : SX} {v : SY} (I : i_Rel k u v) (hk : k + 5 ≤ 2560) (v1 : Int32) (v2 : Int32) : wpX_sum (fun r u' => wpY_sum (fun r' v' => r' = r ∧ i_Rel (k + 5) u' v') v v1 v2) u v1 v2 := by
  refine ss_Re (P := fun u v => wpX_sum (fun r u' => wpY_sum (fun r' v' => r' = r ∧ i_Rel (k + 5) u' v') v v1 v2) u v1 v2) ?_ I
  intro fr K F S T ow sh sb bl di cl st va de op o1 o2 o3 fm dy fa wk nx g y
  unfold wpX_sum
  rcases ss_cell v1 with hn | ⟨j, hj, rfl⟩
  · refine ss_xc0 hn (br_t rfl ?_)
    unfold wpY_sum
    exact ss_yb1 hn (br_f (by decide) ⟨rfl, ss_Ri g y⟩)
  · refine ss_xc1 hj (br_f (by decide) ?_)
    rcases ss_rect v2 with ⟨r1, r2⟩ | ⟨a, b, ha, hb, hr, e1, e2, r1, r2⟩
    · refine r1 _ (br_t rfl ?_)
      unfold wpY_sum
      exact ss_yb0 hj (br_t rfl (r2 _ _ (br_f (by decide) ⟨rfl, ss_Ri g y⟩)))
    · refine r1 _ (br_f (by decide) ⟨ss_360, nm_r e1 ⟨ss_360, nm_r e2 ?_⟩⟩)
      refine ss_x_wr hj ?_
      dsimp only
      refine ss_x_put hj g (Or.inr (Or.inr (Or.inr (Or.inl ⟨rfl, ⟨a, b, ha, hb, rfl, rfl, hr⟩, rfl⟩)))) fun fr' ow' sh' sb' bl' di' cl' st' va' g' => ?_
      dsimp only
      refine ⟨ss_60, ss_60, ss_60, ss_60, ?_⟩
      unfold wpY_sum
      refine ss_yb0 hj (br_t rfl (r2 _ _ (br_t rfl ⟨ss_360, ss_360, ?_⟩)))
      rw [e2, e1]
      refine ss_y_fi hj ?_
      dsimp only
      refine ss_y_su ha hb e1 e2 ⟨?_, ss_Ri g' (ss_YC_u y (fun _ => ⟨rfl, rfl, fun z => absurd z (by decide), fun _ => rfl⟩))⟩
      have hr' := hr
      unfold ss_rec at hr'
      rw [ss_cnt ha hb hr, ss_r6 ha, ss_r6 hb, ss_d6 ha, ss_d6 hb, pk_sub hr'.1, pk_sub hr'.2, nI_1, nI_1, pk_mul]
theorem i_vc_choice {k : Nat} {u : SX} {v : SY} (I : i_Rel k u v) (hk : k + 5 ≤ 2560) (v1 : Int32) (v2 : Int32) (v3 : Int32) (v4 : Int32) : wpX_choice (fun r u' => wpY_choice (fun r' v' => r' = r ∧ i_Rel (k + 5) u' v') v v1 v2 v3 v4) u v1 v2 v3 v4 := by
  refine ss_Re (P := fun u v => wpX_choice (fun r u' => wpY_choice (fun r' v' => r' = r ∧ i_Rel (k + 5) u' v') v v1 v2 v3 v4) u v1 v2 v3 v4) ?_ I
  intro fr K F S T ow sh sb bl di cl st va de op o1 o2 o3 fm dy fa wk nx g y
  unfold wpX_choice
  rcases ss_cell v1 with hn | ⟨j, hj, rfl⟩
  · refine ss_xc0 hn (br_t rfl ?_)
    unfold wpY_choice
    exact ss_yb1 hn (br_f (by decide) ⟨rfl, ss_Ri g y⟩)
  refine ss_xc1 hj (br_f (by decide) ?_)
  rcases ss_cell v2 with hn | ⟨a, ha, rfl⟩
  · refine ss_xc0 hn (br_t rfl ?_)
    unfold wpY_choice
    exact ss_yb0 hj (br_t rfl (ss_yb1 hn (br_f (by decide) ⟨rfl, ss_Ri g y⟩)))
  refine ss_xc1 ha (br_f (by decide) ?_)
  rcases ss_cell v3 with hn | ⟨b, hb, rfl⟩
  · refine ss_xc0 hn (br_t rfl ?_)
    unfold wpY_choice
    exact ss_yb0 hj (br_t rfl (ss_yb0 ha (br_t rfl (ss_yb1 hn (br_f (by decide) ⟨rfl, ss_Ri g y⟩)))))
  refine ss_xc1 hb (br_f (by decide) ?_)
  rcases ss_cell v4 with hn | ⟨c, hc, rfl⟩
  · refine ss_xc0 hn (br_t rfl ?_)
    unfold wpY_choice
    exact ss_yb0 hj (br_t rfl (ss_yb0 ha (br_t rfl (ss_yb0 hb (br_t rfl (ss_yb1 hn (br_f (by decide) ⟨rfl, ss_Ri g y⟩)))))))
  refine ss_xc1 hc (br_f (by decide) ?_)
  refine ss_x_wr hj ?_
  dsimp only
  refine ss_x_put hj g (Or.inr (Or.inr (Or.inr (Or.inr (Or.inl ⟨rfl, ⟨a, ha, rfl⟩, ⟨b, hb, rfl⟩, ⟨c, hc, rfl⟩⟩))))) fun fr' ow' sh' sb' bl' di' cl' st' va' g' => ?_
  dsimp only
  unfold wpY_choice
  refine ss_yb0 hj (br_t rfl (ss_yb0 ha (br_t rfl (ss_yb0 hb (br_t rfl (ss_yb0 hc (br_t rfl (ss_y_fi hj ?_))))))))
  dsimp only
  exact ⟨rfl, ss_Ri g' (ss_YC_u y (fun _ => ⟨rfl, rfl, fun z => absurd z (by decide), fun _ => rfl⟩))⟩
theorem i_vc_spread {k : Nat} {u : SX} {v : SY} (I : i_Rel k u v) (hk : k + 5 ≤ 2560) (v1 : Int32) (v2 : Int32) : wpX_spread (fun r u' => wpY_spread (fun r' v' => r' = r ∧ i_Rel (k + 5) u' v') v v1 v2) u v1 v2 := by
  refine ss_Re (P := fun u v => wpX_spread (fun r u' => wpY_spread (fun r' v' => r' = r ∧ i_Rel (k + 5) u' v') v v1 v2) u v1 v2) ?_ I
  intro fr K F S T ow sh sb bl di cl st va de op o1 o2 o3 fm dy fa wk nx g y
  unfold wpX_spread
  rcases ss_cell v1 with hn | ⟨j, hj, rfl⟩
  · refine ss_xc0 hn (br_t rfl ?_)
    unfold wpY_spread
    exact ss_yb1 hn (br_f (by decide) ⟨rfl, ss_Ri g y⟩)
  · refine ss_xc1 hj (br_f (by decide) ?_)
    rcases ss_rect v2 with ⟨r1, r2⟩ | ⟨a, b, ha, hb, hr, e1, e2, r1, r2⟩
    · refine r1 _ (br_t rfl ?_)
      unfold wpY_spread
      exact ss_yb0 hj (br_t rfl (r2 _ _ (br_f (by decide) ⟨rfl, ss_Ri g y⟩)))
    · refine r1 _ (br_f (by decide) ⟨ss_360, ss_360, ?_⟩)
      rw [e2, e1]
      refine ss_x_wr hj ?_
      dsimp only
      refine ss_x_put hj g (Or.inr (Or.inr (Or.inr (Or.inr (Or.inr (Or.inl ⟨rfl, ⟨a, b, ha, hb, rfl, rfl, hr⟩, rfl⟩)))))) fun fr' ow' sh' sb' bl' di' cl' st' va' g' => ?_
      dsimp only
      have y' : ss_YC (upd K j 5) (upd F j (nI a)) (upd S j (nI b)) (upd T j 0) (upd o1 j (nI a)) (upd o2 j (nI b)) (upd o3 j 0) (upd op j 0) := ss_YC_u y (fun _ => ⟨rfl, rfl, fun z => absurd z (by decide), fun _ => rfl⟩)
      have hbl := (g'.2.1 j hj).2.2
      have main : ∀ r : Int32, (ss_O (upd K j 5) (upd F j (nI a)) (upd S j (nI b)) j = nI j → r = 1) → (¬ ss_O (upd K j 5) (upd F j (nI a)) (upd S j (nI b)) j = nI j → r = 0) → wpY_spread (fun r' v' => r' = r ∧ i_Rel (k + 5) (fr', upd K j 5, upd F j (nI a), upd S j (nI b), upd T j 0, ow', sh', sb', bl', di', cl', st', va', de) v') (K, op, o1, o2, o3, fm, dy, fa, wk, nx) (nI j) v2 := by
        intro r h1 h0
        unfold wpY_spread
        refine ss_yb0 hj (br_t rfl (r2 _ _ (br_t rfl ⟨ss_360, ss_360, ?_⟩)))
        rw [e2, e1]
        refine ss_y_fi hj ?_
        dsimp only
        refine ss_y_se g'.1 y' fun fm' f' => ?_
        dsimp only
        refine ⟨ss_in hj, ?_⟩
        rw [ss_cl hj, f' j hj]
        exact br_c (fun z => ⟨(h1 z).symm, ss_Ri g' y'⟩) (fun z => ⟨(h0 z).symm, ss_Ri g' y'⟩)
      refine ⟨ss_in hj, ?_⟩
      rw [ss_cl hj]
      refine br_c (fun z => main 1 (fun _ => rfl) (fun q => absurd ⟨pk_us, q⟩ (hbl.mp z))) (fun z => main 0 (fun q => absurd (hbl.mpr fun p => p.2 q) z) (fun _ => rfl))
theorem i_vc_erase {k : Nat} {u : SX} {v : SY} (I : i_Rel k u v) (hk : k + 5 ≤ 2560) (v1 : Int32) : wpX_erase (fun r u' => wpY_erase (fun r' v' => r' = r ∧ i_Rel (k + 5) u' v') v v1) u v1 := by
  refine ss_Re (P := fun u v => wpX_erase (fun r u' => wpY_erase (fun r' v' => r' = r ∧ i_Rel (k + 5) u' v') v v1) u v1) ?_ I
  intro fr K F S T ow sh sb bl di cl st va de op o1 o2 o3 fm dy fa wk nx g y
  unfold wpX_erase
  rcases ss_cell v1 with hn | ⟨j, hj, rfl⟩
  · refine ss_xc0 hn (br_t rfl ?_)
    unfold wpY_erase
    exact ss_yb1 hn (br_f (by decide) ⟨rfl, ss_Ri g y⟩)
  · refine ss_xc1 hj (br_f (by decide) ⟨ss_in hj, ?_⟩)
    have y' : ss_YC (upd K j 0) (upd F j 0) (upd S j 0) (upd T j 0) (upd o1 j 0) (upd o2 j 0) (upd o3 j 0) (upd op j 0) := ss_YC_u y (fun _ => ⟨rfl, rfl, fun z => absurd z (by decide), fun _ => rfl⟩)
    rw [ss_cl hj]
    refine br_c (fun c0 => ?_) (fun c0 => ?_)
    · unfold wX_erase_23
      refine ss_x_wr hj ?_
      dsimp only
      refine ss_x_put hj g (Or.inl rfl) fun fr' ow' sh' sb' bl' di' cl' st' va' g' => ?_
      dsimp only
      unfold wpY_erase
      refine ss_yb0 hj (br_t rfl ⟨ss_in hj, nm_e ?_⟩)
      refine ss_y_fi hj ?_
      dsimp only
      rw [ss_cl hj]
      exact br_t c0 ⟨rfl, ss_Ri g' y'⟩
    · unfold wX_erase_23
      refine ss_x_wr hj ?_
      dsimp only
      refine ss_x_put hj g (Or.inl rfl) fun fr' ow' sh' sb' bl' di' cl' st' va' g' => ?_
      dsimp only
      unfold wpY_erase
      refine ss_yb0 hj (br_t rfl ⟨ss_in hj, nm_e ?_⟩)
      refine ss_y_fi hj ?_
      dsimp only
      rw [ss_cl hj]
      exact br_f c0 ⟨rfl, ss_Ri g' y'⟩
end
section
/-! 13: copy -/
def ss_mm (x : Int32) (f t : Nat) : Int32 := ss_mv x (nI t / 6 - nI f / 6) ((nI t - nI t / 6 * 6) - (nI f - nI f / 6 * 6))
def ss_kk (k a b c : Int32) : Int32 := if a < 0 then 6 else if b < 0 then 6 else if 0 ≤ c then k else 6
theorem ss_kk_c (k a b c : Int32) : ss_kk k a b c = 6 ∨ (ss_kk k a b c = k ∧ ¬ a < 0 ∧ ¬ b < 0 ∧ 0 ≤ c) := by
  unfold ss_kk
  by_cases h1 : a < 0
  · rw [if_pos h1]; exact Or.inl rfl
  rw [if_neg h1]
  by_cases h2 : b < 0
  · rw [if_pos h2]; exact Or.inl rfl
  rw [if_neg h2]
  by_cases h3 : 0 ≤ c
  · rw [if_pos h3]; exact Or.inr ⟨rfl, h1, h2, h3⟩
  · rw [if_neg h3]; exact Or.inl rfl
theorem ss_kk_e {k a b c c' : Int32} (h : 0 ≤ c ↔ 0 ≤ c') : ss_kk k a b c = ss_kk k a b c' := by
  unfold ss_kk
  by_cases h3 : 0 ≤ c
  · rw [if_pos h3, if_pos (h.mp h3)]
  · rw [if_neg h3, if_neg (fun z => h3 (h.mpr z))]
theorem ss_mm_c {x : Int32} {f t : Nat} (hf : f < 36) (ht : t < 36) (hx : ss_isc x) (h : ¬ ss_mm x f t < 0) : ss_isc (ss_mm x f t) := by
  obtain ⟨a, ha, rfl⟩ := hx
  rcases ss_sh_c ha ht hf with ⟨j, hj, e, _⟩ | ⟨e, _⟩
  · exact ⟨j, hj, e⟩
  · have e' : ss_mm (nI a) f t = -1 := e
    rw [e'] at h
    exact absurd (by decide) h
theorem ss_mm_r {x z : Int32} {f t : Nat} (hf : f < 36) (ht : t < 36) (hx : ss_isr x z) (h : ¬ ss_mm x f t < 0) (h' : ¬ ss_mm z f t < 0) : ss_isr (ss_mm x f t) (ss_mm z f t) := by
  obtain ⟨a, b, ha, hb, rfl, rfl, hr⟩ := hx
  rcases ss_sh_c ha ht hf with ⟨j, hj, e, q1, q2⟩ | ⟨e, _⟩
  · rcases ss_sh_c hb ht hf with ⟨i, hi, e', r1, r2⟩ | ⟨e', _⟩
    · refine ⟨j, i, hj, hi, e, e', ?_⟩
      unfold ss_rec at hr ⊢
      omega
    · have e2 : ss_mm (nI b) f t = -1 := e'
      rw [e2] at h'
      exact absurd (by decide) h'
  · have e2 : ss_mm (nI a) f t = -1 := e
    rw [e2] at h
    exact absurd (by decide) h
theorem ss_cp_wf {k a b c : Int32} {f t : Nat} (hf : f < 36) (ht : t < 36) (w : ss_wf k a b c) (h1 : ¬ k < 2) (h2 : ¬ 5 < k) (ha : ¬ ss_mm a f t < 0) (hb : ¬ ss_mm b f t < 0) (hc : 0 ≤ (if k = 4 then ss_mm c f t else c)) : ss_wf k (ss_mm a f t) (ss_mm b f t) (if k = 4 then ss_mm c f t else c) := by
  rcases w with rfl | rfl | ⟨rfl, q1, q2, q3⟩ | ⟨rfl, q1, q2⟩ | ⟨rfl, q1, q2, q3⟩ | ⟨rfl, q1, q2⟩ | rfl
  · exact absurd (by decide) h1
  · exact absurd (by decide) h1
  · rw [if_neg (by decide)]
    exact Or.inr (Or.inr (Or.inl ⟨rfl, ss_mm_c hf ht q1 ha, ss_mm_c hf ht q2 hb, q3⟩))
  · rw [if_neg (by decide)]
    exact Or.inr (Or.inr (Or.inr (Or.inl ⟨rfl, ss_mm_r hf ht q1 ha hb, q2⟩)))
  · rw [if_pos rfl] at hc ⊢
    exact Or.inr (Or.inr (Or.inr (Or.inr (Or.inl ⟨rfl, ss_mm_c hf ht q1 ha, ss_mm_c hf ht q2 hb, ss_mm_c hf ht q3 (Int32.not_lt.mpr hc)⟩))))
  · rw [if_neg (by decide)]
    exact Or.inr (Or.inr (Or.inr (Or.inr (Or.inr (Or.inl ⟨rfl, ss_mm_r hf ht q1 ha hb, q2⟩)))))
  · exact absurd (by decide) h2
theorem ss_cp_yc {k a b c a' b' c' p : Int32} {f t : Nat} (h6 : k ≠ 6) (y : ss_yc k a b c a' b' c' p) : ss_yc k (ss_mm a f t) (ss_mm b f t) (if k = 4 then ss_mm c f t else c) (ss_mm a' f t) (ss_mm b' f t) (if k = 4 then ss_mm c' f t else c') p := by
  obtain ⟨e1, e2, e3, e4⟩ := y h6
  intro _
  refine ⟨by rw [e1], by rw [e2], fun k2 => ?_, fun k2 => by rw [e4 k2]⟩
  have k4 : ¬ k = 4 := by rw [k2]; decide
  rw [if_neg k4, if_neg k4]
  exact e3 k2
theorem ss_cp_0 {k a b c a' b' c' p : Int32} {f t : Nat} (h6 : k ≠ 6) (w : ss_wf k a b c) (y : ss_yc k a b c a' b' c' p) : 0 ≤ (if k = 4 then ss_mm c f t else c) ↔ 0 ≤ (if k = 4 then ss_mm c' f t else c') := by
  obtain ⟨e1, e2, e3, e4⟩ := y h6
  by_cases k2 : k = 2
  · have k4 : ¬ k = 4 := by rw [k2]; decide
    rw [if_neg k4, if_neg k4, (e3 k2).2]
    exact ⟨fun _ => by decide, fun _ => Int32.not_lt.mp (ss_wf2 w k2).2.2⟩
  · rw [e4 k2]
section
variable {K F S T ow sh sb bl st va de : Nat → Int32} {di cl : Nat → Int64} {fr : Int64}
theorem ss_x_146 {post : Int32 → SX → Prop} {j : Nat} {k a b c : Int32} (hj : j < 36) (g : ss_GD K F S T ow sh bl di cl st va) (hw : ss_wf k a b c) (h : ∀ fr' ow' sh' sb' bl' di' cl' st' va', ss_GD (upd K j k) (upd F j a) (upd S j b) (upd T j c) ow' sh' bl' di' cl' st' va' → post (if k = 6 then 1 else 0) (fr', upd K j k, upd F j a, upd S j b, upd T j c, ow', sh', sb', bl', di', cl', st', va', de)) : wX_copy_146 post (nI j) k a b c fr K F S T ow sh sb bl di cl st va de := by
  unfold wX_copy_146
  refine ss_x_wr hj ?_
  dsimp only
  refine ss_x_put hj g hw fun fr' ow' sh' sb' bl' di' cl' st' va' g' => ?_
  dsimp only
  have q := h fr' ow' sh' sb' bl' di' cl' st' va' g'
  exact br_c (fun z => by rw [if_pos z] at q; exact q) (fun z => by rw [if_neg z] at q; exact q)
theorem ss_x_120 {post : Int32 → SX → Prop} {x2 k a b c : Int32} (h : wX_copy_146 post x2 (ss_kk k a b c) a b c fr K F S T ow sh sb bl di cl st va de) : wX_copy_120 post x2 k a b c fr K F S T ow sh sb bl di cl st va de := by
  unfold ss_kk at h
  unfold wX_copy_120
  refine br_c (fun z => ?_) (fun z => br_c (fun z2 => ?_) (fun z2 => br_c (fun z3 => ?_) (fun z3 => ?_)))
  · rw [if_pos z] at h; exact h
  · rw [if_neg z, if_pos z2] at h; exact h
  · rw [if_neg z, if_neg z2, if_pos z3] at h; exact h
  · rw [if_neg z, if_neg z2, if_neg z3] at h; exact h
theorem ss_x_cpA {post : Int32 → SX → Prop} {f t : Nat} (hf : f < 36) (ht : t < 36) (hk : K f < 2 ∨ 5 < K f) (h : wX_copy_146 post (nI t) (K f) (F f) (S f) (T f) fr K F S T ow sh sb bl di cl st va de) : wpX_copy post (fr, K, F, S, T, ow, sh, sb, bl, di, cl, st, va, de) (nI f) (nI t) := by
  unfold wpX_copy
  refine ss_xc1 hf (br_f (by decide) (ss_xc1 ht (br_f (by decide) ?_)))
  refine ⟨ss_60, ss_60, nm_e ⟨ss_60, ss_60, nm_e ⟨ss_in hf, nm_e ⟨ss_in hf, nm_e ⟨ss_in hf, nm_e ⟨ss_in hf, nm_e ?_⟩⟩⟩⟩⟩⟩
  rw [ss_cl hf]
  rcases hk with q | q
  · exact br_t q h
  · exact br_c (fun _ => h) (fun _ => br_t q h)
theorem ss_x_cpB {post : Int32 → SX → Prop} {f t : Nat} (hf : f < 36) (ht : t < 36) (h1 : ¬ K f < 2) (h2 : ¬ 5 < K f) (h : wX_copy_120 post (nI t) (K f) (ss_mm (F f) f t) (ss_mm (S f) f t) (if K f = 4 then ss_mm (T f) f t else T f) fr K F S T ow sh sb bl di cl st va de) : wpX_copy post (fr, K, F, S, T, ow, sh, sb, bl, di, cl, st, va, de) (nI f) (nI t) := by
  unfold wpX_copy
  refine ss_xc1 hf (br_f (by decide) (ss_xc1 ht (br_f (by decide) ?_)))
  refine ⟨ss_60, ss_60, nm_e ⟨ss_60, ss_60, nm_e ⟨ss_in hf, nm_e ⟨ss_in hf, nm_e ⟨ss_in hf, nm_e ⟨ss_in hf, nm_e ?_⟩⟩⟩⟩⟩⟩
  rw [ss_cl hf]
  refine br_f h1 (br_f h2 (ss_xmv (ss_xmv (br_c (fun k4 => ss_xmv ?_) (fun k4 => ?_)))))
  · rw [if_pos k4] at h; exact h
  · rw [if_neg k4] at h; exact h
end
section
variable {K op o1 o2 o3 fm wk nx F S T : Nat → Int32} {dy fa : Nat → Int64}
theorem ss_y_148 {post : Int32 → SY → Prop} {j : Nat} {k p a b c a' b' c' : Int32} (hj : j < 36) (y : ss_YC K F S T o1 o2 o3 op) (hy : ss_yc k a b c a' b' c' p) (h : ∀ op' o1' o2' o3' : Nat → Int32, ss_YC (upd K j k) (upd F j a) (upd S j b) (upd T j c) o1' o2' o3' op' → post (if k = 6 then 1 else 0) (upd K j k, op', o1', o2', o3', fm, dy, fa, wk, nx)) : wY_copy_148 post (nI j) k p a' b' c' K op o1 o2 o3 fm dy fa wk nx := by
  unfold wY_copy_148
  refine br_c (fun z => ?_) (fun z => ?_)
  · subst z
    refine ss_y_fi hj ?_
    dsimp only
    unfold wY_copy_179 wY_copy_192
    have q := h (upd op j 0) (upd o1 j 0) (upd o2 j 0) (upd o3 j 0) (ss_YC_u y fun q => absurd rfl q)
    rw [if_pos rfl] at q
    exact br_f (by decide) (br_t rfl q)
  · refine ss_y_fi hj ?_
    dsimp only
    unfold wY_copy_179 wY_copy_192
    refine br_c (fun z2 => ⟨ss_in hj, nm_e (br_f z ?_)⟩) (fun z2 => br_f z ?_)
    · rw [ss_cl hj, ss_uu]
      have q := h (upd op j p) (upd o1 j a') (upd o2 j b') (upd o3 j c') (ss_YC_u y hy)
      rw [if_neg z] at q
      exact q
    · have q := h (upd op j 0) (upd o1 j a') (upd o2 j b') (upd o3 j c') (ss_YC_u y fun q => ⟨(hy q).1, (hy q).2.1, fun r => absurd r z2, (hy q).2.2.2⟩)
      rw [if_neg z] at q
      exact q
theorem ss_y_130 {post : Int32 → SY → Prop} {x2 k p a b c : Int32} (h : wY_copy_148 post x2 (ss_kk k a b c) p a b c K op o1 o2 o3 fm dy fa wk nx) : wY_copy_130 post x2 k p a b c K op o1 o2 o3 fm dy fa wk nx := by
  unfold ss_kk at h
  unfold wY_copy_130
  refine br_c (fun z => ?_) (fun z => br_c (fun z2 => ?_) (fun z2 => br_c (fun z3 => ?_) (fun z3 => ?_)))
  · rw [if_pos z] at h; exact h
  · rw [if_neg z, if_pos z2] at h; exact h
  · rw [if_neg z, if_neg z2, if_pos z3] at h; exact h
  · rw [if_neg z, if_neg z2, if_neg z3] at h; exact h
theorem ss_y_cpA {post : Int32 → SY → Prop} {f t : Nat} (hf : f < 36) (ht : t < 36) (hk : K f < 2 ∨ 5 < K f) (h : wY_copy_148 post (nI t) (K f) (op f) (o1 f) (o2 f) (o3 f) K op o1 o2 o3 fm dy fa wk nx) : wpY_copy post (K, op, o1, o2, o3, fm, dy, fa, wk, nx) (nI f) (nI t) := by
  unfold wpY_copy
  refine ss_yb0 hf (br_t rfl (ss_yb0 ht (br_t rfl ?_)))
  refine ⟨ss_in hf, nm_e ⟨ss_in hf, nm_e ⟨ss_in hf, nm_e ⟨ss_in hf, nm_e ⟨ss_in hf, nm_e ⟨ss_60, ss_60, nm_e ⟨ss_60, ss_60, nm_e ?_⟩⟩⟩⟩⟩⟩⟩
  rw [ss_cl hf]
  rcases hk with q | q
  · exact br_t q h
  · exact br_c (fun _ => h) (fun _ => br_t q h)
theorem ss_y_cpB {post : Int32 → SY → Prop} {f t : Nat} (hf : f < 36) (ht : t < 36) (h1 : ¬ K f < 2) (h2 : ¬ 5 < K f) (h : wY_copy_130 post (nI t) (K f) (op f) (ss_mm (o1 f) f t) (ss_mm (o2 f) f t) (if K f = 4 then ss_mm (o3 f) f t else o3 f) K op o1 o2 o3 fm dy fa wk nx) : wpY_copy post (K, op, o1, o2, o3, fm, dy, fa, wk, nx) (nI f) (nI t) := by
  unfold wpY_copy
  refine ss_yb0 hf (br_t rfl (ss_yb0 ht (br_t rfl ?_)))
  refine ⟨ss_in hf, nm_e ⟨ss_in hf, nm_e ⟨ss_in hf, nm_e ⟨ss_in hf, nm_e ⟨ss_in hf, nm_e ⟨ss_60, ss_60, nm_e ⟨ss_60, ss_60, nm_e ?_⟩⟩⟩⟩⟩⟩⟩
  rw [ss_cl hf]
  refine br_f h1 (br_f h2 (ss_ymv (ss_ymv (br_c (fun k4 => ss_ymv ?_) (fun k4 => ?_)))))
  · rw [if_pos k4] at h; exact h
  · rw [if_neg k4] at h; exact h
end
theorem i_vc_copy {k : Nat} {u : SX} {v : SY} (I : i_Rel k u v) (hk : k + 5 ≤ 2560) (v1 : Int32) (v2 : Int32) : wpX_copy (fun r u' => wpY_copy (fun r' v' => r' = r ∧ i_Rel (k + 5) u' v') v v1 v2) u v1 v2 := by
  refine ss_Re (P := fun u v => wpX_copy (fun r u' => wpY_copy (fun r' v' => r' = r ∧ i_Rel (k + 5) u' v') v v1 v2) u v1 v2) ?_ I
  intro fr K F S T ow sh sb bl di cl st va de op o1 o2 o3 fm dy fa wk nx g y
  rcases ss_cell v1 with hn | ⟨f, hf, rfl⟩
  · unfold wpX_copy
    refine ss_xc0 hn (br_t rfl ?_)
    unfold wpY_copy
    exact ss_yb1 hn (br_f (by decide) ⟨rfl, ss_Ri g y⟩)
  rcases ss_cell v2 with hn | ⟨t, ht, rfl⟩
  · unfold wpX_copy
    refine ss_xc1 hf (br_f (by decide) (ss_xc0 hn (br_t rfl ?_)))
    unfold wpY_copy
    exact ss_yb0 hf (br_t rfl (ss_yb1 hn (br_f (by decide) ⟨rfl, ss_Ri g y⟩)))
  have w := g.1
  by_cases hk : K f < 2 ∨ 5 < K f
  · refine ss_x_cpA hf ht hk (ss_x_146 ht g (w f hf) fun fr' ow' sh' sb' bl' di' cl' st' va' g' => ?_)
    exact ss_y_cpA hf ht hk (ss_y_148 ht y (y f hf) fun op' o1' o2' o3' y' => ⟨rfl, ss_Ri g' y'⟩)
  · have h1 : ¬ K f < 2 := fun z => hk (Or.inl z)
    have h2 : ¬ 5 < K f := fun z => hk (Or.inr z)
    have h6 : K f ≠ 6 := fun z => h2 (by rw [z]; decide)
    have ek := ss_kk_e (k := K f) (a := ss_mm (F f) f t) (b := ss_mm (S f) f t) (ss_cp_0 (f := f) (t := t) h6 (w f hf) (y f hf))
    have hkc := ss_kk_c (K f) (ss_mm (F f) f t) (ss_mm (S f) f t) (if K f = 4 then ss_mm (T f) f t else T f)
    have yo := ss_y5 y hf h6
    refine ss_x_cpB hf ht h1 h2 (ss_x_120 (ss_x_146 ht g ?_ fun fr' ow' sh' sb' bl' di' cl' st' va' g' => ?_))
    · rcases hkc with e | ⟨e, q1, q2, q3⟩
      · rw [e]; exact Or.inr (Or.inr (Or.inr (Or.inr (Or.inr (Or.inr rfl)))))
      · rw [e]; exact ss_cp_wf hf ht (w f hf) h1 h2 q1 q2 q3
    · refine ss_y_cpB hf ht h1 h2 (ss_y_130 ?_)
      rw [yo.1, yo.2, ← ek]
      refine ss_y_148 ht y ?_ fun op' o1' o2' o3' y' => ⟨rfl, ss_Ri g' y'⟩
      rcases hkc with e | ⟨e, _⟩
      · rw [e]; exact fun z => absurd rfl z
      · have q := ss_cp_yc (f := f) (t := t) h6 (y f hf)
        rw [yo.1, yo.2] at q
        rw [e]; exact q
end
section
/-! 14: the constructors and the calls that only ask -/
theorem ss_0_D (T : Nat → Int32) (c d : Nat) (hc : c < 36) : ¬ ss_DD (fun _ => 0) (fun _ => 0) (fun _ => 0) T c d := by
  have w : ss_WF (fun _ => 0) (fun _ => 0) (fun _ => 0) T := fun c _ => Or.inl rfl
  have o : ss_O (fun _ => 0) (fun _ => 0) (fun _ => 0) c = -2 := by
    rcases ss_ow_v (fun _ => 0) (fun _ => 0) (fun _ => 0) c 36 with h | ⟨j, _, _, h, _⟩
    · exact h
    · exact absurd h (by decide)
  exact ss_ds_n ((ss_SH_O w hc).mpr o) (show ¬ (0 : Int32) = 2 by decide) (show ¬ (0 : Int32) = 3 by decide) (show ¬ (0 : Int32) = 4 by decide)
theorem ss_0_GD {ow sh : Nat → Int32} (h : ∀ c, c < 36 → ow c = -2 ∧ sh c = -2) : ss_GD (fun _ => 0) (fun _ => 0) (fun _ => 0) (fun _ => 0) ow sh (fun _ => 0) (fun _ => 0) (fun _ => 0) (fun _ => 0) (fun _ => 0) := by
  have w : ss_WF (fun _ => 0) (fun _ => 0) (fun _ => 0) (fun _ => 0) := fun c _ => Or.inl rfl
  have o : ∀ c, ss_O (fun _ => 0) (fun _ => 0) (fun _ => 0) c = -2 := by
    intro c
    rcases ss_ow_v (fun _ => 0) (fun _ => 0) (fun _ => 0) c 36 with h | ⟨j, _, _, h, _⟩
    · exact h
    · exact absurd h (by decide)
  have s : ∀ c, c < 36 → ss_SH (fun _ => 0) (fun _ => 0) (fun _ => 0) c = -2 := fun c hc => (ss_SH_O w hc).mpr (o c)
  have nW : ∀ c d, c < 36 → d < 36 → ¬ ss_W (ss_DD (fun _ => 0) (fun _ => 0) (fun _ => 0) (fun _ => 0)) 36 c d := fun c d hc hd z =>
    ss_W_min (R := fun _ _ => False) (fun c d hc _ z => ss_0_D _ c d hc z) (fun _ _ _ _ _ _ z _ => z) 36 (Nat.le_refl _) c d hc hd z
  have st : ∀ c, c < 36 → ss_ST (fun _ => 0) (fun _ => 0) (fun _ => 0) (fun _ => 0) c = 0 := by
    intro c hc
    unfold ss_ST ss_sts
    rw [ss_if, ss_if, ss_it ⟨rfl, s c hc⟩]
    · rintro ⟨d, hd, _, q | q⟩
      · exact absurd q (show ¬ (0 : Int32) = 6 by decide)
      · exact absurd q.1 (show ¬ (0 : Int32) = 5 by decide)
    · rintro ⟨d, hd, _, q⟩
      exact nW d d hd hd q
  refine ⟨w, fun c hc => ⟨(h c hc).1.trans (o c).symm, (h c hc).2.trans (s c hc).symm, fun _ z => absurd z.1 (show ¬ (0 : Int32) = 5 by decide), fun _ => rfl⟩, fun c hc => ss_WD_cg ss_WD_0 fun d _ => ⟨False.elim, ss_0_D _ c d hc⟩, fun c hc => ss_WD_cg ss_WD_0 fun d hd => ⟨False.elim, nW c d hc hd⟩, fun c hc => (st c hc).symm, fun c hc => ?_⟩
  rw [ss_if (by rw [st c hc]; decide)]
theorem i_vc0 : wpX_init (fun u => wpY_init (fun v => i_Rel 0 u v)) := by
  unfold wpX_init
  refine ss_lp2 36 0 (fun n x ow sh => wX_init_110 (fun u => wpY_init (fun v => i_Rel 0 u v)) 0 n x (fun _ => 0) (fun _ => 0) (fun _ => 0) (fun _ => 0) ow sh (fun _ => 0) (fun _ => 0) (fun _ => 0) (fun _ => 0) (fun _ => 0) (fun _ => 0) (fun _ => 0)) (fun i ow sh => ∀ c, c < i → ow c = -2 ∧ sh c = -2) ?_ ?_ (fun _ => 0) (fun _ => 0) 0 rfl (by omega) (fun c hc => absurd hc (by omega))
  · intro n ow sh hI
    simp only [wX_init_110, ss_ge, forall_eq, true_and, and_true, true_implies, false_implies, not_true_eq_false, not_false_eq_true, ss_60, ss_360]
    unfold wpY_init
    exact ss_Ri (ss_0_GD hI) (fun c _ _ => ⟨rfl, rfl, fun _ => ⟨rfl, rfl⟩, fun _ => rfl⟩)
  · intro n i ow sh _ hi hI ih
    simp only [wX_init_110, ss_nge hi, ss_in hi, ss_cl hi, forall_eq, true_and, and_true, true_implies, false_implies, not_true_eq_false, not_false_eq_true, ss_60, ss_360]
    refine ih _ _ fun c hc => ?_
    by_cases e : c = i
    · subst e; rw [pk_us, pk_us]; exact ⟨rfl, rfl⟩
    · rw [pk_un e, pk_un e]; exact hI c (by omega)
theorem i_vc_kind {k : Nat} {u : SX} {v : SY} (I : i_Rel k u v) (hk : k + 5 ≤ 2560) (v1 : Int32) : wpX_kind (fun r => wpY_kind (fun r' => r' = r ∧ i_Rel (k + 5) u v) v v1) u v1 := by
  refine ss_Re (P := fun u v => wpX_kind (fun r => wpY_kind (fun r' => r' = r ∧ i_Rel (k + 5) u v) v v1) u v1) ?_ I
  intro fr K F S T ow sh sb bl di cl st va de op o1 o2 o3 fm dy fa wk nx g y
  unfold wpX_kind
  rcases ss_cell v1 with hn | ⟨j, hj, rfl⟩
  · refine ss_xc0 hn (br_t rfl ?_)
    unfold wpY_kind
    exact ss_yb1 hn (br_f (by decide) ⟨rfl, ss_Ri g y⟩)
  · refine ss_xc1 hj (br_f (by decide) ⟨ss_in hj, ?_⟩)
    unfold wpY_kind
    exact ss_yb0 hj (br_t rfl ⟨ss_in hj, ⟨rfl, ss_Ri g y⟩⟩)
theorem i_vc_state {k : Nat} {u : SX} {v : SY} (I : i_Rel k u v) (hk : k + 5 ≤ 2560) (v1 : Int32) : wpX_state (fun r => wpY_state (fun r' v' => r' = r ∧ i_Rel (k + 5) u v') v v1) u v1 := by
  refine ss_Re (P := fun u v => wpX_state (fun r => wpY_state (fun r' v' => r' = r ∧ i_Rel (k + 5) u v') v v1) u v1) ?_ I
  intro fr K F S T ow sh sb bl di cl st va de op o1 o2 o3 fm dy fa wk nx g y
  unfold wpX_state
  rcases ss_cell v1 with hn | ⟨j, hj, rfl⟩
  · refine ss_xc0 hn (br_t rfl ?_)
    unfold wpY_state
    exact ss_yb1 hn (br_f (by decide) ⟨rfl, ss_Ri g y⟩)
  · refine ss_xc1 hj (br_f (by decide) ⟨ss_in hj, ?_⟩)
    unfold wpY_state
    refine ss_yb0 hj (br_t rfl (ss_y_tr g.1 y fun fm' dy' fa' f1 f2 f3 => ?_))
    dsimp only
    refine ss_y_st g.1 hj f1 f3 ⟨?_, ss_Ri g y⟩
    rw [ss_cl hj]
    exact (g.2.2.2.2.1 j hj).symm
theorem i_vc_value {k : Nat} {u : SX} {v : SY} (I : i_Rel k u v) (hk : k + 5 ≤ 2560) (v1 : Int32) : wpX_value (fun r => wpY_value (fun r' v' => r' = r ∧ i_Rel (k + 5) u v') v v1) u v1 := by
  refine ss_Re (P := fun u v => wpX_value (fun r => wpY_value (fun r' v' => r' = r ∧ i_Rel (k + 5) u v') v v1) u v1) ?_ I
  intro fr K F S T ow sh sb bl di cl st va de op o1 o2 o3 fm dy fa wk nx g y
  unfold wpX_value
  rcases ss_cell v1 with hn | ⟨j, hj, rfl⟩
  · refine ss_xc0 hn (br_t rfl ?_)
    unfold wpY_value
    exact ss_yb1 hn (br_f (by decide) ⟨rfl, ss_Ri g y⟩)
  · refine ss_xc1 hj (br_f (by decide) ⟨ss_in hj, ?_⟩)
    unfold wpY_value
    refine ss_yb0 hj (br_t rfl (ss_y_va g.1 y g.2.2.2.2.2 fun fm' dy' fa' wk' nx' f1 => ?_))
    dsimp only
    refine ⟨ss_in hj, ?_, ss_Ri g y⟩
    rw [ss_cl hj]
    exact f1 j hj
theorem i_vc_shows {k : Nat} {u : SX} {v : SY} (I : i_Rel k u v) (hk : k + 5 ≤ 2560) (v1 : Int32) : wpX_shows (fun r => wpY_shows (fun r' v' => r' = r ∧ i_Rel (k + 5) u v') v v1) u v1 := by
  refine ss_Re (P := fun u v => wpX_shows (fun r => wpY_shows (fun r' v' => r' = r ∧ i_Rel (k + 5) u v') v v1) u v1) ?_ I
  intro fr K F S T ow sh sb bl di cl st va de op o1 o2 o3 fm dy fa wk nx g y
  unfold wpX_shows
  rcases ss_cell v1 with hn | ⟨j, hj, rfl⟩
  · refine ss_xc0 hn (br_t rfl ?_)
    unfold wpY_shows
    exact ss_yb1 hn (br_f (by decide) ⟨rfl, ss_Ri g y⟩)
  · refine ss_xc1 hj (br_f (by decide) ⟨ss_in hj, ?_⟩)
    unfold wpY_shows
    refine ss_yb0 hj (br_t rfl (ss_y_se g.1 y fun fm' f1 => ?_))
    dsimp only
    refine ss_y_sh y hj (f1 j hj) ⟨?_, ss_Ri g y⟩
    rw [ss_cl hj]
    exact (g.2.1 j hj).2.1.symm
theorem i_vc_owner {k : Nat} {u : SX} {v : SY} (I : i_Rel k u v) (hk : k + 5 ≤ 2560) (v1 : Int32) : wpX_owner (fun r => wpY_owner (fun r' v' => r' = r ∧ i_Rel (k + 5) u v') v v1) u v1 := by
  refine ss_Re (P := fun u v => wpX_owner (fun r => wpY_owner (fun r' v' => r' = r ∧ i_Rel (k + 5) u v') v v1) u v1) ?_ I
  intro fr K F S T ow sh sb bl di cl st va de op o1 o2 o3 fm dy fa wk nx g y
  unfold wpX_owner
  rcases ss_cell v1 with hn | ⟨j, hj, rfl⟩
  · refine ss_xc0 hn (br_t rfl ?_)
    unfold wpY_owner
    exact ss_yb1 hn (br_f (by decide) ⟨rfl, ss_Ri g y⟩)
  · refine ss_xc1 hj (br_f (by decide) ⟨ss_in hj, ?_⟩)
    unfold wpY_owner
    refine ss_yb0 hj (br_t rfl (ss_y_se g.1 y fun fm' f1 => ?_))
    dsimp only
    refine ⟨ss_in hj, ?_, ss_Ri g y⟩
    rw [ss_cl hj]
    exact (f1 j hj).trans (g.2.1 j hj).1.symm
theorem i_vc_sources {k : Nat} {u : SX} {v : SY} (I : i_Rel k u v) (hk : k + 5 ≤ 2560) (v1 : Int32) : wpX_sources (fun r => wpY_sources (fun r' v' => r' = r ∧ i_Rel (k + 5) u v') v v1) u v1 := by
  refine ss_Re (P := fun u v => wpX_sources (fun r => wpY_sources (fun r' v' => r' = r ∧ i_Rel (k + 5) u v') v v1) u v1) ?_ I
  intro fr K F S T ow sh sb bl di cl st va de op o1 o2 o3 fm dy fa wk nx g y
  unfold wpX_sources
  rcases ss_cell v1 with hn | ⟨j, hj, rfl⟩
  · refine ss_xc0 hn (br_t rfl ?_)
    unfold wpY_sources
    exact ss_yb1 hn (br_f (by decide) ⟨rfl, ss_Ri g y⟩)
  · refine ss_xc1 hj (br_f (by decide) ⟨ss_in hj, ?_⟩)
    unfold wpY_sources
    refine ss_yb0 hj (br_t rfl (ss_y_tr g.1 y fun fm' dy' fa' f1 f2 f3 => ?_))
    dsimp only
    refine ⟨ss_in hj, ?_, ss_Ri g y⟩
    rw [ss_cl hj]
    exact ss_WD_eq (f3 j hj) (g.2.2.2.1 j hj)
section
variable {K F S T ow sh sb bl st va de : Nat → Int32} {di cl : Nat → Int64} {fr : Int64}
variable {op o1 o2 o3 fm wk nx : Nat → Int32} {dy fa : Nat → Int64}
theorem ss_sh0 (s : Int64) : (0 : Int64) <<< s = 0 := by
  apply ss_mb_ext
  intro i _
  rw [ss_mb_0]
  unfold ss_mb
  rw [Int64.toBitVec_shiftLeft]
  simp
theorem ss_rd_w {w x : Int64} {p : Nat → Prop} {q : Prop} {c i : Nat} (hi : i < 36) (hc : c < 36) (hx : ss_WD x p) (hq : ss_mb w c = true ↔ q) : ss_WD (x ||| ((((w.toUInt64 >>> ((nI c).toInt64.toUInt64 &&& Int64.toUInt64 63)).toInt64) &&& 1) <<< ((nI i).toInt64 &&& 63))) (fun o => p o ∨ (o = i ∧ q)) := by
  by_cases h : ss_mb w c = true
  · rw [(ss_t1 hc).mpr h]
    exact ss_WD_cg (ss_WD_o1 hi hx) fun o _ => ⟨fun z => z.elim Or.inl (fun z => Or.inr ⟨z, hq.mp h⟩), fun z => z.elim Or.inl (fun z => Or.inr z.1)⟩
  · rw [(ss_t0 hc).mpr (ts_nt h), ss_sh0]
    exact ss_WD_cg (ss_WD_or hx ss_WD_0) fun o _ => ⟨fun z => z.elim Or.inl False.elim, fun z => z.elim Or.inl (fun z => absurd (hq.mpr z.2) h)⟩
theorem ss_x_re {post : Int64 → Prop} {C : Nat → Nat → Prop} {c : Nat} (hc : c < 36) (hcl : ∀ o, o < 36 → ss_WD (cl o) (C o)) (h : ∀ x, ss_WD x (fun o => C o c) → post x) : ∃ n, wX_readers_16 post (nI c) fr K F S T ow sh sb bl di cl st va de n 0 0 := by
  refine ss_lp1 36 0 (fun n x x2 => wX_readers_16 post (nI c) fr K F S T ow sh sb bl di cl st va de n x2 x) (fun i x2 => ss_WD x2 (fun o => o < i ∧ C o c)) ?_ ?_ 0 0 rfl (by omega) (ss_WD_cg ss_WD_0 fun o _ => ⟨False.elim, fun z => absurd z.1 (by omega)⟩)
  · intro n x2 hI
    simp only [wX_readers_16, ss_ge, forall_eq, true_and, and_true, true_implies, false_implies, not_true_eq_false, not_false_eq_true, ss_60, ss_360]
    exact h x2 (ss_WD_cg hI fun o ho => ⟨fun z => z.2, fun z => ⟨ho, z⟩⟩)
  · intro n i x2 _ hi hI ih
    simp only [wX_readers_16, ss_nge hi, ss_in hi, ss_cl hi, forall_eq, true_and, and_true, true_implies, false_implies, not_true_eq_false, not_false_eq_true, ss_60, ss_360]
    refine ih _ (ss_WD_cg (ss_rd_w hi hc hI (ss_WD_b (hcl i hi) hc)) fun o ho => ?_)
    constructor
    · rintro (z | ⟨rfl, z⟩)
      · exact ⟨by omega, z.2⟩
      · exact ⟨by omega, z⟩
    · intro z
      by_cases e : o = i
      · subst e; exact Or.inr ⟨rfl, z.2⟩
      · exact Or.inl ⟨by omega, z.2⟩
theorem ss_y_re {post : Int64 → SY → Prop} {C : Nat → Nat → Prop} {c : Nat} (hc : c < 36) (hfa : ∀ o, o < 36 → ss_WD (fa o) (C o)) (h : ∀ x, ss_WD x (fun o => C o c) → post x (K, op, o1, o2, o3, fm, dy, fa, wk, nx)) : ∃ n, wY_readers_21 post (nI c) K op o1 o2 o3 fm dy fa wk nx n 0 0 := by
  refine ss_lp1 36 0 (fun n x x2 => wY_readers_21 post (nI c) K op o1 o2 o3 fm dy fa wk nx n x2 x) (fun i x2 => ss_WD x2 (fun o => o < i ∧ C o c)) ?_ ?_ 0 0 rfl (by omega) (ss_WD_cg ss_WD_0 fun o _ => ⟨False.elim, fun z => absurd z.1 (by omega)⟩)
  · intro n x2 hI
    simp only [wY_readers_21, ss_ge, forall_eq, true_and, and_true, true_implies, false_implies, not_true_eq_false, not_false_eq_true, ss_60, ss_360]
    exact h x2 (ss_WD_cg hI fun o ho => ⟨fun z => z.2, fun z => ⟨ho, z⟩⟩)
  · intro n i x2 _ hi hI ih
    simp only [wY_readers_21, ss_nge hi, ss_in hi, ss_cl hi, forall_eq, true_and, and_true, true_implies, false_implies, not_true_eq_false, not_false_eq_true, ss_60, ss_360]
    refine ss_y_ho (hfa i hi) hc (fun q => br_f (by decide) (ih _ (ss_WD_cg (ss_WD_o1 hi hI) fun o ho => ?_))) (fun q => br_t rfl (ih _ (ss_WD_cg hI fun o ho => ?_)))
    · constructor
      · rintro (z | rfl)
        · exact ⟨by omega, z.2⟩
        · exact ⟨by omega, q⟩
      · intro z
        by_cases e : o = i
        · exact Or.inr e
        · exact Or.inl ⟨by omega, z.2⟩
    · refine ⟨fun z => ⟨by omega, z.2⟩, fun z => ⟨?_, z.2⟩⟩
      have : o ≠ i := by
        rintro rfl
        exact q z.2
      omega
theorem ss_x_is {post : Int32 → Prop} {x1 : Int32} {f : Nat → Int32} (hst : ∀ c, c < 36 → st c = f c) (h : post (ss_sm (fun c => f c = x1) (fun _ => 1) 36)) : ∃ n, wX_inState_15 post x1 fr K F S T ow sh sb bl di cl st va de n 0 0 := by
  refine ss_lp1 36 0 (fun n x x2 => wX_inState_15 post x1 fr K F S T ow sh sb bl di cl st va de n x2 x) (fun i x2 => x2 = ss_sm (fun c => f c = x1) (fun _ => 1) i) ?_ ?_ 0 0 rfl (by omega) rfl
  · intro n x2 hI
    simp only [wX_inState_15, ss_ge, forall_eq, true_and, and_true, true_implies, false_implies, not_true_eq_false, not_false_eq_true, ss_60, ss_360]
    rw [hI]; exact h
  · intro n i x2 _ hi hI ih
    simp only [wX_inState_15, ss_nge hi, ss_in hi, ss_cl hi, hst i hi, forall_eq, true_and, and_true, true_implies, false_implies, not_true_eq_false, not_false_eq_true, ss_60, ss_360]
    refine br_c (fun z => ih _ ?_) (fun z => ih _ ?_)
    · rw [hI]; exact (ss_sm_t (p := fun c => f c = x1) (f := fun _ => 1) z).symm
    · rw [hI, Int32.add_zero]; exact (ss_sm_f (p := fun c => f c = x1) (f := fun _ => 1) z).symm
theorem ss_y_is {post : Int32 → SY → Prop} {x1 : Int32} (w : ss_WF K F S T) (hf : ∀ c, c < 36 → fm c = ss_O K F S c) (hfa : ∀ c, c < 36 → ss_WD (fa c) (ss_W (ss_DD K F S T) 36 c)) (h : post (ss_sm (fun c => ss_ST K F S T c = x1) (fun _ => 1) 36) (K, op, o1, o2, o3, fm, dy, fa, wk, nx)) : ∃ n, wY_inState_19 post x1 K op o1 o2 o3 fm dy fa wk nx n 0 0 := by
  refine ss_lp1 36 0 (fun n x x2 => wY_inState_19 post x1 K op o1 o2 o3 fm dy fa wk nx n x2 x) (fun i x2 => x2 = ss_sm (fun c => ss_ST K F S T c = x1) (fun _ => 1) i) ?_ ?_ 0 0 rfl (by omega) rfl
  · intro n x2 hI
    simp only [wY_inState_19, ss_ge, forall_eq, true_and, and_true, true_implies, false_implies, not_true_eq_false, not_false_eq_true, ss_60, ss_360]
    rw [hI]; exact h
  · intro n i x2 _ hi hI ih
    simp only [wY_inState_19, ss_nge hi, forall_eq, true_and, and_true, true_implies, false_implies, not_true_eq_false, not_false_eq_true, ss_60, ss_360]
    refine ss_y_st w hi hf hfa (br_c (fun z => ih _ ?_) (fun z => ih _ ?_))
    · rw [hI]; exact (ss_sm_t (p := fun c => ss_ST K F S T c = x1) (f := fun _ => 1) z).symm
    · rw [hI]; exact (ss_sm_f (p := fun c => ss_ST K F S T c = x1) (f := fun _ => 1) z).symm
theorem ss_y_to {post : Int32 → SY → Prop} {a b : Nat} {x : Int32} (ha : a < 36) (hb : b < 36) (e1 : x / 36 = nI a) (e2 : x - x / 36 * 36 = nI b) (h : post (ss_sm (fun d => ss_ins d a b) wk 36) (K, op, o1, o2, o3, fm, dy, fa, wk, nx)) : ∃ n, wY_total_18 post x K op o1 o2 o3 fm dy fa wk nx n 0 0 := by
  refine ss_lp1 36 0 (fun n i x2 => wY_total_18 post x K op o1 o2 o3 fm dy fa wk nx n x2 i) (fun i x2 => x2 = ss_sm (fun d => ss_ins d a b) wk i) ?_ ?_ 0 0 rfl (by omega) rfl
  · intro n x2 hI
    simp only [wY_total_18, ss_ge, forall_eq, true_and, and_true, true_implies, false_implies, not_true_eq_false, not_false_eq_true, ss_60, ss_360]
    rw [hI]; exact h
  · intro n i x2 _ hi hI ih
    simp only [wY_total_18, ss_nge hi, ss_in hi, ss_cl hi, forall_eq, true_and, and_true, true_implies, false_implies, not_true_eq_false, not_false_eq_true, ss_60, ss_360]
    rw [e2, e1]
    refine ss_yins hi ha hb (fun q => br_f (by decide) (ih _ ?_)) (fun q => br_t rfl (ih _ ?_))
    · rw [hI]; exact (ss_sm_t (p := fun d => ss_ins d a b) (f := wk) q).symm
    · rw [hI]; exact (ss_sm_f (p := fun d => ss_ins d a b) (f := wk) q).symm
end
theorem i_vc_readers {k : Nat} {u : SX} {v : SY} (I : i_Rel k u v) (hk : k + 5 ≤ 2560) (v1 : Int32) : wpX_readers (fun r => wpY_readers (fun r' v' => r' = r ∧ i_Rel (k + 5) u v') v v1) u v1 := by
  refine ss_Re (P := fun u v => wpX_readers (fun r => wpY_readers (fun r' v' => r' = r ∧ i_Rel (k + 5) u v') v v1) u v1) ?_ I
  intro fr K F S T ow sh sb bl di cl st va de op o1 o2 o3 fm dy fa wk nx g y
  unfold wpX_readers
  rcases ss_cell v1 with hn | ⟨j, hj, rfl⟩
  · refine ss_xc0 hn (br_t rfl ?_)
    unfold wpY_readers
    exact ss_yb1 hn (br_f (by decide) ⟨rfl, ss_Ri g y⟩)
  · refine ss_xc1 hj (br_f (by decide) (ss_x_re hj g.2.2.2.1 fun x hx => ?_))
    unfold wpY_readers
    refine ss_yb0 hj (br_t rfl (ss_y_tr g.1 y fun fm' dy' fa' f1 f2 f3 => ?_))
    dsimp only
    exact ss_y_re hj f3 fun x' hx' => ⟨ss_WD_eq hx' hx, ss_Ri g y⟩
theorem i_vc_inState {k : Nat} {u : SX} {v : SY} (I : i_Rel k u v) (hk : k + 5 ≤ 2560) (v1 : Int32) : wpX_inState (fun r => wpY_inState (fun r' v' => r' = r ∧ i_Rel (k + 5) u v') v v1) u v1 := by
  refine ss_Re (P := fun u v => wpX_inState (fun r => wpY_inState (fun r' v' => r' = r ∧ i_Rel (k + 5) u v') v v1) u v1) ?_ I
  intro fr K F S T ow sh sb bl di cl st va de op o1 o2 o3 fm dy fa wk nx g y
  unfold wpX_inState
  refine br_c (fun c1 => ?_) (fun c1 => br_c (fun c2 => ?_) (fun c2 => ?_))
  · unfold wpY_inState
    exact br_t c1 ⟨rfl, ss_Ri g y⟩
  · refine ss_x_is g.2.2.2.2.1 ?_
    unfold wpY_inState
    refine br_f c1 (br_t c2 (ss_y_tr g.1 y fun fm' dy' fa' f1 f2 f3 => ?_))
    dsimp only
    exact ss_y_is g.1 f1 f3 ⟨rfl, ss_Ri g y⟩
  · unfold wpY_inState
    exact br_f c1 (br_f c2 ⟨rfl, ss_Ri g y⟩)
theorem i_vc_depth {k : Nat} {u : SX} {v : SY} (I : i_Rel k u v) (hk : k + 5 ≤ 2560) (v1 : Int32) : wpX_depth (fun r u' => wpY_depth (fun r' v' => r' = r ∧ i_Rel (k + 5) u' v') v v1) u v1 := by
  refine ss_Re (P := fun u v => wpX_depth (fun r u' => wpY_depth (fun r' v' => r' = r ∧ i_Rel (k + 5) u' v') v v1) u v1) ?_ I
  intro fr K F S T ow sh sb bl di cl st va de op o1 o2 o3 fm dy fa wk nx g y
  unfold wpX_depth
  rcases ss_cell v1 with hn | ⟨j, hj, rfl⟩
  · refine ss_xc0 hn (br_t rfl ?_)
    unfold wpY_depth
    exact ss_yb1 hn (br_f (by decide) ⟨rfl, ss_Ri g y⟩)
  · refine ss_xc1 hj (br_f (by decide) ⟨ss_in hj, ?_⟩)
    rw [ss_cl hj, g.2.2.2.2.1 j hj]
    refine br_c (fun c2 => ?_) (fun c2 => ⟨ss_in hj, nm_e ?_⟩)
    · unfold wpY_depth
      refine ss_yb0 hj (br_t rfl (ss_y_tr g.1 y fun fm' dy' fa' f1 f2 f3 => ?_))
      dsimp only
      exact ss_y_st g.1 hj f1 f3 (br_t c2 ⟨rfl, ss_Ri g y⟩)
    · have ha : ss_ac (ss_DD K F S T) j := Classical.byContradiction fun z => c2 ((ss_ST2 j).mpr z)
      refine ss_x_dp hj g.2.2.1 (g.2.2.2.1 j hj) ha fun de' => ?_
      unfold wpY_depth
      refine ss_yb0 hj (br_t rfl (ss_y_tr g.1 y fun fm' dy' fa' f1 f2 f3 => ?_))
      dsimp only
      exact ss_y_st g.1 hj f1 f3 (br_f c2 (ss_y_dp hj f2 f3 ha fun wk' => ⟨rfl, ss_Ri g y⟩))
theorem i_vc_total {k : Nat} {u : SX} {v : SY} (I : i_Rel k u v) (hk : k + 5 ≤ 2560) (v1 : Int32) : wpX_total (fun r => wpY_total (fun r' v' => r' = r ∧ i_Rel (k + 5) u v') v v1) u v1 := by
  refine ss_Re (P := fun u v => wpX_total (fun r => wpY_total (fun r' v' => r' = r ∧ i_Rel (k + 5) u v') v v1) u v1) ?_ I
  intro fr K F S T ow sh sb bl di cl st va de op o1 o2 o3 fm dy fa wk nx g y
  unfold wpX_total
  rcases ss_rect v1 with ⟨r1, r2⟩ | ⟨a, b, ha, hb, hr, e1, e2, r1, r2⟩
  · refine r1 _ (br_t rfl ?_)
    unfold wpY_total
    exact r2 _ _ (br_f (by decide) ⟨rfl, ss_Ri g y⟩)
  · refine r1 _ (br_f (by decide) ⟨ss_360, ss_360, ?_⟩)
    have main : wpX_totalOf (fun r => wpY_total (fun r' v' => r' = r ∧ i_Rel (k + 5) (fr, K, F, S, T, ow, sh, sb, bl, di, cl, st, va, de) v') (K, op, o1, o2, o3, fm, dy, fa, wk, nx) v1) (fr, K, F, S, T, ow, sh, sb, bl, di, cl, st, va, de) (nI a) (nI b) := by
      refine ss_x_to ha hb hr ?_
      unfold wpY_total
      refine r2 _ _ (br_t rfl (ss_y_va g.1 y g.2.2.2.2.2 fun fm' dy' fa' wk' nx' f1 => ?_))
      dsimp only
      exact ss_y_to ha hb e1 e2 ⟨ss_sm_cg 36 fun i hi _ => f1 i hi, ss_Ri g y⟩
    rw [← e1, ← e2] at main
    exact main
end
